/-! WarByHours$Slot -/
set_option maxRecDepth 100000
def RX1 : String := "WarByHours$Slot"
def TX1 : u_T := fun k => match k with
  | _ => ("WarByHours$Slot", "held", "Ljava/lang/Object;", false)
def tyX1 : Nat → FieldType := fun k => match k with
  | _ => .object "java/lang/Object"
abbrev wsX10 : List Cond := u_ws RX1 TX1 1
theorem nmX1 : ∀ a, a < 1 → ∀ b, b < 1 → a ≠ b → (TX1 a).2.1 ≠ (TX1 b).2.1 := by decide +kernel
theorem tyX1_ok : ∀ k, k < 1 → parseFieldDescriptor (TX1 k).2.2.1 = some (tyX1 k) := by decide +kernel
abbrev cX1_begins : ByteArray := prog_14_method_2_code
def yX1_begins : MethodName := ⟨RX1, "begins", "(II)Z"⟩
def dkwX1_begins_3 : List UInt8 := [181, 0, 9, 167, 0, 10, 42, 28, 188, 11, 181, 0, 9, 167, 0, 6, 78, 3, 172, 4, 172]
abbrev dktX1_begins_3 : List UInt8 := dkwX1_begins_3 ++ []
def dkwX1_begins_2 : List UInt8 := [42, 28, 188, 8, 181, 0, 9, 167, 0, 30, 42, 28, 188, 9, 181, 0, 9, 167, 0, 20, 42, 28, 188, 10]
abbrev dktX1_begins_2 : List UInt8 := dkwX1_begins_2 ++ dktX1_begins_3
def dkwX1_begins_1 : List UInt8 := [170, 0, 0, 0, 0, 0, 57, 0, 0, 0, 0, 0, 0, 0, 2, 0, 0, 0, 27, 0, 0, 0, 37, 0, 0, 0, 47]
abbrev dktX1_begins_1 : List UInt8 := dkwX1_begins_1 ++ dktX1_begins_2
def dkwX1_begins_0 : List UInt8 := [27]
abbrev dktX1_begins_0 : List UInt8 := dkwX1_begins_0 ++ dktX1_begins_1
theorem dksX1_begins_0 : cX1_begins.data.toList.drop 0 = dktX1_begins_0 := by decide +kernel
theorem dksX1_begins_1 : cX1_begins.data.toList.drop 1 = dktX1_begins_1 := dk_seg dksX1_begins_0 1 rfl rfl
theorem dksX1_begins_2 : cX1_begins.data.toList.drop 28 = dktX1_begins_2 := dk_seg dksX1_begins_1 27 rfl rfl
theorem dksX1_begins_3 : cX1_begins.data.toList.drop 52 = dktX1_begins_3 := dk_seg dksX1_begins_2 24 rfl rfl
theorem dX1_begins_0 : decode cX1_begins 0 = .ok (.iload_n 1, 1) := dk_27 (dk_at dksX1_begins_0 0 rfl rfl)
theorem dX1_begins_1 : decode cX1_begins 1 = .ok (.tableswitch 57 0 2 #[27, 37, 47], 27) := by decide +kernel
theorem dX1_begins_28 : decode cX1_begins 28 = .ok (.aload_n 0, 1) := dk_42 (dk_at dksX1_begins_2 0 rfl rfl)
theorem dX1_begins_29 : decode cX1_begins 29 = .ok (.iload_n 2, 1) := dk_28 (dk_at dksX1_begins_2 1 rfl rfl)
theorem dX1_begins_30 : decode cX1_begins 30 = .ok (.newarray .byte, 2) := dk_188_8 (dk_at dksX1_begins_2 2 rfl rfl)
theorem dX1_begins_32 : decode cX1_begins 32 = .ok (.putfield 9, 3) := dk_181 0 9 (dk_at dksX1_begins_2 4 rfl rfl)
theorem dX1_begins_35 : decode cX1_begins 35 = .ok (.goto 30, 3) := dk_167 0 30 (dk_at dksX1_begins_2 7 rfl rfl)
theorem dX1_begins_38 : decode cX1_begins 38 = .ok (.aload_n 0, 1) := dk_42 (dk_at dksX1_begins_2 10 rfl rfl)
theorem dX1_begins_39 : decode cX1_begins 39 = .ok (.iload_n 2, 1) := dk_28 (dk_at dksX1_begins_2 11 rfl rfl)
theorem dX1_begins_40 : decode cX1_begins 40 = .ok (.newarray .short, 2) := dk_188_9 (dk_at dksX1_begins_2 12 rfl rfl)
theorem dX1_begins_42 : decode cX1_begins 42 = .ok (.putfield 9, 3) := dk_181 0 9 (dk_at dksX1_begins_2 14 rfl rfl)
theorem dX1_begins_45 : decode cX1_begins 45 = .ok (.goto 20, 3) := dk_167 0 20 (dk_at dksX1_begins_2 17 rfl rfl)
theorem dX1_begins_48 : decode cX1_begins 48 = .ok (.aload_n 0, 1) := dk_42 (dk_at dksX1_begins_2 20 rfl rfl)
theorem dX1_begins_49 : decode cX1_begins 49 = .ok (.iload_n 2, 1) := dk_28 (dk_at dksX1_begins_2 21 rfl rfl)
theorem dX1_begins_50 : decode cX1_begins 50 = .ok (.newarray .int, 2) := dk_188_10 (dk_at dksX1_begins_2 22 rfl rfl)
theorem dX1_begins_52 : decode cX1_begins 52 = .ok (.putfield 9, 3) := dk_181 0 9 (dk_at dksX1_begins_3 0 rfl rfl)
theorem dX1_begins_55 : decode cX1_begins 55 = .ok (.goto 10, 3) := dk_167 0 10 (dk_at dksX1_begins_3 3 rfl rfl)
theorem dX1_begins_58 : decode cX1_begins 58 = .ok (.aload_n 0, 1) := dk_42 (dk_at dksX1_begins_3 6 rfl rfl)
theorem dX1_begins_59 : decode cX1_begins 59 = .ok (.iload_n 2, 1) := dk_28 (dk_at dksX1_begins_3 7 rfl rfl)
theorem dX1_begins_60 : decode cX1_begins 60 = .ok (.newarray .long, 2) := dk_188_11 (dk_at dksX1_begins_3 8 rfl rfl)
theorem dX1_begins_62 : decode cX1_begins 62 = .ok (.putfield 9, 3) := dk_181 0 9 (dk_at dksX1_begins_3 10 rfl rfl)
theorem dX1_begins_65 : decode cX1_begins 65 = .ok (.goto 6, 3) := dk_167 0 6 (dk_at dksX1_begins_3 13 rfl rfl)
theorem dX1_begins_68 : decode cX1_begins 68 = .ok (.astore_n 3, 1) := dk_78 (dk_at dksX1_begins_3 16 rfl rfl)
theorem dX1_begins_69 : decode cX1_begins 69 = .ok (.iconst 0, 1) := dk_3 (dk_at dksX1_begins_3 17 rfl rfl)
theorem dX1_begins_70 : decode cX1_begins 70 = .ok (.ireturn, 1) := dk_172 (dk_at dksX1_begins_3 18 rfl rfl)
theorem dX1_begins_71 : decode cX1_begins 71 = .ok (.iconst 1, 1) := dk_4 (dk_at dksX1_begins_3 19 rfl rfl)
theorem dX1_begins_72 : decode cX1_begins 72 = .ok (.ireturn, 1) := dk_172 (dk_at dksX1_begins_3 20 rfl rfl)
abbrev cX1_puts : ByteArray := prog_14_method_5_code
def yX1_puts : MethodName := ⟨RX1, "puts", "(IJ)I"⟩
def dkwX1_puts_0 : List UInt8 := [42, 27, 32, 182, 0, 25, 167, 0, 13, 58, 4, 16, 250, 172, 58, 4, 16, 249, 172, 3, 172]
abbrev dktX1_puts_0 : List UInt8 := dkwX1_puts_0 ++ []
theorem dksX1_puts_0 : cX1_puts.data.toList.drop 0 = dktX1_puts_0 := by decide +kernel
theorem dX1_puts_0 : decode cX1_puts 0 = .ok (.aload_n 0, 1) := dk_42 (dk_at dksX1_puts_0 0 rfl rfl)
theorem dX1_puts_1 : decode cX1_puts 1 = .ok (.iload_n 1, 1) := dk_27 (dk_at dksX1_puts_0 1 rfl rfl)
theorem dX1_puts_2 : decode cX1_puts 2 = .ok (.lload_n 2, 1) := dk_32 (dk_at dksX1_puts_0 2 rfl rfl)
theorem dX1_puts_3 : decode cX1_puts 3 = .ok (.invokevirtual 25, 3) := dk_182 0 25 (dk_at dksX1_puts_0 3 rfl rfl)
theorem dX1_puts_6 : decode cX1_puts 6 = .ok (.goto 13, 3) := dk_167 0 13 (dk_at dksX1_puts_0 6 rfl rfl)
theorem dX1_puts_9 : decode cX1_puts 9 = .ok (.astore 4, 2) := dk_58 4 (dk_at dksX1_puts_0 9 rfl rfl)
theorem dX1_puts_11 : decode cX1_puts 11 = .ok (.bipush (-6), 2) := dk_16 250 (dk_at dksX1_puts_0 11 rfl rfl)
theorem dX1_puts_13 : decode cX1_puts 13 = .ok (.ireturn, 1) := dk_172 (dk_at dksX1_puts_0 13 rfl rfl)
theorem dX1_puts_14 : decode cX1_puts 14 = .ok (.astore 4, 2) := dk_58 4 (dk_at dksX1_puts_0 14 rfl rfl)
theorem dX1_puts_16 : decode cX1_puts 16 = .ok (.bipush (-7), 2) := dk_16 249 (dk_at dksX1_puts_0 16 rfl rfl)
theorem dX1_puts_18 : decode cX1_puts 18 = .ok (.ireturn, 1) := dk_172 (dk_at dksX1_puts_0 18 rfl rfl)
theorem dX1_puts_19 : decode cX1_puts 19 = .ok (.iconst 0, 1) := dk_3 (dk_at dksX1_puts_0 19 rfl rfl)
theorem dX1_puts_20 : decode cX1_puts 20 = .ok (.ireturn, 1) := dk_172 (dk_at dksX1_puts_0 20 rfl rfl)
abbrev cX1_put : ByteArray := prog_14_method_6_code
def yX1_put : MethodName := ⟨RX1, "put", "(IJ)V"⟩
def dkwX1_put_2 : List UInt8 := [25, 4, 27, 32, 136, 147, 86, 167, 0, 9, 42, 27, 32, 182, 0, 33, 177]
abbrev dktX1_put_2 : List UInt8 := dkwX1_put_2 ++ []
def dkwX1_put_1 : List UInt8 := [145, 84, 167, 0, 38, 42, 180, 0, 9, 193, 0, 19, 153, 0, 22, 42, 180, 0, 9, 192, 0, 19, 58, 4]
abbrev dktX1_put_1 : List UInt8 := dkwX1_put_1 ++ dktX1_put_2
def dkwX1_put_0 : List UInt8 := [42, 180, 0, 9, 193, 0, 17, 153, 0, 22, 42, 180, 0, 9, 192, 0, 17, 58, 4, 25, 4, 27, 32, 136]
abbrev dktX1_put_0 : List UInt8 := dkwX1_put_0 ++ dktX1_put_1
theorem dksX1_put_0 : cX1_put.data.toList.drop 0 = dktX1_put_0 := by decide +kernel
theorem dksX1_put_1 : cX1_put.data.toList.drop 24 = dktX1_put_1 := dk_seg dksX1_put_0 24 rfl rfl
theorem dksX1_put_2 : cX1_put.data.toList.drop 48 = dktX1_put_2 := dk_seg dksX1_put_1 24 rfl rfl
theorem dX1_put_0 : decode cX1_put 0 = .ok (.aload_n 0, 1) := dk_42 (dk_at dksX1_put_0 0 rfl rfl)
theorem dX1_put_1 : decode cX1_put 1 = .ok (.getfield 9, 3) := dk_180 0 9 (dk_at dksX1_put_0 1 rfl rfl)
theorem dX1_put_4 : decode cX1_put 4 = .ok (.instanceof 17, 3) := dk_193 0 17 (dk_at dksX1_put_0 4 rfl rfl)
theorem dX1_put_7 : decode cX1_put 7 = .ok (.ifCond .eq 22, 3) := dk_153 0 22 (dk_at dksX1_put_0 7 rfl rfl)
theorem dX1_put_10 : decode cX1_put 10 = .ok (.aload_n 0, 1) := dk_42 (dk_at dksX1_put_0 10 rfl rfl)
theorem dX1_put_11 : decode cX1_put 11 = .ok (.getfield 9, 3) := dk_180 0 9 (dk_at dksX1_put_0 11 rfl rfl)
theorem dX1_put_14 : decode cX1_put 14 = .ok (.checkcast 17, 3) := dk_192 0 17 (dk_at dksX1_put_0 14 rfl rfl)
theorem dX1_put_17 : decode cX1_put 17 = .ok (.astore 4, 2) := dk_58 4 (dk_at dksX1_put_0 17 rfl rfl)
theorem dX1_put_19 : decode cX1_put 19 = .ok (.aload 4, 2) := dk_25 4 (dk_at dksX1_put_0 19 rfl rfl)
theorem dX1_put_21 : decode cX1_put 21 = .ok (.iload_n 1, 1) := dk_27 (dk_at dksX1_put_0 21 rfl rfl)
theorem dX1_put_22 : decode cX1_put 22 = .ok (.lload_n 2, 1) := dk_32 (dk_at dksX1_put_0 22 rfl rfl)
theorem dX1_put_23 : decode cX1_put 23 = .ok (.l2i, 1) := dk_136 (dk_at dksX1_put_0 23 rfl rfl)
theorem dX1_put_24 : decode cX1_put 24 = .ok (.i2b, 1) := dk_145 (dk_at dksX1_put_1 0 rfl rfl)
theorem dX1_put_25 : decode cX1_put 25 = .ok (.bastore, 1) := dk_84 (dk_at dksX1_put_1 1 rfl rfl)
theorem dX1_put_26 : decode cX1_put 26 = .ok (.goto 38, 3) := dk_167 0 38 (dk_at dksX1_put_1 2 rfl rfl)
theorem dX1_put_29 : decode cX1_put 29 = .ok (.aload_n 0, 1) := dk_42 (dk_at dksX1_put_1 5 rfl rfl)
theorem dX1_put_30 : decode cX1_put 30 = .ok (.getfield 9, 3) := dk_180 0 9 (dk_at dksX1_put_1 6 rfl rfl)
theorem dX1_put_33 : decode cX1_put 33 = .ok (.instanceof 19, 3) := dk_193 0 19 (dk_at dksX1_put_1 9 rfl rfl)
theorem dX1_put_36 : decode cX1_put 36 = .ok (.ifCond .eq 22, 3) := dk_153 0 22 (dk_at dksX1_put_1 12 rfl rfl)
theorem dX1_put_39 : decode cX1_put 39 = .ok (.aload_n 0, 1) := dk_42 (dk_at dksX1_put_1 15 rfl rfl)
theorem dX1_put_40 : decode cX1_put 40 = .ok (.getfield 9, 3) := dk_180 0 9 (dk_at dksX1_put_1 16 rfl rfl)
theorem dX1_put_43 : decode cX1_put 43 = .ok (.checkcast 19, 3) := dk_192 0 19 (dk_at dksX1_put_1 19 rfl rfl)
theorem dX1_put_46 : decode cX1_put 46 = .ok (.astore 4, 2) := dk_58 4 (dk_at dksX1_put_1 22 rfl rfl)
theorem dX1_put_48 : decode cX1_put 48 = .ok (.aload 4, 2) := dk_25 4 (dk_at dksX1_put_2 0 rfl rfl)
theorem dX1_put_50 : decode cX1_put 50 = .ok (.iload_n 1, 1) := dk_27 (dk_at dksX1_put_2 2 rfl rfl)
theorem dX1_put_51 : decode cX1_put 51 = .ok (.lload_n 2, 1) := dk_32 (dk_at dksX1_put_2 3 rfl rfl)
theorem dX1_put_52 : decode cX1_put 52 = .ok (.l2i, 1) := dk_136 (dk_at dksX1_put_2 4 rfl rfl)
theorem dX1_put_53 : decode cX1_put 53 = .ok (.i2s, 1) := dk_147 (dk_at dksX1_put_2 5 rfl rfl)
theorem dX1_put_54 : decode cX1_put 54 = .ok (.sastore, 1) := dk_86 (dk_at dksX1_put_2 6 rfl rfl)
theorem dX1_put_55 : decode cX1_put 55 = .ok (.goto 9, 3) := dk_167 0 9 (dk_at dksX1_put_2 7 rfl rfl)
theorem dX1_put_58 : decode cX1_put 58 = .ok (.aload_n 0, 1) := dk_42 (dk_at dksX1_put_2 10 rfl rfl)
theorem dX1_put_59 : decode cX1_put 59 = .ok (.iload_n 1, 1) := dk_27 (dk_at dksX1_put_2 11 rfl rfl)
theorem dX1_put_60 : decode cX1_put 60 = .ok (.lload_n 2, 1) := dk_32 (dk_at dksX1_put_2 12 rfl rfl)
theorem dX1_put_61 : decode cX1_put 61 = .ok (.invokevirtual 33, 3) := dk_182 0 33 (dk_at dksX1_put_2 13 rfl rfl)
theorem dX1_put_64 : decode cX1_put 64 = .ok (.return_, 1) := dk_177 (dk_at dksX1_put_2 16 rfl rfl)
abbrev cX1_putWider : ByteArray := prog_14_method_7_code
def yX1_putWider : MethodName := ⟨RX1, "putWider", "(IJ)V"⟩
def dkwX1_putWider_1 : List UInt8 := [192, 0, 23, 58, 5, 25, 5, 27, 32, 80, 177]
abbrev dktX1_putWider_1 : List UInt8 := dkwX1_putWider_1 ++ []
def dkwX1_putWider_0 : List UInt8 := [42, 180, 0, 9, 192, 0, 21, 58, 4, 25, 4, 27, 32, 136, 79, 167, 0, 19, 58, 4, 42, 180, 0, 9]
abbrev dktX1_putWider_0 : List UInt8 := dkwX1_putWider_0 ++ dktX1_putWider_1
theorem dksX1_putWider_0 : cX1_putWider.data.toList.drop 0 = dktX1_putWider_0 := by decide +kernel
theorem dksX1_putWider_1 : cX1_putWider.data.toList.drop 24 = dktX1_putWider_1 := dk_seg dksX1_putWider_0 24 rfl rfl
theorem dX1_putWider_0 : decode cX1_putWider 0 = .ok (.aload_n 0, 1) := dk_42 (dk_at dksX1_putWider_0 0 rfl rfl)
theorem dX1_putWider_1 : decode cX1_putWider 1 = .ok (.getfield 9, 3) := dk_180 0 9 (dk_at dksX1_putWider_0 1 rfl rfl)
theorem dX1_putWider_4 : decode cX1_putWider 4 = .ok (.checkcast 21, 3) := dk_192 0 21 (dk_at dksX1_putWider_0 4 rfl rfl)
theorem dX1_putWider_7 : decode cX1_putWider 7 = .ok (.astore 4, 2) := dk_58 4 (dk_at dksX1_putWider_0 7 rfl rfl)
theorem dX1_putWider_9 : decode cX1_putWider 9 = .ok (.aload 4, 2) := dk_25 4 (dk_at dksX1_putWider_0 9 rfl rfl)
theorem dX1_putWider_11 : decode cX1_putWider 11 = .ok (.iload_n 1, 1) := dk_27 (dk_at dksX1_putWider_0 11 rfl rfl)
theorem dX1_putWider_12 : decode cX1_putWider 12 = .ok (.lload_n 2, 1) := dk_32 (dk_at dksX1_putWider_0 12 rfl rfl)
theorem dX1_putWider_13 : decode cX1_putWider 13 = .ok (.l2i, 1) := dk_136 (dk_at dksX1_putWider_0 13 rfl rfl)
theorem dX1_putWider_14 : decode cX1_putWider 14 = .ok (.iastore, 1) := dk_79 (dk_at dksX1_putWider_0 14 rfl rfl)
theorem dX1_putWider_15 : decode cX1_putWider 15 = .ok (.goto 19, 3) := dk_167 0 19 (dk_at dksX1_putWider_0 15 rfl rfl)
theorem dX1_putWider_18 : decode cX1_putWider 18 = .ok (.astore 4, 2) := dk_58 4 (dk_at dksX1_putWider_0 18 rfl rfl)
theorem dX1_putWider_20 : decode cX1_putWider 20 = .ok (.aload_n 0, 1) := dk_42 (dk_at dksX1_putWider_0 20 rfl rfl)
theorem dX1_putWider_21 : decode cX1_putWider 21 = .ok (.getfield 9, 3) := dk_180 0 9 (dk_at dksX1_putWider_0 21 rfl rfl)
theorem dX1_putWider_24 : decode cX1_putWider 24 = .ok (.checkcast 23, 3) := dk_192 0 23 (dk_at dksX1_putWider_1 0 rfl rfl)
theorem dX1_putWider_27 : decode cX1_putWider 27 = .ok (.astore 5, 2) := dk_58 5 (dk_at dksX1_putWider_1 3 rfl rfl)
theorem dX1_putWider_29 : decode cX1_putWider 29 = .ok (.aload 5, 2) := dk_25 5 (dk_at dksX1_putWider_1 5 rfl rfl)
theorem dX1_putWider_31 : decode cX1_putWider 31 = .ok (.iload_n 1, 1) := dk_27 (dk_at dksX1_putWider_1 7 rfl rfl)
theorem dX1_putWider_32 : decode cX1_putWider 32 = .ok (.lload_n 2, 1) := dk_32 (dk_at dksX1_putWider_1 8 rfl rfl)
theorem dX1_putWider_33 : decode cX1_putWider 33 = .ok (.lastore, 1) := dk_80 (dk_at dksX1_putWider_1 9 rfl rfl)
theorem dX1_putWider_34 : decode cX1_putWider 34 = .ok (.return_, 1) := dk_177 (dk_at dksX1_putWider_1 10 rfl rfl)
abbrev cX1_pastes : ByteArray := prog_14_method_9_code
def yX1_pastes : MethodName := ⟨RX1, "pastes", "(ILWarByHours$Slot;II)I"⟩
def dkwX1_pastes_2 : List UInt8 := [167, 0, 8, 58, 5, 16, 249, 172, 3, 172]
abbrev dktX1_pastes_2 : List UInt8 := dkwX1_pastes_2 ++ []
def dkwX1_pastes_1 : List UInt8 := [182, 0, 38, 159, 0, 6, 16, 248, 172, 42, 180, 0, 9, 27, 44, 180, 0, 9, 29, 21, 4, 184, 0, 42]
abbrev dktX1_pastes_1 : List UInt8 := dkwX1_pastes_1 ++ dktX1_pastes_2
def dkwX1_pastes_0 : List UInt8 := [42, 180, 0, 9, 198, 0, 10, 44, 180, 0, 9, 199, 0, 6, 16, 250, 172, 42, 182, 0, 38, 44]
abbrev dktX1_pastes_0 : List UInt8 := dkwX1_pastes_0 ++ dktX1_pastes_1
theorem dksX1_pastes_0 : cX1_pastes.data.toList.drop 0 = dktX1_pastes_0 := by decide +kernel
theorem dksX1_pastes_1 : cX1_pastes.data.toList.drop 22 = dktX1_pastes_1 := dk_seg dksX1_pastes_0 22 rfl rfl
theorem dksX1_pastes_2 : cX1_pastes.data.toList.drop 46 = dktX1_pastes_2 := dk_seg dksX1_pastes_1 24 rfl rfl
theorem dX1_pastes_0 : decode cX1_pastes 0 = .ok (.aload_n 0, 1) := dk_42 (dk_at dksX1_pastes_0 0 rfl rfl)
theorem dX1_pastes_1 : decode cX1_pastes 1 = .ok (.getfield 9, 3) := dk_180 0 9 (dk_at dksX1_pastes_0 1 rfl rfl)
theorem dX1_pastes_4 : decode cX1_pastes 4 = .ok (.ifnull 10, 3) := dk_198 0 10 (dk_at dksX1_pastes_0 4 rfl rfl)
theorem dX1_pastes_7 : decode cX1_pastes 7 = .ok (.aload_n 2, 1) := dk_44 (dk_at dksX1_pastes_0 7 rfl rfl)
theorem dX1_pastes_8 : decode cX1_pastes 8 = .ok (.getfield 9, 3) := dk_180 0 9 (dk_at dksX1_pastes_0 8 rfl rfl)
theorem dX1_pastes_11 : decode cX1_pastes 11 = .ok (.ifnonnull 6, 3) := dk_199 0 6 (dk_at dksX1_pastes_0 11 rfl rfl)
theorem dX1_pastes_14 : decode cX1_pastes 14 = .ok (.bipush (-6), 2) := dk_16 250 (dk_at dksX1_pastes_0 14 rfl rfl)
theorem dX1_pastes_16 : decode cX1_pastes 16 = .ok (.ireturn, 1) := dk_172 (dk_at dksX1_pastes_0 16 rfl rfl)
theorem dX1_pastes_17 : decode cX1_pastes 17 = .ok (.aload_n 0, 1) := dk_42 (dk_at dksX1_pastes_0 17 rfl rfl)
theorem dX1_pastes_18 : decode cX1_pastes 18 = .ok (.invokevirtual 38, 3) := dk_182 0 38 (dk_at dksX1_pastes_0 18 rfl rfl)
theorem dX1_pastes_21 : decode cX1_pastes 21 = .ok (.aload_n 2, 1) := dk_44 (dk_at dksX1_pastes_0 21 rfl rfl)
theorem dX1_pastes_22 : decode cX1_pastes 22 = .ok (.invokevirtual 38, 3) := dk_182 0 38 (dk_at dksX1_pastes_1 0 rfl rfl)
theorem dX1_pastes_25 : decode cX1_pastes 25 = .ok (.if_icmp .eq 6, 3) := dk_159 0 6 (dk_at dksX1_pastes_1 3 rfl rfl)
theorem dX1_pastes_28 : decode cX1_pastes 28 = .ok (.bipush (-8), 2) := dk_16 248 (dk_at dksX1_pastes_1 6 rfl rfl)
theorem dX1_pastes_30 : decode cX1_pastes 30 = .ok (.ireturn, 1) := dk_172 (dk_at dksX1_pastes_1 8 rfl rfl)
theorem dX1_pastes_31 : decode cX1_pastes 31 = .ok (.aload_n 0, 1) := dk_42 (dk_at dksX1_pastes_1 9 rfl rfl)
theorem dX1_pastes_32 : decode cX1_pastes 32 = .ok (.getfield 9, 3) := dk_180 0 9 (dk_at dksX1_pastes_1 10 rfl rfl)
theorem dX1_pastes_35 : decode cX1_pastes 35 = .ok (.iload_n 1, 1) := dk_27 (dk_at dksX1_pastes_1 13 rfl rfl)
theorem dX1_pastes_36 : decode cX1_pastes 36 = .ok (.aload_n 2, 1) := dk_44 (dk_at dksX1_pastes_1 14 rfl rfl)
theorem dX1_pastes_37 : decode cX1_pastes 37 = .ok (.getfield 9, 3) := dk_180 0 9 (dk_at dksX1_pastes_1 15 rfl rfl)
theorem dX1_pastes_40 : decode cX1_pastes 40 = .ok (.iload_n 3, 1) := dk_29 (dk_at dksX1_pastes_1 18 rfl rfl)
theorem dX1_pastes_41 : decode cX1_pastes 41 = .ok (.iload 4, 2) := dk_21 4 (dk_at dksX1_pastes_1 19 rfl rfl)
theorem dX1_pastes_43 : decode cX1_pastes 43 = .ok (.invokestatic 42, 3) := dk_184 0 42 (dk_at dksX1_pastes_1 21 rfl rfl)
theorem dX1_pastes_46 : decode cX1_pastes 46 = .ok (.goto 8, 3) := dk_167 0 8 (dk_at dksX1_pastes_2 0 rfl rfl)
theorem dX1_pastes_49 : decode cX1_pastes 49 = .ok (.astore 5, 2) := dk_58 5 (dk_at dksX1_pastes_2 3 rfl rfl)
theorem dX1_pastes_51 : decode cX1_pastes 51 = .ok (.bipush (-7), 2) := dk_16 249 (dk_at dksX1_pastes_2 5 rfl rfl)
theorem dX1_pastes_53 : decode cX1_pastes 53 = .ok (.ireturn, 1) := dk_172 (dk_at dksX1_pastes_2 7 rfl rfl)
theorem dX1_pastes_54 : decode cX1_pastes 54 = .ok (.iconst 0, 1) := dk_3 (dk_at dksX1_pastes_2 8 rfl rfl)
theorem dX1_pastes_55 : decode cX1_pastes 55 = .ok (.ireturn, 1) := dk_172 (dk_at dksX1_pastes_2 9 rfl rfl)
abbrev cX1_width : ByteArray := prog_14_method_8_code
def yX1_width : MethodName := ⟨RX1, "width", "()I"⟩
def dkwX1_width_1 : List UInt8 := [4, 167, 0, 18, 42, 180, 0, 9, 193, 0, 21, 153, 0, 7, 5, 167, 0, 4, 6, 172]
abbrev dktX1_width_1 : List UInt8 := dkwX1_width_1 ++ []
def dkwX1_width_0 : List UInt8 := [42, 180, 0, 9, 193, 0, 17, 153, 0, 7, 3, 167, 0, 32, 42, 180, 0, 9, 193, 0, 19, 153, 0, 7]
abbrev dktX1_width_0 : List UInt8 := dkwX1_width_0 ++ dktX1_width_1
theorem dksX1_width_0 : cX1_width.data.toList.drop 0 = dktX1_width_0 := by decide +kernel
theorem dksX1_width_1 : cX1_width.data.toList.drop 24 = dktX1_width_1 := dk_seg dksX1_width_0 24 rfl rfl
theorem dX1_width_0 : decode cX1_width 0 = .ok (.aload_n 0, 1) := dk_42 (dk_at dksX1_width_0 0 rfl rfl)
theorem dX1_width_1 : decode cX1_width 1 = .ok (.getfield 9, 3) := dk_180 0 9 (dk_at dksX1_width_0 1 rfl rfl)
theorem dX1_width_4 : decode cX1_width 4 = .ok (.instanceof 17, 3) := dk_193 0 17 (dk_at dksX1_width_0 4 rfl rfl)
theorem dX1_width_7 : decode cX1_width 7 = .ok (.ifCond .eq 7, 3) := dk_153 0 7 (dk_at dksX1_width_0 7 rfl rfl)
theorem dX1_width_10 : decode cX1_width 10 = .ok (.iconst 0, 1) := dk_3 (dk_at dksX1_width_0 10 rfl rfl)
theorem dX1_width_11 : decode cX1_width 11 = .ok (.goto 32, 3) := dk_167 0 32 (dk_at dksX1_width_0 11 rfl rfl)
theorem dX1_width_14 : decode cX1_width 14 = .ok (.aload_n 0, 1) := dk_42 (dk_at dksX1_width_0 14 rfl rfl)
theorem dX1_width_15 : decode cX1_width 15 = .ok (.getfield 9, 3) := dk_180 0 9 (dk_at dksX1_width_0 15 rfl rfl)
theorem dX1_width_18 : decode cX1_width 18 = .ok (.instanceof 19, 3) := dk_193 0 19 (dk_at dksX1_width_0 18 rfl rfl)
theorem dX1_width_21 : decode cX1_width 21 = .ok (.ifCond .eq 7, 3) := dk_153 0 7 (dk_at dksX1_width_0 21 rfl rfl)
theorem dX1_width_24 : decode cX1_width 24 = .ok (.iconst 1, 1) := dk_4 (dk_at dksX1_width_1 0 rfl rfl)
theorem dX1_width_25 : decode cX1_width 25 = .ok (.goto 18, 3) := dk_167 0 18 (dk_at dksX1_width_1 1 rfl rfl)
theorem dX1_width_28 : decode cX1_width 28 = .ok (.aload_n 0, 1) := dk_42 (dk_at dksX1_width_1 4 rfl rfl)
theorem dX1_width_29 : decode cX1_width 29 = .ok (.getfield 9, 3) := dk_180 0 9 (dk_at dksX1_width_1 5 rfl rfl)
theorem dX1_width_32 : decode cX1_width 32 = .ok (.instanceof 21, 3) := dk_193 0 21 (dk_at dksX1_width_1 8 rfl rfl)
theorem dX1_width_35 : decode cX1_width 35 = .ok (.ifCond .eq 7, 3) := dk_153 0 7 (dk_at dksX1_width_1 11 rfl rfl)
theorem dX1_width_38 : decode cX1_width 38 = .ok (.iconst 2, 1) := dk_5 (dk_at dksX1_width_1 14 rfl rfl)
theorem dX1_width_39 : decode cX1_width 39 = .ok (.goto 4, 3) := dk_167 0 4 (dk_at dksX1_width_1 15 rfl rfl)
theorem dX1_width_42 : decode cX1_width 42 = .ok (.iconst 3, 1) := dk_6 (dk_at dksX1_width_1 18 rfl rfl)
theorem dX1_width_43 : decode cX1_width 43 = .ok (.ireturn, 1) := dk_172 (dk_at dksX1_width_1 19 rfl rfl)
abbrev cX1_init : ByteArray := prog_14_method_1_code
def yX1_init : MethodName := ⟨RX1, "<init>", "()V"⟩
theorem dX1_init_0 : decode cX1_init 0 = .ok (.aload_n 0, 1) := by decide +kernel
theorem dX1_init_1 : decode cX1_init 1 = .ok (.invokespecial 3, 3) := by decide +kernel
theorem dX1_init_4 : decode cX1_init 4 = .ok (.return_, 1) := by decide +kernel
theorem q135 : (Jvm.Cond.initialized "WarByHours$Slot") ∈ lw_all := lw_g (lw_at lw_m1 2 rfl) rfl
theorem q188 : (Jvm.Cond.instanceMethod ({ cls := "WarByHours$Slot", name := "begins", desc := "(II)Z" } : Jvm.MethodName)) ∈ lw_all := lw_g (lw_at lw_m1 55 rfl) rfl
theorem q189 : (Jvm.Cond.selects "WarByHours$Slot" ({ cls := "WarByHours$Slot", name := "begins", desc := "(II)Z" } : Jvm.MethodName) ({ cls := "WarByHours$Slot", name := "begins", desc := "(II)Z" } : Jvm.MethodName)) ∈ lw_all := lw_g (lw_at lw_m1 56 rfl) rfl
theorem q190 : (Jvm.Cond.codeWith ({ cls := "WarByHours$Slot", name := "begins", desc := "(II)Z" } : Jvm.MethodName) prog_14_method_2_code (4 : Nat) (Option.some Jvm.ClassFile.FieldType.boolean) [((0 : Nat), (65 : Nat), (68 : Nat), (15 : Nat))]) ∈ lw_all := lw_g (lw_at lw_m1 57 rfl) rfl
theorem q191 : (Jvm.Cond.classLink "WarByHours$Slot" (15 : Nat) "java/lang/NegativeArraySizeException") ∈ lw_all := lw_g (lw_at lw_m1 58 rfl) rfl
theorem q287 : (Jvm.Cond.instanceMethod ({ cls := "WarByHours$Slot", name := "puts", desc := "(IJ)I" } : Jvm.MethodName)) ∈ lw_all := lw_g (lw_at lw_m1 154 rfl) rfl
theorem q288 : (Jvm.Cond.selects "WarByHours$Slot" ({ cls := "WarByHours$Slot", name := "puts", desc := "(IJ)I" } : Jvm.MethodName) ({ cls := "WarByHours$Slot", name := "puts", desc := "(IJ)I" } : Jvm.MethodName)) ∈ lw_all := lw_g (lw_at lw_m1 155 rfl) rfl
theorem q289 : (Jvm.Cond.codeWith ({ cls := "WarByHours$Slot", name := "puts", desc := "(IJ)I" } : Jvm.MethodName) prog_14_method_5_code (5 : Nat) (Option.some Jvm.ClassFile.FieldType.int) [((0 : Nat), (6 : Nat), (9 : Nat), (29 : Nat)), ((0 : Nat), (6 : Nat), (14 : Nat), (31 : Nat))]) ∈ lw_all := lw_g (lw_at lw_m1 156 rfl) rfl
theorem q290 : (Jvm.Cond.classLink "WarByHours$Slot" (29 : Nat) "java/lang/NullPointerException") ∈ lw_all := lw_g (lw_at lw_m1 157 rfl) rfl
theorem q315 : (Jvm.Cond.classLink "WarByHours$Slot" (31 : Nat) "java/lang/ArrayIndexOutOfBoundsException") ∈ lw_all := lw_g (lw_at lw_m1 182 rfl) rfl
theorem q334 : (Jvm.Cond.methodLink "WarByHours$Slot" (25 : Nat) ({ cls := "WarByHours$Slot", name := "put", desc := "(IJ)V" } : Jvm.MethodName)) ∈ lw_all := lw_g (lw_at lw_m1 201 rfl) rfl
theorem q335 : (Jvm.Cond.privateMethod ({ cls := "WarByHours$Slot", name := "put", desc := "(IJ)V" } : Jvm.MethodName)) ∈ lw_tbl := lw_at lw_m1 202 rfl
theorem q336 : (Jvm.Cond.instanceMethod ({ cls := "WarByHours$Slot", name := "put", desc := "(IJ)V" } : Jvm.MethodName)) ∈ lw_all := lw_g (lw_at lw_m1 203 rfl) rfl
theorem q337 : (Jvm.Cond.instantiable "WarByHours$Slot" (1 : Nat)) ∈ lw_all := lw_g (lw_at lw_m1 204 rfl) rfl
theorem q338 : (Jvm.Cond.code ({ cls := "WarByHours$Slot", name := "put", desc := "(IJ)V" } : Jvm.MethodName) prog_14_method_6_code (5 : Nat) (Option.none : Option Jvm.ClassFile.FieldType)) ∈ lw_all := lw_g (lw_at lw_m1 205 rfl) rfl
theorem q339 : (Jvm.Cond.classLink "WarByHours$Slot" (17 : Nat) "[B") ∈ lw_all := lw_g (lw_at lw_m1 206 rfl) rfl
theorem q340 : (Jvm.Cond.classLink "WarByHours$Slot" (19 : Nat) "[S") ∈ lw_all := lw_g (lw_at lw_m1 207 rfl) rfl
theorem q341 : (Jvm.Cond.methodLink "WarByHours$Slot" (33 : Nat) ({ cls := "WarByHours$Slot", name := "putWider", desc := "(IJ)V" } : Jvm.MethodName)) ∈ lw_all := lw_g (lw_at lw_m1 208 rfl) rfl
theorem q342 : (Jvm.Cond.privateMethod ({ cls := "WarByHours$Slot", name := "putWider", desc := "(IJ)V" } : Jvm.MethodName)) ∈ lw_tbl := lw_at lw_m1 209 rfl
theorem q343 : (Jvm.Cond.instanceMethod ({ cls := "WarByHours$Slot", name := "putWider", desc := "(IJ)V" } : Jvm.MethodName)) ∈ lw_all := lw_g (lw_at lw_m1 210 rfl) rfl
theorem q344 : (Jvm.Cond.codeWith ({ cls := "WarByHours$Slot", name := "putWider", desc := "(IJ)V" } : Jvm.MethodName) prog_14_method_7_code (6 : Nat) (Option.none : Option Jvm.ClassFile.FieldType) [((0 : Nat), (15 : Nat), (18 : Nat), (36 : Nat))]) ∈ lw_all := lw_g (lw_at lw_m1 211 rfl) rfl
theorem q345 : (Jvm.Cond.classLink "WarByHours$Slot" (36 : Nat) "java/lang/ClassCastException") ∈ lw_all := lw_g (lw_at lw_m1 212 rfl) rfl
theorem q359 : (Jvm.Cond.classLink "WarByHours$Slot" (21 : Nat) "[I") ∈ lw_all := lw_g (lw_at lw_m1 226 rfl) rfl
theorem q360 : (Jvm.Cond.classLink "WarByHours$Slot" (23 : Nat) "[J") ∈ lw_all := lw_g (lw_at lw_m1 227 rfl) rfl
theorem q366 : (Jvm.Cond.instanceMethod ({ cls := "WarByHours$Slot", name := "pastes", desc := "(ILWarByHours$Slot;II)I" } : Jvm.MethodName)) ∈ lw_all := lw_g (lw_at lw_m1 233 rfl) rfl
theorem q367 : (Jvm.Cond.selects "WarByHours$Slot" ({ cls := "WarByHours$Slot", name := "pastes", desc := "(ILWarByHours$Slot;II)I" } : Jvm.MethodName) ({ cls := "WarByHours$Slot", name := "pastes", desc := "(ILWarByHours$Slot;II)I" } : Jvm.MethodName)) ∈ lw_all := lw_g (lw_at lw_m1 234 rfl) rfl
theorem q368 : (Jvm.Cond.codeWith ({ cls := "WarByHours$Slot", name := "pastes", desc := "(ILWarByHours$Slot;II)I" } : Jvm.MethodName) prog_14_method_9_code (6 : Nat) (Option.some Jvm.ClassFile.FieldType.int) [((31 : Nat), (46 : Nat), (49 : Nat), (48 : Nat))]) ∈ lw_all := lw_g (lw_at lw_m1 235 rfl) rfl
theorem q369 : (Jvm.Cond.classLink "WarByHours$Slot" (48 : Nat) "java/lang/IndexOutOfBoundsException") ∈ lw_all := lw_g (lw_at lw_m1 236 rfl) rfl
theorem q370 : (Jvm.Cond.methodLink "WarByHours$Slot" (38 : Nat) ({ cls := "WarByHours$Slot", name := "width", desc := "()I" } : Jvm.MethodName)) ∈ lw_all := lw_g (lw_at lw_m1 237 rfl) rfl
theorem q371 : (Jvm.Cond.privateMethod ({ cls := "WarByHours$Slot", name := "width", desc := "()I" } : Jvm.MethodName)) ∈ lw_tbl := lw_at lw_m1 238 rfl
theorem q372 : (Jvm.Cond.instanceMethod ({ cls := "WarByHours$Slot", name := "width", desc := "()I" } : Jvm.MethodName)) ∈ lw_all := lw_g (lw_at lw_m1 239 rfl) rfl
theorem q373 : (Jvm.Cond.code ({ cls := "WarByHours$Slot", name := "width", desc := "()I" } : Jvm.MethodName) prog_14_method_8_code (1 : Nat) (Option.some Jvm.ClassFile.FieldType.int)) ∈ lw_all := lw_g (lw_at lw_m2 0 rfl) rfl
theorem q374 : (Jvm.Cond.methodLink "WarByHours$Slot" (42 : Nat) ({ cls := "java/lang/System", name := "arraycopy", desc := "(Ljava/lang/Object;ILjava/lang/Object;II)V" } : Jvm.MethodName)) ∈ lw_all := lw_g (lw_at lw_m2 1 rfl) rfl
theorem q386 : (Jvm.Cond.instanceMethod ({ cls := "WarByHours$Slot", name := "<init>", desc := "()V" } : Jvm.MethodName)) ∈ lw_all := lw_g (lw_at lw_m2 13 rfl) rfl
theorem q387 : (Jvm.Cond.code ({ cls := "WarByHours$Slot", name := "<init>", desc := "()V" } : Jvm.MethodName) prog_14_method_1_code (1 : Nat) (Option.none : Option Jvm.ClassFile.FieldType)) ∈ lw_all := lw_g (lw_at lw_m2 14 rfl) rfl
theorem q388 : (Jvm.Cond.methodLink "WarByHours$Slot" (3 : Nat) ({ cls := "java/lang/Object", name := "<init>", desc := "()V" } : Jvm.MethodName)) ∈ lw_all := lw_g (lw_at lw_m2 15 rfl) rfl
theorem q389 : (Jvm.Cond.fieldLink "WarByHours$Slot" (9 : Nat) "WarByHours$Slot" "held" "Ljava/lang/Object;") ∈ lw_all := lw_g (lw_at lw_m2 16 rfl) rfl
theorem q391 : (Jvm.Cond.lays "WarByHours$Slot" "WarByHours$Slot" "held" "Ljava/lang/Object;") ∈ lw_all := lw_g (lw_at lw_m2 18 rfl) rfl
theorem q392 : (Jvm.Cond.soleField "WarByHours$Slot" "held") ∈ lw_all := lw_g (lw_at lw_m2 19 rfl) rfl
theorem q393 : (Jvm.Cond.superclass "WarByHours$Slot" "java/lang/Object") ∈ lw_all := lw_g (lw_at lw_m2 20 rfl) rfl
theorem q970 : (Jvm.Cond.selects "WarByHours$Slot" ({ cls := "java/lang/Object", name := "getClass", desc := "()Ljava/lang/Class;" } : Jvm.MethodName) ({ cls := "java/lang/Object", name := "getClass", desc := "()Ljava/lang/Class;" } : Jvm.MethodName)) ∈ lw_all := lw_g (lw_at lw_m4 117 rfl) rfl
theorem q2585 : (Jvm.Cond.castable "WarByHours$Slot" "java/lang/Object") ∈ lw_tbl := lw_at lw_m11 52 rfl
theorem in_X1 : ∀ w ∈ wsX10, w ∈ lw_all := lw_in wsX10 [391] (by decide +kernel) (by decide +kernel)

/-! WarByHours$Hold -/
set_option maxRecDepth 100000
def RX10 : String := "WarByHours$Hold"
def TX10 : u_T := fun k => match k with
  | 0 => ("WarByHours$Hold", "way", "[I", true)
  | 1 => ("WarByHours$Hold", "reply", "[I", true)
  | 2 => ("WarByHours$Hold", "answer", "[I", true)
  | _ => ("WarByHours$Hold", "value", "I", false)
def tyX10 : Nat → FieldType := fun k => match k with
  | 0 => .array .int
  | 1 => .array .int
  | 2 => .array .int
  | _ => .int
abbrev wsX100 : List Cond := u_ws RX10 TX10 4
theorem nmX10 : ∀ a, a < 4 → ∀ b, b < 4 → a ≠ b → (TX10 a).2.1 ≠ (TX10 b).2.1 := by decide +kernel
theorem tyX10_ok : ∀ k, k < 4 → parseFieldDescriptor (TX10 k).2.2.1 = some (tyX10 k) := by decide +kernel
abbrev cX10_init : ByteArray := prog_9_method_1_code
def yX10_init : MethodName := ⟨RX10, "<init>", "()V"⟩
def dkwX10_init_1 : List UInt8 := [181, 0, 18, 177]
abbrev dktX10_init_1 : List UInt8 := dkwX10_init_1 ++ []
def dkwX10_init_0 : List UInt8 := [42, 183, 0, 3, 42, 6, 188, 10, 181, 0, 9, 42, 6, 188, 10, 181, 0, 15, 42, 6, 188, 10]
abbrev dktX10_init_0 : List UInt8 := dkwX10_init_0 ++ dktX10_init_1
theorem dksX10_init_0 : cX10_init.data.toList.drop 0 = dktX10_init_0 := by decide +kernel
theorem dksX10_init_1 : cX10_init.data.toList.drop 22 = dktX10_init_1 := dk_seg dksX10_init_0 22 rfl rfl
theorem dX10_init_0 : decode cX10_init 0 = .ok (.aload_n 0, 1) := dk_42 (dk_at dksX10_init_0 0 rfl rfl)
theorem dX10_init_1 : decode cX10_init 1 = .ok (.invokespecial 3, 3) := dk_183 0 3 (dk_at dksX10_init_0 1 rfl rfl)
theorem dX10_init_4 : decode cX10_init 4 = .ok (.aload_n 0, 1) := dk_42 (dk_at dksX10_init_0 4 rfl rfl)
theorem dX10_init_5 : decode cX10_init 5 = .ok (.iconst 3, 1) := dk_6 (dk_at dksX10_init_0 5 rfl rfl)
theorem dX10_init_6 : decode cX10_init 6 = .ok (.newarray .int, 2) := dk_188_10 (dk_at dksX10_init_0 6 rfl rfl)
theorem dX10_init_8 : decode cX10_init 8 = .ok (.putfield 9, 3) := dk_181 0 9 (dk_at dksX10_init_0 8 rfl rfl)
theorem dX10_init_11 : decode cX10_init 11 = .ok (.aload_n 0, 1) := dk_42 (dk_at dksX10_init_0 11 rfl rfl)
theorem dX10_init_12 : decode cX10_init 12 = .ok (.iconst 3, 1) := dk_6 (dk_at dksX10_init_0 12 rfl rfl)
theorem dX10_init_13 : decode cX10_init 13 = .ok (.newarray .int, 2) := dk_188_10 (dk_at dksX10_init_0 13 rfl rfl)
theorem dX10_init_15 : decode cX10_init 15 = .ok (.putfield 15, 3) := dk_181 0 15 (dk_at dksX10_init_0 15 rfl rfl)
theorem dX10_init_18 : decode cX10_init 18 = .ok (.aload_n 0, 1) := dk_42 (dk_at dksX10_init_0 18 rfl rfl)
theorem dX10_init_19 : decode cX10_init 19 = .ok (.iconst 3, 1) := dk_6 (dk_at dksX10_init_0 19 rfl rfl)
theorem dX10_init_20 : decode cX10_init 20 = .ok (.newarray .int, 2) := dk_188_10 (dk_at dksX10_init_0 20 rfl rfl)
theorem dX10_init_22 : decode cX10_init 22 = .ok (.putfield 18, 3) := dk_181 0 18 (dk_at dksX10_init_1 0 rfl rfl)
theorem dX10_init_25 : decode cX10_init 25 = .ok (.return_, 1) := dk_177 (dk_at dksX10_init_1 3 rfl rfl)
abbrev cX10_goes : ByteArray := prog_9_method_2_code
def yX10_goes : MethodName := ⟨RX10, "goes", "(II)LWarByHours$Hold;"⟩
def dkwX10_goes_4 : List UInt8 := [132, 3, 1, 167, 255, 167, 42, 176]
abbrev dktX10_goes_4 : List UInt8 := dkwX10_goes_4 ++ []
def dkwX10_goes_3 : List UInt8 := [100, 184, 0, 30, 42, 180, 0, 18, 3, 42, 180, 0, 15, 3, 6, 184, 0, 34, 132, 4, 1, 167, 255, 181]
abbrev dktX10_goes_3 : List UInt8 := dkwX10_goes_3 ++ dktX10_goes_4
def dkwX10_goes_2 : List UInt8 := [163, 0, 6, 167, 0, 39, 42, 21, 5, 181, 0, 22, 42, 180, 0, 9, 29, 21, 4, 27, 29, 100, 21, 4]
abbrev dktX10_goes_2 : List UInt8 := dkwX10_goes_2 ++ dktX10_goes_3
def dkwX10_goes_1 : List UInt8 := [42, 29, 21, 4, 27, 29, 100, 21, 4, 100, 28, 182, 0, 26, 54, 5, 21, 5, 42, 180, 0, 22]
abbrev dktX10_goes_1 : List UInt8 := dkwX10_goes_1 ++ dktX10_goes_2
def dkwX10_goes_0 : List UInt8 := [42, 18, 21, 181, 0, 22, 3, 62, 29, 27, 163, 0, 90, 3, 54, 4, 29, 21, 4, 96, 27, 163, 0, 73]
abbrev dktX10_goes_0 : List UInt8 := dkwX10_goes_0 ++ dktX10_goes_1
theorem dksX10_goes_0 : cX10_goes.data.toList.drop 0 = dktX10_goes_0 := by decide +kernel
theorem dksX10_goes_1 : cX10_goes.data.toList.drop 24 = dktX10_goes_1 := dk_seg dksX10_goes_0 24 rfl rfl
theorem dksX10_goes_2 : cX10_goes.data.toList.drop 46 = dktX10_goes_2 := dk_seg dksX10_goes_1 22 rfl rfl
theorem dksX10_goes_3 : cX10_goes.data.toList.drop 70 = dktX10_goes_3 := dk_seg dksX10_goes_2 24 rfl rfl
theorem dksX10_goes_4 : cX10_goes.data.toList.drop 94 = dktX10_goes_4 := dk_seg dksX10_goes_3 24 rfl rfl
theorem dX10_goes_0 : decode cX10_goes 0 = .ok (.aload_n 0, 1) := dk_42 (dk_at dksX10_goes_0 0 rfl rfl)
theorem dX10_goes_1 : decode cX10_goes 1 = .ok (.ldc 21, 2) := dk_18 21 (dk_at dksX10_goes_0 1 rfl rfl)
theorem dX10_goes_3 : decode cX10_goes 3 = .ok (.putfield 22, 3) := dk_181 0 22 (dk_at dksX10_goes_0 3 rfl rfl)
theorem dX10_goes_6 : decode cX10_goes 6 = .ok (.iconst 0, 1) := dk_3 (dk_at dksX10_goes_0 6 rfl rfl)
theorem dX10_goes_7 : decode cX10_goes 7 = .ok (.istore_n 3, 1) := dk_62 (dk_at dksX10_goes_0 7 rfl rfl)
theorem dX10_goes_8 : decode cX10_goes 8 = .ok (.iload_n 3, 1) := dk_29 (dk_at dksX10_goes_0 8 rfl rfl)
theorem dX10_goes_9 : decode cX10_goes 9 = .ok (.iload_n 1, 1) := dk_27 (dk_at dksX10_goes_0 9 rfl rfl)
theorem dX10_goes_10 : decode cX10_goes 10 = .ok (.if_icmp .gt 90, 3) := dk_163 0 90 (dk_at dksX10_goes_0 10 rfl rfl)
theorem dX10_goes_13 : decode cX10_goes 13 = .ok (.iconst 0, 1) := dk_3 (dk_at dksX10_goes_0 13 rfl rfl)
theorem dX10_goes_14 : decode cX10_goes 14 = .ok (.istore 4, 2) := dk_54 4 (dk_at dksX10_goes_0 14 rfl rfl)
theorem dX10_goes_16 : decode cX10_goes 16 = .ok (.iload_n 3, 1) := dk_29 (dk_at dksX10_goes_0 16 rfl rfl)
theorem dX10_goes_17 : decode cX10_goes 17 = .ok (.iload 4, 2) := dk_21 4 (dk_at dksX10_goes_0 17 rfl rfl)
theorem dX10_goes_19 : decode cX10_goes 19 = .ok (.iadd, 1) := dk_96 (dk_at dksX10_goes_0 19 rfl rfl)
theorem dX10_goes_20 : decode cX10_goes 20 = .ok (.iload_n 1, 1) := dk_27 (dk_at dksX10_goes_0 20 rfl rfl)
theorem dX10_goes_21 : decode cX10_goes 21 = .ok (.if_icmp .gt 73, 3) := dk_163 0 73 (dk_at dksX10_goes_0 21 rfl rfl)
theorem dX10_goes_24 : decode cX10_goes 24 = .ok (.aload_n 0, 1) := dk_42 (dk_at dksX10_goes_1 0 rfl rfl)
theorem dX10_goes_25 : decode cX10_goes 25 = .ok (.iload_n 3, 1) := dk_29 (dk_at dksX10_goes_1 1 rfl rfl)
theorem dX10_goes_26 : decode cX10_goes 26 = .ok (.iload 4, 2) := dk_21 4 (dk_at dksX10_goes_1 2 rfl rfl)
theorem dX10_goes_28 : decode cX10_goes 28 = .ok (.iload_n 1, 1) := dk_27 (dk_at dksX10_goes_1 4 rfl rfl)
theorem dX10_goes_29 : decode cX10_goes 29 = .ok (.iload_n 3, 1) := dk_29 (dk_at dksX10_goes_1 5 rfl rfl)
theorem dX10_goes_30 : decode cX10_goes 30 = .ok (.isub, 1) := dk_100 (dk_at dksX10_goes_1 6 rfl rfl)
theorem dX10_goes_31 : decode cX10_goes 31 = .ok (.iload 4, 2) := dk_21 4 (dk_at dksX10_goes_1 7 rfl rfl)
theorem dX10_goes_33 : decode cX10_goes 33 = .ok (.isub, 1) := dk_100 (dk_at dksX10_goes_1 9 rfl rfl)
theorem dX10_goes_34 : decode cX10_goes 34 = .ok (.iload_n 2, 1) := dk_28 (dk_at dksX10_goes_1 10 rfl rfl)
theorem dX10_goes_35 : decode cX10_goes 35 = .ok (.invokevirtual 26, 3) := dk_182 0 26 (dk_at dksX10_goes_1 11 rfl rfl)
theorem dX10_goes_38 : decode cX10_goes 38 = .ok (.istore 5, 2) := dk_54 5 (dk_at dksX10_goes_1 14 rfl rfl)
theorem dX10_goes_40 : decode cX10_goes 40 = .ok (.iload 5, 2) := dk_21 5 (dk_at dksX10_goes_1 16 rfl rfl)
theorem dX10_goes_42 : decode cX10_goes 42 = .ok (.aload_n 0, 1) := dk_42 (dk_at dksX10_goes_1 18 rfl rfl)
theorem dX10_goes_43 : decode cX10_goes 43 = .ok (.getfield 22, 3) := dk_180 0 22 (dk_at dksX10_goes_1 19 rfl rfl)
theorem dX10_goes_46 : decode cX10_goes 46 = .ok (.if_icmp .gt 6, 3) := dk_163 0 6 (dk_at dksX10_goes_2 0 rfl rfl)
theorem dX10_goes_49 : decode cX10_goes 49 = .ok (.goto 39, 3) := dk_167 0 39 (dk_at dksX10_goes_2 3 rfl rfl)
theorem dX10_goes_52 : decode cX10_goes 52 = .ok (.aload_n 0, 1) := dk_42 (dk_at dksX10_goes_2 6 rfl rfl)
theorem dX10_goes_53 : decode cX10_goes 53 = .ok (.iload 5, 2) := dk_21 5 (dk_at dksX10_goes_2 7 rfl rfl)
theorem dX10_goes_55 : decode cX10_goes 55 = .ok (.putfield 22, 3) := dk_181 0 22 (dk_at dksX10_goes_2 9 rfl rfl)
theorem dX10_goes_58 : decode cX10_goes 58 = .ok (.aload_n 0, 1) := dk_42 (dk_at dksX10_goes_2 12 rfl rfl)
theorem dX10_goes_59 : decode cX10_goes 59 = .ok (.getfield 9, 3) := dk_180 0 9 (dk_at dksX10_goes_2 13 rfl rfl)
theorem dX10_goes_62 : decode cX10_goes 62 = .ok (.iload_n 3, 1) := dk_29 (dk_at dksX10_goes_2 16 rfl rfl)
theorem dX10_goes_63 : decode cX10_goes 63 = .ok (.iload 4, 2) := dk_21 4 (dk_at dksX10_goes_2 17 rfl rfl)
theorem dX10_goes_65 : decode cX10_goes 65 = .ok (.iload_n 1, 1) := dk_27 (dk_at dksX10_goes_2 19 rfl rfl)
theorem dX10_goes_66 : decode cX10_goes 66 = .ok (.iload_n 3, 1) := dk_29 (dk_at dksX10_goes_2 20 rfl rfl)
theorem dX10_goes_67 : decode cX10_goes 67 = .ok (.isub, 1) := dk_100 (dk_at dksX10_goes_2 21 rfl rfl)
theorem dX10_goes_68 : decode cX10_goes 68 = .ok (.iload 4, 2) := dk_21 4 (dk_at dksX10_goes_2 22 rfl rfl)
theorem dX10_goes_70 : decode cX10_goes 70 = .ok (.isub, 1) := dk_100 (dk_at dksX10_goes_3 0 rfl rfl)
theorem dX10_goes_71 : decode cX10_goes 71 = .ok (.invokestatic 30, 3) := dk_184 0 30 (dk_at dksX10_goes_3 1 rfl rfl)
theorem dX10_goes_74 : decode cX10_goes 74 = .ok (.aload_n 0, 1) := dk_42 (dk_at dksX10_goes_3 4 rfl rfl)
theorem dX10_goes_75 : decode cX10_goes 75 = .ok (.getfield 18, 3) := dk_180 0 18 (dk_at dksX10_goes_3 5 rfl rfl)
theorem dX10_goes_78 : decode cX10_goes 78 = .ok (.iconst 0, 1) := dk_3 (dk_at dksX10_goes_3 8 rfl rfl)
theorem dX10_goes_79 : decode cX10_goes 79 = .ok (.aload_n 0, 1) := dk_42 (dk_at dksX10_goes_3 9 rfl rfl)
theorem dX10_goes_80 : decode cX10_goes 80 = .ok (.getfield 15, 3) := dk_180 0 15 (dk_at dksX10_goes_3 10 rfl rfl)
theorem dX10_goes_83 : decode cX10_goes 83 = .ok (.iconst 0, 1) := dk_3 (dk_at dksX10_goes_3 13 rfl rfl)
theorem dX10_goes_84 : decode cX10_goes 84 = .ok (.iconst 3, 1) := dk_6 (dk_at dksX10_goes_3 14 rfl rfl)
theorem dX10_goes_85 : decode cX10_goes 85 = .ok (.invokestatic 34, 3) := dk_184 0 34 (dk_at dksX10_goes_3 15 rfl rfl)
theorem dX10_goes_88 : decode cX10_goes 88 = .ok (.iinc 4 1, 3) := dk_132 4 1 (dk_at dksX10_goes_3 18 rfl rfl)
theorem dX10_goes_91 : decode cX10_goes 91 = .ok (.goto (-75), 3) := dk_167 255 181 (dk_at dksX10_goes_3 21 rfl rfl)
theorem dX10_goes_94 : decode cX10_goes 94 = .ok (.iinc 3 1, 3) := dk_132 3 1 (dk_at dksX10_goes_4 0 rfl rfl)
theorem dX10_goes_97 : decode cX10_goes 97 = .ok (.goto (-89), 3) := dk_167 255 167 (dk_at dksX10_goes_4 3 rfl rfl)
theorem dX10_goes_100 : decode cX10_goes 100 = .ok (.aload_n 0, 1) := dk_42 (dk_at dksX10_goes_4 6 rfl rfl)
theorem dX10_goes_101 : decode cX10_goes 101 = .ok (.areturn, 1) := dk_176 (dk_at dksX10_goes_4 7 rfl rfl)
abbrev cX10_replies : ByteArray := prog_9_method_3_code
def yX10_replies : MethodName := ⟨RX10, "replies", "(IIII)I"⟩
def dkwX10_replies_3 : List UInt8 := [21, 6, 100, 21, 7, 100, 184, 0, 30, 132, 7, 1, 167, 255, 190, 132, 6, 1, 167, 255, 174, 21, 5, 172]
abbrev dktX10_replies_3 : List UInt8 := dkwX10_replies_3 ++ []
def dkwX10_replies_2 : List UInt8 := [21, 8, 21, 5, 161, 0, 6, 167, 0, 26, 21, 8, 54, 5, 42, 180, 0, 18, 21, 6, 21, 7, 21, 4]
abbrev dktX10_replies_2 : List UInt8 := dkwX10_replies_2 ++ dktX10_replies_3
def dkwX10_replies_1 : List UInt8 := [163, 0, 62, 27, 28, 29, 21, 6, 21, 7, 21, 4, 21, 6, 100, 21, 7, 100, 184, 0, 41, 54, 8]
abbrev dktX10_replies_1 : List UInt8 := dkwX10_replies_1 ++ dktX10_replies_2
def dkwX10_replies_0 : List UInt8 := [18, 40, 54, 5, 3, 54, 6, 21, 6, 21, 4, 163, 0, 81, 3, 54, 7, 21, 6, 21, 7, 96, 21, 4]
abbrev dktX10_replies_0 : List UInt8 := dkwX10_replies_0 ++ dktX10_replies_1
theorem dksX10_replies_0 : cX10_replies.data.toList.drop 0 = dktX10_replies_0 := by decide +kernel
theorem dksX10_replies_1 : cX10_replies.data.toList.drop 24 = dktX10_replies_1 := dk_seg dksX10_replies_0 24 rfl rfl
theorem dksX10_replies_2 : cX10_replies.data.toList.drop 47 = dktX10_replies_2 := dk_seg dksX10_replies_1 23 rfl rfl
theorem dksX10_replies_3 : cX10_replies.data.toList.drop 71 = dktX10_replies_3 := dk_seg dksX10_replies_2 24 rfl rfl
theorem dX10_replies_0 : decode cX10_replies 0 = .ok (.ldc 40, 2) := dk_18 40 (dk_at dksX10_replies_0 0 rfl rfl)
theorem dX10_replies_2 : decode cX10_replies 2 = .ok (.istore 5, 2) := dk_54 5 (dk_at dksX10_replies_0 2 rfl rfl)
theorem dX10_replies_4 : decode cX10_replies 4 = .ok (.iconst 0, 1) := dk_3 (dk_at dksX10_replies_0 4 rfl rfl)
theorem dX10_replies_5 : decode cX10_replies 5 = .ok (.istore 6, 2) := dk_54 6 (dk_at dksX10_replies_0 5 rfl rfl)
theorem dX10_replies_7 : decode cX10_replies 7 = .ok (.iload 6, 2) := dk_21 6 (dk_at dksX10_replies_0 7 rfl rfl)
theorem dX10_replies_9 : decode cX10_replies 9 = .ok (.iload 4, 2) := dk_21 4 (dk_at dksX10_replies_0 9 rfl rfl)
theorem dX10_replies_11 : decode cX10_replies 11 = .ok (.if_icmp .gt 81, 3) := dk_163 0 81 (dk_at dksX10_replies_0 11 rfl rfl)
theorem dX10_replies_14 : decode cX10_replies 14 = .ok (.iconst 0, 1) := dk_3 (dk_at dksX10_replies_0 14 rfl rfl)
theorem dX10_replies_15 : decode cX10_replies 15 = .ok (.istore 7, 2) := dk_54 7 (dk_at dksX10_replies_0 15 rfl rfl)
theorem dX10_replies_17 : decode cX10_replies 17 = .ok (.iload 6, 2) := dk_21 6 (dk_at dksX10_replies_0 17 rfl rfl)
theorem dX10_replies_19 : decode cX10_replies 19 = .ok (.iload 7, 2) := dk_21 7 (dk_at dksX10_replies_0 19 rfl rfl)
theorem dX10_replies_21 : decode cX10_replies 21 = .ok (.iadd, 1) := dk_96 (dk_at dksX10_replies_0 21 rfl rfl)
theorem dX10_replies_22 : decode cX10_replies 22 = .ok (.iload 4, 2) := dk_21 4 (dk_at dksX10_replies_0 22 rfl rfl)
theorem dX10_replies_24 : decode cX10_replies 24 = .ok (.if_icmp .gt 62, 3) := dk_163 0 62 (dk_at dksX10_replies_1 0 rfl rfl)
theorem dX10_replies_27 : decode cX10_replies 27 = .ok (.iload_n 1, 1) := dk_27 (dk_at dksX10_replies_1 3 rfl rfl)
theorem dX10_replies_28 : decode cX10_replies 28 = .ok (.iload_n 2, 1) := dk_28 (dk_at dksX10_replies_1 4 rfl rfl)
theorem dX10_replies_29 : decode cX10_replies 29 = .ok (.iload_n 3, 1) := dk_29 (dk_at dksX10_replies_1 5 rfl rfl)
theorem dX10_replies_30 : decode cX10_replies 30 = .ok (.iload 6, 2) := dk_21 6 (dk_at dksX10_replies_1 6 rfl rfl)
theorem dX10_replies_32 : decode cX10_replies 32 = .ok (.iload 7, 2) := dk_21 7 (dk_at dksX10_replies_1 8 rfl rfl)
theorem dX10_replies_34 : decode cX10_replies 34 = .ok (.iload 4, 2) := dk_21 4 (dk_at dksX10_replies_1 10 rfl rfl)
theorem dX10_replies_36 : decode cX10_replies 36 = .ok (.iload 6, 2) := dk_21 6 (dk_at dksX10_replies_1 12 rfl rfl)
theorem dX10_replies_38 : decode cX10_replies 38 = .ok (.isub, 1) := dk_100 (dk_at dksX10_replies_1 14 rfl rfl)
theorem dX10_replies_39 : decode cX10_replies 39 = .ok (.iload 7, 2) := dk_21 7 (dk_at dksX10_replies_1 15 rfl rfl)
theorem dX10_replies_41 : decode cX10_replies 41 = .ok (.isub, 1) := dk_100 (dk_at dksX10_replies_1 17 rfl rfl)
theorem dX10_replies_42 : decode cX10_replies 42 = .ok (.invokestatic 41, 3) := dk_184 0 41 (dk_at dksX10_replies_1 18 rfl rfl)
theorem dX10_replies_45 : decode cX10_replies 45 = .ok (.istore 8, 2) := dk_54 8 (dk_at dksX10_replies_1 21 rfl rfl)
theorem dX10_replies_47 : decode cX10_replies 47 = .ok (.iload 8, 2) := dk_21 8 (dk_at dksX10_replies_2 0 rfl rfl)
theorem dX10_replies_49 : decode cX10_replies 49 = .ok (.iload 5, 2) := dk_21 5 (dk_at dksX10_replies_2 2 rfl rfl)
theorem dX10_replies_51 : decode cX10_replies 51 = .ok (.if_icmp .lt 6, 3) := dk_161 0 6 (dk_at dksX10_replies_2 4 rfl rfl)
theorem dX10_replies_54 : decode cX10_replies 54 = .ok (.goto 26, 3) := dk_167 0 26 (dk_at dksX10_replies_2 7 rfl rfl)
theorem dX10_replies_57 : decode cX10_replies 57 = .ok (.iload 8, 2) := dk_21 8 (dk_at dksX10_replies_2 10 rfl rfl)
theorem dX10_replies_59 : decode cX10_replies 59 = .ok (.istore 5, 2) := dk_54 5 (dk_at dksX10_replies_2 12 rfl rfl)
theorem dX10_replies_61 : decode cX10_replies 61 = .ok (.aload_n 0, 1) := dk_42 (dk_at dksX10_replies_2 14 rfl rfl)
theorem dX10_replies_62 : decode cX10_replies 62 = .ok (.getfield 18, 3) := dk_180 0 18 (dk_at dksX10_replies_2 15 rfl rfl)
theorem dX10_replies_65 : decode cX10_replies 65 = .ok (.iload 6, 2) := dk_21 6 (dk_at dksX10_replies_2 18 rfl rfl)
theorem dX10_replies_67 : decode cX10_replies 67 = .ok (.iload 7, 2) := dk_21 7 (dk_at dksX10_replies_2 20 rfl rfl)
theorem dX10_replies_69 : decode cX10_replies 69 = .ok (.iload 4, 2) := dk_21 4 (dk_at dksX10_replies_2 22 rfl rfl)
theorem dX10_replies_71 : decode cX10_replies 71 = .ok (.iload 6, 2) := dk_21 6 (dk_at dksX10_replies_3 0 rfl rfl)
theorem dX10_replies_73 : decode cX10_replies 73 = .ok (.isub, 1) := dk_100 (dk_at dksX10_replies_3 2 rfl rfl)
theorem dX10_replies_74 : decode cX10_replies 74 = .ok (.iload 7, 2) := dk_21 7 (dk_at dksX10_replies_3 3 rfl rfl)
theorem dX10_replies_76 : decode cX10_replies 76 = .ok (.isub, 1) := dk_100 (dk_at dksX10_replies_3 5 rfl rfl)
theorem dX10_replies_77 : decode cX10_replies 77 = .ok (.invokestatic 30, 3) := dk_184 0 30 (dk_at dksX10_replies_3 6 rfl rfl)
theorem dX10_replies_80 : decode cX10_replies 80 = .ok (.iinc 7 1, 3) := dk_132 7 1 (dk_at dksX10_replies_3 9 rfl rfl)
theorem dX10_replies_83 : decode cX10_replies 83 = .ok (.goto (-66), 3) := dk_167 255 190 (dk_at dksX10_replies_3 12 rfl rfl)
theorem dX10_replies_86 : decode cX10_replies 86 = .ok (.iinc 6 1, 3) := dk_132 6 1 (dk_at dksX10_replies_3 15 rfl rfl)
theorem dX10_replies_89 : decode cX10_replies 89 = .ok (.goto (-82), 3) := dk_167 255 174 (dk_at dksX10_replies_3 18 rfl rfl)
theorem dX10_replies_92 : decode cX10_replies 92 = .ok (.iload 5, 2) := dk_21 5 (dk_at dksX10_replies_3 21 rfl rfl)
theorem dX10_replies_94 : decode cX10_replies 94 = .ok (.ireturn, 1) := dk_172 (dk_at dksX10_replies_3 23 rfl rfl)
abbrev cX10_lays : ByteArray := prog_9_method_4_code
def yX10_lays : MethodName := ⟨RX10, "lays", "([IIII)V"⟩
def dkwX10_lays_0 : List UInt8 := [42, 3, 27, 79, 42, 4, 28, 79, 42, 5, 29, 79, 177]
abbrev dktX10_lays_0 : List UInt8 := dkwX10_lays_0 ++ []
theorem dksX10_lays_0 : cX10_lays.data.toList.drop 0 = dktX10_lays_0 := by decide +kernel
theorem dX10_lays_0 : decode cX10_lays 0 = .ok (.aload_n 0, 1) := dk_42 (dk_at dksX10_lays_0 0 rfl rfl)
theorem dX10_lays_1 : decode cX10_lays 1 = .ok (.iconst 0, 1) := dk_3 (dk_at dksX10_lays_0 1 rfl rfl)
theorem dX10_lays_2 : decode cX10_lays 2 = .ok (.iload_n 1, 1) := dk_27 (dk_at dksX10_lays_0 2 rfl rfl)
theorem dX10_lays_3 : decode cX10_lays 3 = .ok (.iastore, 1) := dk_79 (dk_at dksX10_lays_0 3 rfl rfl)
theorem dX10_lays_4 : decode cX10_lays 4 = .ok (.aload_n 0, 1) := dk_42 (dk_at dksX10_lays_0 4 rfl rfl)
theorem dX10_lays_5 : decode cX10_lays 5 = .ok (.iconst 1, 1) := dk_4 (dk_at dksX10_lays_0 5 rfl rfl)
theorem dX10_lays_6 : decode cX10_lays 6 = .ok (.iload_n 2, 1) := dk_28 (dk_at dksX10_lays_0 6 rfl rfl)
theorem dX10_lays_7 : decode cX10_lays 7 = .ok (.iastore, 1) := dk_79 (dk_at dksX10_lays_0 7 rfl rfl)
theorem dX10_lays_8 : decode cX10_lays 8 = .ok (.aload_n 0, 1) := dk_42 (dk_at dksX10_lays_0 8 rfl rfl)
theorem dX10_lays_9 : decode cX10_lays 9 = .ok (.iconst 2, 1) := dk_5 (dk_at dksX10_lays_0 9 rfl rfl)
theorem dX10_lays_10 : decode cX10_lays 10 = .ok (.iload_n 3, 1) := dk_29 (dk_at dksX10_lays_0 10 rfl rfl)
theorem dX10_lays_11 : decode cX10_lays 11 = .ok (.iastore, 1) := dk_79 (dk_at dksX10_lays_0 11 rfl rfl)
theorem dX10_lays_12 : decode cX10_lays 12 = .ok (.return_, 1) := dk_177 (dk_at dksX10_lays_0 12 rfl rfl)
theorem q147 : (Jvm.Cond.initialized "WarByHours$Hold") ∈ lw_all := lw_g (lw_at lw_m1 14 rfl) rfl
theorem q599 : (Jvm.Cond.instantiable "WarByHours$Hold" (4 : Nat)) ∈ lw_all := lw_g (lw_at lw_m2 226 rfl) rfl
theorem q601 : (Jvm.Cond.instanceMethod ({ cls := "WarByHours$Hold", name := "<init>", desc := "()V" } : Jvm.MethodName)) ∈ lw_all := lw_g (lw_at lw_m2 228 rfl) rfl
theorem q602 : (Jvm.Cond.code ({ cls := "WarByHours$Hold", name := "<init>", desc := "()V" } : Jvm.MethodName) prog_9_method_1_code (1 : Nat) (Option.none : Option Jvm.ClassFile.FieldType)) ∈ lw_all := lw_g (lw_at lw_m2 229 rfl) rfl
theorem q603 : (Jvm.Cond.methodLink "WarByHours$Hold" (3 : Nat) ({ cls := "java/lang/Object", name := "<init>", desc := "()V" } : Jvm.MethodName)) ∈ lw_all := lw_g (lw_at lw_m2 230 rfl) rfl
theorem q604 : (Jvm.Cond.fieldLink "WarByHours$Hold" (9 : Nat) "WarByHours$Hold" "way" "[I") ∈ lw_all := lw_g (lw_at lw_m2 231 rfl) rfl
theorem q606 : (Jvm.Cond.fieldLink "WarByHours$Hold" (15 : Nat) "WarByHours$Hold" "reply" "[I") ∈ lw_all := lw_g (lw_at lw_m2 233 rfl) rfl
theorem q608 : (Jvm.Cond.fieldLink "WarByHours$Hold" (18 : Nat) "WarByHours$Hold" "answer" "[I") ∈ lw_all := lw_g (lw_at lw_m2 235 rfl) rfl
theorem q609 : (Jvm.Cond.fieldLink "WarByHours$Hold" (22 : Nat) "WarByHours$Hold" "value" "I") ∈ lw_all := lw_g (lw_at lw_m2 236 rfl) rfl
theorem q611 : (Jvm.Cond.laysFinal "WarByHours$Hold" "WarByHours$Hold" "way" "[I") ∈ lw_all := lw_g (lw_at lw_m2 238 rfl) rfl
theorem q612 : (Jvm.Cond.soleField "WarByHours$Hold" "way") ∈ lw_all := lw_g (lw_at lw_m2 239 rfl) rfl
theorem q613 : (Jvm.Cond.laysFinal "WarByHours$Hold" "WarByHours$Hold" "reply" "[I") ∈ lw_all := lw_g (lw_at lw_m3 0 rfl) rfl
theorem q614 : (Jvm.Cond.soleField "WarByHours$Hold" "reply") ∈ lw_all := lw_g (lw_at lw_m3 1 rfl) rfl
theorem q615 : (Jvm.Cond.laysFinal "WarByHours$Hold" "WarByHours$Hold" "answer" "[I") ∈ lw_all := lw_g (lw_at lw_m3 2 rfl) rfl
theorem q616 : (Jvm.Cond.soleField "WarByHours$Hold" "answer") ∈ lw_all := lw_g (lw_at lw_m3 3 rfl) rfl
theorem q617 : (Jvm.Cond.lays "WarByHours$Hold" "WarByHours$Hold" "value" "I") ∈ lw_all := lw_g (lw_at lw_m3 4 rfl) rfl
theorem q618 : (Jvm.Cond.soleField "WarByHours$Hold" "value") ∈ lw_all := lw_g (lw_at lw_m3 5 rfl) rfl
theorem q619 : (Jvm.Cond.superclass "WarByHours$Hold" "java/lang/Object") ∈ lw_all := lw_g (lw_at lw_m3 6 rfl) rfl
theorem q966 : (Jvm.Cond.selects "WarByHours$Hold" ({ cls := "java/lang/Object", name := "getClass", desc := "()Ljava/lang/Class;" } : Jvm.MethodName) ({ cls := "java/lang/Object", name := "getClass", desc := "()Ljava/lang/Class;" } : Jvm.MethodName)) ∈ lw_all := lw_g (lw_at lw_m4 113 rfl) rfl
theorem q1504 : (Jvm.Cond.instanceMethod ({ cls := "WarByHours$Hold", name := "goes", desc := "(II)LWarByHours$Hold;" } : Jvm.MethodName)) ∈ lw_all := lw_g (lw_at lw_m6 171 rfl) rfl
theorem q1505 : (Jvm.Cond.selects "WarByHours$Hold" ({ cls := "WarByHours$Hold", name := "goes", desc := "(II)LWarByHours$Hold;" } : Jvm.MethodName) ({ cls := "WarByHours$Hold", name := "goes", desc := "(II)LWarByHours$Hold;" } : Jvm.MethodName)) ∈ lw_all := lw_g (lw_at lw_m6 172 rfl) rfl
theorem q1506 : (Jvm.Cond.code ({ cls := "WarByHours$Hold", name := "goes", desc := "(II)LWarByHours$Hold;" } : Jvm.MethodName) prog_9_method_2_code (6 : Nat) (Option.some (Jvm.ClassFile.FieldType.object "WarByHours$Hold"))) ∈ lw_all := lw_g (lw_at lw_m6 173 rfl) rfl
theorem q1507 : (Jvm.Cond.constant "WarByHours$Hold" (21 : Nat) (-1000000 : Int32)) ∈ lw_all := lw_g (lw_at lw_m6 174 rfl) rfl
theorem q1508 : (Jvm.Cond.methodLink "WarByHours$Hold" (26 : Nat) ({ cls := "WarByHours$Hold", name := "replies", desc := "(IIII)I" } : Jvm.MethodName)) ∈ lw_all := lw_g (lw_at lw_m6 175 rfl) rfl
theorem q1509 : (Jvm.Cond.privateMethod ({ cls := "WarByHours$Hold", name := "replies", desc := "(IIII)I" } : Jvm.MethodName)) ∈ lw_tbl := lw_at lw_m6 176 rfl
theorem q1510 : (Jvm.Cond.instanceMethod ({ cls := "WarByHours$Hold", name := "replies", desc := "(IIII)I" } : Jvm.MethodName)) ∈ lw_all := lw_g (lw_at lw_m6 177 rfl) rfl
theorem q1511 : (Jvm.Cond.code ({ cls := "WarByHours$Hold", name := "replies", desc := "(IIII)I" } : Jvm.MethodName) prog_9_method_3_code (9 : Nat) (Option.some Jvm.ClassFile.FieldType.int)) ∈ lw_all := lw_g (lw_at lw_m6 178 rfl) rfl
theorem q1512 : (Jvm.Cond.constant "WarByHours$Hold" (40 : Nat) (1000000 : Int32)) ∈ lw_all := lw_g (lw_at lw_m6 179 rfl) rfl
theorem q1513 : (Jvm.Cond.methodLinkNest "WarByHours$Hold" (41 : Nat) ({ cls := "WarByHours", name := "valueOf", desc := "(IIIIII)I" } : Jvm.MethodName) "WarByHours") ∈ lw_tbl := lw_at lw_m6 180 rfl
theorem q1517 : (Jvm.Cond.methodLink "WarByHours$Hold" (30 : Nat) ({ cls := "WarByHours$Hold", name := "lays", desc := "([IIII)V" } : Jvm.MethodName)) ∈ lw_all := lw_g (lw_at lw_m6 184 rfl) rfl
theorem q1518 : (Jvm.Cond.static ({ cls := "WarByHours$Hold", name := "lays", desc := "([IIII)V" } : Jvm.MethodName)) ∈ lw_all := lw_g (lw_at lw_m6 185 rfl) rfl
theorem q1519 : (Jvm.Cond.code ({ cls := "WarByHours$Hold", name := "lays", desc := "([IIII)V" } : Jvm.MethodName) prog_9_method_4_code (4 : Nat) (Option.none : Option Jvm.ClassFile.FieldType)) ∈ lw_all := lw_g (lw_at lw_m6 186 rfl) rfl
theorem q1520 : (Jvm.Cond.methodLink "WarByHours$Hold" (34 : Nat) ({ cls := "java/lang/System", name := "arraycopy", desc := "(Ljava/lang/Object;ILjava/lang/Object;II)V" } : Jvm.MethodName)) ∈ lw_all := lw_g (lw_at lw_m6 187 rfl) rfl
theorem q2595 : (Jvm.Cond.castable "WarByHours$Hold" "java/lang/Object") ∈ lw_tbl := lw_at lw_m11 62 rfl
theorem in_X10 : ∀ w ∈ wsX100, w ∈ lw_all := lw_in wsX100 [611, 613, 615, 617] (by decide +kernel) (by decide +kernel)

/-! WarByHours$Reader -/
set_option maxRecDepth 100000
def RX12 : String := "WarByHours$Reader"
def TX12 : u_T := fun k => match k with
  | 0 => ("WarByHours$Reader", "text", "[B", true)
  | 1 => ("WarByHours$Reader", "many", "I", true)
  | 2 => ("WarByHours$Reader", "w", "LWarByHours$War;", true)
  | 3 => ("WarByHours$Reader", "at", "I", false)
  | 4 => ("WarByHours$Reader", "begin", "I", false)
  | 5 => ("WarByHours$Reader", "token", "I", false)
  | _ => ("WarByHours$Reader", "value", "I", false)
def tyX12 : Nat → FieldType := fun k => match k with
  | 0 => .array .byte
  | 1 => .int
  | 2 => .object "WarByHours$War"
  | 3 => .int
  | 4 => .int
  | 5 => .int
  | _ => .int
abbrev wsX120 : List Cond := u_ws RX12 TX12 7
theorem nmX12 : ∀ a, a < 7 → ∀ b, b < 7 → a ≠ b → (TX12 a).2.1 ≠ (TX12 b).2.1 := by decide +kernel
theorem tyX12_ok : ∀ k, k < 7 → parseFieldDescriptor (TX12 k).2.2.1 = some (tyX12 k) := by decide +kernel
abbrev cX12_init : ByteArray := prog_10_method_1_code
def yX12_init : MethodName := ⟨RX12, "<init>", "([BI)V"⟩
def dkwX12_init_1 : List UInt8 := [181, 0, 22, 42, 182, 0, 26, 177]
abbrev dktX12_init_1 : List UInt8 := dkwX12_init_1 ++ []
def dkwX12_init_0 : List UInt8 := [42, 183, 0, 3, 42, 187, 0, 9, 89, 183, 0, 11, 181, 0, 12, 42, 43, 181, 0, 18, 42, 28]
abbrev dktX12_init_0 : List UInt8 := dkwX12_init_0 ++ dktX12_init_1
theorem dksX12_init_0 : cX12_init.data.toList.drop 0 = dktX12_init_0 := by decide +kernel
theorem dksX12_init_1 : cX12_init.data.toList.drop 22 = dktX12_init_1 := dk_seg dksX12_init_0 22 rfl rfl
theorem dX12_init_0 : decode cX12_init 0 = .ok (.aload_n 0, 1) := dk_42 (dk_at dksX12_init_0 0 rfl rfl)
theorem dX12_init_1 : decode cX12_init 1 = .ok (.invokespecial 3, 3) := dk_183 0 3 (dk_at dksX12_init_0 1 rfl rfl)
theorem dX12_init_4 : decode cX12_init 4 = .ok (.aload_n 0, 1) := dk_42 (dk_at dksX12_init_0 4 rfl rfl)
theorem dX12_init_5 : decode cX12_init 5 = .ok (.new 9, 3) := dk_187 0 9 (dk_at dksX12_init_0 5 rfl rfl)
theorem dX12_init_8 : decode cX12_init 8 = .ok (.dup, 1) := dk_89 (dk_at dksX12_init_0 8 rfl rfl)
theorem dX12_init_9 : decode cX12_init 9 = .ok (.invokespecial 11, 3) := dk_183 0 11 (dk_at dksX12_init_0 9 rfl rfl)
theorem dX12_init_12 : decode cX12_init 12 = .ok (.putfield 12, 3) := dk_181 0 12 (dk_at dksX12_init_0 12 rfl rfl)
theorem dX12_init_15 : decode cX12_init 15 = .ok (.aload_n 0, 1) := dk_42 (dk_at dksX12_init_0 15 rfl rfl)
theorem dX12_init_16 : decode cX12_init 16 = .ok (.aload_n 1, 1) := dk_43 (dk_at dksX12_init_0 16 rfl rfl)
theorem dX12_init_17 : decode cX12_init 17 = .ok (.putfield 18, 3) := dk_181 0 18 (dk_at dksX12_init_0 17 rfl rfl)
theorem dX12_init_20 : decode cX12_init 20 = .ok (.aload_n 0, 1) := dk_42 (dk_at dksX12_init_0 20 rfl rfl)
theorem dX12_init_21 : decode cX12_init 21 = .ok (.iload_n 2, 1) := dk_28 (dk_at dksX12_init_0 21 rfl rfl)
theorem dX12_init_22 : decode cX12_init 22 = .ok (.putfield 22, 3) := dk_181 0 22 (dk_at dksX12_init_1 0 rfl rfl)
theorem dX12_init_25 : decode cX12_init 25 = .ok (.aload_n 0, 1) := dk_42 (dk_at dksX12_init_1 3 rfl rfl)
theorem dX12_init_26 : decode cX12_init 26 = .ok (.invokevirtual 26, 3) := dk_182 0 26 (dk_at dksX12_init_1 4 rfl rfl)
theorem dX12_init_29 : decode cX12_init 29 = .ok (.return_, 1) := dk_177 (dk_at dksX12_init_1 7 rfl rfl)
abbrev cX12_next : ByteArray := prog_10_method_3_code
def yX12_next : MethodName := ⟨RX12, "next", "()V"⟩
def dkwX12_next_8 : List UInt8 := [7, 181, 0, 46, 42, 89, 180, 0, 29, 4, 96, 181, 0, 29, 177]
abbrev dktX12_next_8 : List UInt8 := dkwX12_next_8 ++ []
def dkwX12_next_7 : List UInt8 := [4, 96, 181, 0, 29, 167, 255, 206, 42, 42, 16, 59, 16, 59, 182, 0, 36, 153, 0, 7, 6, 167, 0, 4]
abbrev dktX12_next_7 : List UInt8 := dkwX12_next_7 ++ dktX12_next_8
def dkwX12_next_6 : List UInt8 := [42, 180, 0, 18, 42, 180, 0, 29, 51, 96, 16, 48, 100, 184, 0, 50, 181, 0, 43, 42, 89, 180, 0, 29]
abbrev dktX12_next_6 : List UInt8 := dkwX12_next_6 ++ dktX12_next_7
def dkwX12_next_5 : List UInt8 := [181, 0, 46, 42, 16, 48, 16, 57, 182, 0, 36, 153, 0, 75, 42, 18, 49, 16, 10, 42, 180, 0, 43, 104]
abbrev dktX12_next_5 : List UInt8 := dkwX12_next_5 ++ dktX12_next_6
def dkwX12_next_4 : List UInt8 := [180, 0, 29, 4, 96, 181, 0, 29, 167, 255, 235, 42, 16, 48, 16, 57, 182, 0, 36, 153, 0, 61, 42, 5]
abbrev dktX12_next_4 : List UInt8 := dkwX12_next_4 ++ dktX12_next_5
def dkwX12_next_3 : List UInt8 := [182, 0, 36, 153, 0, 32, 42, 4, 181, 0, 46, 42, 16, 97, 16, 122, 182, 0, 36, 153, 0, 115, 42, 89]
abbrev dktX12_next_3 : List UInt8 := dkwX12_next_3 ++ dktX12_next_4
def dkwX12_next_2 : List UInt8 := [42, 180, 0, 29, 42, 180, 0, 22, 160, 0, 11, 42, 3, 181, 0, 46, 167, 0, 142, 42, 16, 97, 16, 122]
abbrev dktX12_next_2 : List UInt8 := dkwX12_next_2 ++ dktX12_next_3
def dkwX12_next_1 : List UInt8 := [180, 0, 29, 4, 96, 181, 0, 29, 167, 255, 224, 42, 42, 180, 0, 29, 181, 0, 40, 42, 3, 181, 0, 43]
abbrev dktX12_next_1 : List UInt8 := dkwX12_next_1 ++ dktX12_next_2
def dkwX12_next_0 : List UInt8 := [42, 16, 32, 16, 32, 182, 0, 36, 154, 0, 14, 42, 16, 10, 16, 10, 182, 0, 36, 153, 0, 16, 42, 89]
abbrev dktX12_next_0 : List UInt8 := dkwX12_next_0 ++ dktX12_next_1
theorem dksX12_next_0 : cX12_next.data.toList.drop 0 = dktX12_next_0 := by decide +kernel
theorem dksX12_next_1 : cX12_next.data.toList.drop 24 = dktX12_next_1 := dk_seg dksX12_next_0 24 rfl rfl
theorem dksX12_next_2 : cX12_next.data.toList.drop 48 = dktX12_next_2 := dk_seg dksX12_next_1 24 rfl rfl
theorem dksX12_next_3 : cX12_next.data.toList.drop 72 = dktX12_next_3 := dk_seg dksX12_next_2 24 rfl rfl
theorem dksX12_next_4 : cX12_next.data.toList.drop 96 = dktX12_next_4 := dk_seg dksX12_next_3 24 rfl rfl
theorem dksX12_next_5 : cX12_next.data.toList.drop 120 = dktX12_next_5 := dk_seg dksX12_next_4 24 rfl rfl
theorem dksX12_next_6 : cX12_next.data.toList.drop 144 = dktX12_next_6 := dk_seg dksX12_next_5 24 rfl rfl
theorem dksX12_next_7 : cX12_next.data.toList.drop 168 = dktX12_next_7 := dk_seg dksX12_next_6 24 rfl rfl
theorem dksX12_next_8 : cX12_next.data.toList.drop 192 = dktX12_next_8 := dk_seg dksX12_next_7 24 rfl rfl
theorem dX12_next_0 : decode cX12_next 0 = .ok (.aload_n 0, 1) := dk_42 (dk_at dksX12_next_0 0 rfl rfl)
theorem dX12_next_1 : decode cX12_next 1 = .ok (.bipush 32, 2) := dk_16 32 (dk_at dksX12_next_0 1 rfl rfl)
theorem dX12_next_3 : decode cX12_next 3 = .ok (.bipush 32, 2) := dk_16 32 (dk_at dksX12_next_0 3 rfl rfl)
theorem dX12_next_5 : decode cX12_next 5 = .ok (.invokevirtual 36, 3) := dk_182 0 36 (dk_at dksX12_next_0 5 rfl rfl)
theorem dX12_next_8 : decode cX12_next 8 = .ok (.ifCond .ne 14, 3) := dk_154 0 14 (dk_at dksX12_next_0 8 rfl rfl)
theorem dX12_next_11 : decode cX12_next 11 = .ok (.aload_n 0, 1) := dk_42 (dk_at dksX12_next_0 11 rfl rfl)
theorem dX12_next_12 : decode cX12_next 12 = .ok (.bipush 10, 2) := dk_16 10 (dk_at dksX12_next_0 12 rfl rfl)
theorem dX12_next_14 : decode cX12_next 14 = .ok (.bipush 10, 2) := dk_16 10 (dk_at dksX12_next_0 14 rfl rfl)
theorem dX12_next_16 : decode cX12_next 16 = .ok (.invokevirtual 36, 3) := dk_182 0 36 (dk_at dksX12_next_0 16 rfl rfl)
theorem dX12_next_19 : decode cX12_next 19 = .ok (.ifCond .eq 16, 3) := dk_153 0 16 (dk_at dksX12_next_0 19 rfl rfl)
theorem dX12_next_22 : decode cX12_next 22 = .ok (.aload_n 0, 1) := dk_42 (dk_at dksX12_next_0 22 rfl rfl)
theorem dX12_next_23 : decode cX12_next 23 = .ok (.dup, 1) := dk_89 (dk_at dksX12_next_0 23 rfl rfl)
theorem dX12_next_24 : decode cX12_next 24 = .ok (.getfield 29, 3) := dk_180 0 29 (dk_at dksX12_next_1 0 rfl rfl)
theorem dX12_next_27 : decode cX12_next 27 = .ok (.iconst 1, 1) := dk_4 (dk_at dksX12_next_1 3 rfl rfl)
theorem dX12_next_28 : decode cX12_next 28 = .ok (.iadd, 1) := dk_96 (dk_at dksX12_next_1 4 rfl rfl)
theorem dX12_next_29 : decode cX12_next 29 = .ok (.putfield 29, 3) := dk_181 0 29 (dk_at dksX12_next_1 5 rfl rfl)
theorem dX12_next_32 : decode cX12_next 32 = .ok (.goto (-32), 3) := dk_167 255 224 (dk_at dksX12_next_1 8 rfl rfl)
theorem dX12_next_35 : decode cX12_next 35 = .ok (.aload_n 0, 1) := dk_42 (dk_at dksX12_next_1 11 rfl rfl)
theorem dX12_next_36 : decode cX12_next 36 = .ok (.aload_n 0, 1) := dk_42 (dk_at dksX12_next_1 12 rfl rfl)
theorem dX12_next_37 : decode cX12_next 37 = .ok (.getfield 29, 3) := dk_180 0 29 (dk_at dksX12_next_1 13 rfl rfl)
theorem dX12_next_40 : decode cX12_next 40 = .ok (.putfield 40, 3) := dk_181 0 40 (dk_at dksX12_next_1 16 rfl rfl)
theorem dX12_next_43 : decode cX12_next 43 = .ok (.aload_n 0, 1) := dk_42 (dk_at dksX12_next_1 19 rfl rfl)
theorem dX12_next_44 : decode cX12_next 44 = .ok (.iconst 0, 1) := dk_3 (dk_at dksX12_next_1 20 rfl rfl)
theorem dX12_next_45 : decode cX12_next 45 = .ok (.putfield 43, 3) := dk_181 0 43 (dk_at dksX12_next_1 21 rfl rfl)
theorem dX12_next_48 : decode cX12_next 48 = .ok (.aload_n 0, 1) := dk_42 (dk_at dksX12_next_2 0 rfl rfl)
theorem dX12_next_49 : decode cX12_next 49 = .ok (.getfield 29, 3) := dk_180 0 29 (dk_at dksX12_next_2 1 rfl rfl)
theorem dX12_next_52 : decode cX12_next 52 = .ok (.aload_n 0, 1) := dk_42 (dk_at dksX12_next_2 4 rfl rfl)
theorem dX12_next_53 : decode cX12_next 53 = .ok (.getfield 22, 3) := dk_180 0 22 (dk_at dksX12_next_2 5 rfl rfl)
theorem dX12_next_56 : decode cX12_next 56 = .ok (.if_icmp .ne 11, 3) := dk_160 0 11 (dk_at dksX12_next_2 8 rfl rfl)
theorem dX12_next_59 : decode cX12_next 59 = .ok (.aload_n 0, 1) := dk_42 (dk_at dksX12_next_2 11 rfl rfl)
theorem dX12_next_60 : decode cX12_next 60 = .ok (.iconst 0, 1) := dk_3 (dk_at dksX12_next_2 12 rfl rfl)
theorem dX12_next_61 : decode cX12_next 61 = .ok (.putfield 46, 3) := dk_181 0 46 (dk_at dksX12_next_2 13 rfl rfl)
theorem dX12_next_64 : decode cX12_next 64 = .ok (.goto 142, 3) := dk_167 0 142 (dk_at dksX12_next_2 16 rfl rfl)
theorem dX12_next_67 : decode cX12_next 67 = .ok (.aload_n 0, 1) := dk_42 (dk_at dksX12_next_2 19 rfl rfl)
theorem dX12_next_68 : decode cX12_next 68 = .ok (.bipush 97, 2) := dk_16 97 (dk_at dksX12_next_2 20 rfl rfl)
theorem dX12_next_70 : decode cX12_next 70 = .ok (.bipush 122, 2) := dk_16 122 (dk_at dksX12_next_2 22 rfl rfl)
theorem dX12_next_72 : decode cX12_next 72 = .ok (.invokevirtual 36, 3) := dk_182 0 36 (dk_at dksX12_next_3 0 rfl rfl)
theorem dX12_next_75 : decode cX12_next 75 = .ok (.ifCond .eq 32, 3) := dk_153 0 32 (dk_at dksX12_next_3 3 rfl rfl)
theorem dX12_next_78 : decode cX12_next 78 = .ok (.aload_n 0, 1) := dk_42 (dk_at dksX12_next_3 6 rfl rfl)
theorem dX12_next_79 : decode cX12_next 79 = .ok (.iconst 1, 1) := dk_4 (dk_at dksX12_next_3 7 rfl rfl)
theorem dX12_next_80 : decode cX12_next 80 = .ok (.putfield 46, 3) := dk_181 0 46 (dk_at dksX12_next_3 8 rfl rfl)
theorem dX12_next_83 : decode cX12_next 83 = .ok (.aload_n 0, 1) := dk_42 (dk_at dksX12_next_3 11 rfl rfl)
theorem dX12_next_84 : decode cX12_next 84 = .ok (.bipush 97, 2) := dk_16 97 (dk_at dksX12_next_3 12 rfl rfl)
theorem dX12_next_86 : decode cX12_next 86 = .ok (.bipush 122, 2) := dk_16 122 (dk_at dksX12_next_3 14 rfl rfl)
theorem dX12_next_88 : decode cX12_next 88 = .ok (.invokevirtual 36, 3) := dk_182 0 36 (dk_at dksX12_next_3 16 rfl rfl)
theorem dX12_next_91 : decode cX12_next 91 = .ok (.ifCond .eq 115, 3) := dk_153 0 115 (dk_at dksX12_next_3 19 rfl rfl)
theorem dX12_next_94 : decode cX12_next 94 = .ok (.aload_n 0, 1) := dk_42 (dk_at dksX12_next_3 22 rfl rfl)
theorem dX12_next_95 : decode cX12_next 95 = .ok (.dup, 1) := dk_89 (dk_at dksX12_next_3 23 rfl rfl)
theorem dX12_next_96 : decode cX12_next 96 = .ok (.getfield 29, 3) := dk_180 0 29 (dk_at dksX12_next_4 0 rfl rfl)
theorem dX12_next_99 : decode cX12_next 99 = .ok (.iconst 1, 1) := dk_4 (dk_at dksX12_next_4 3 rfl rfl)
theorem dX12_next_100 : decode cX12_next 100 = .ok (.iadd, 1) := dk_96 (dk_at dksX12_next_4 4 rfl rfl)
theorem dX12_next_101 : decode cX12_next 101 = .ok (.putfield 29, 3) := dk_181 0 29 (dk_at dksX12_next_4 5 rfl rfl)
theorem dX12_next_104 : decode cX12_next 104 = .ok (.goto (-21), 3) := dk_167 255 235 (dk_at dksX12_next_4 8 rfl rfl)
theorem dX12_next_107 : decode cX12_next 107 = .ok (.aload_n 0, 1) := dk_42 (dk_at dksX12_next_4 11 rfl rfl)
theorem dX12_next_108 : decode cX12_next 108 = .ok (.bipush 48, 2) := dk_16 48 (dk_at dksX12_next_4 12 rfl rfl)
theorem dX12_next_110 : decode cX12_next 110 = .ok (.bipush 57, 2) := dk_16 57 (dk_at dksX12_next_4 14 rfl rfl)
theorem dX12_next_112 : decode cX12_next 112 = .ok (.invokevirtual 36, 3) := dk_182 0 36 (dk_at dksX12_next_4 16 rfl rfl)
theorem dX12_next_115 : decode cX12_next 115 = .ok (.ifCond .eq 61, 3) := dk_153 0 61 (dk_at dksX12_next_4 19 rfl rfl)
theorem dX12_next_118 : decode cX12_next 118 = .ok (.aload_n 0, 1) := dk_42 (dk_at dksX12_next_4 22 rfl rfl)
theorem dX12_next_119 : decode cX12_next 119 = .ok (.iconst 2, 1) := dk_5 (dk_at dksX12_next_4 23 rfl rfl)
theorem dX12_next_120 : decode cX12_next 120 = .ok (.putfield 46, 3) := dk_181 0 46 (dk_at dksX12_next_5 0 rfl rfl)
theorem dX12_next_123 : decode cX12_next 123 = .ok (.aload_n 0, 1) := dk_42 (dk_at dksX12_next_5 3 rfl rfl)
theorem dX12_next_124 : decode cX12_next 124 = .ok (.bipush 48, 2) := dk_16 48 (dk_at dksX12_next_5 4 rfl rfl)
theorem dX12_next_126 : decode cX12_next 126 = .ok (.bipush 57, 2) := dk_16 57 (dk_at dksX12_next_5 6 rfl rfl)
theorem dX12_next_128 : decode cX12_next 128 = .ok (.invokevirtual 36, 3) := dk_182 0 36 (dk_at dksX12_next_5 8 rfl rfl)
theorem dX12_next_131 : decode cX12_next 131 = .ok (.ifCond .eq 75, 3) := dk_153 0 75 (dk_at dksX12_next_5 11 rfl rfl)
theorem dX12_next_134 : decode cX12_next 134 = .ok (.aload_n 0, 1) := dk_42 (dk_at dksX12_next_5 14 rfl rfl)
theorem dX12_next_135 : decode cX12_next 135 = .ok (.ldc 49, 2) := dk_18 49 (dk_at dksX12_next_5 15 rfl rfl)
theorem dX12_next_137 : decode cX12_next 137 = .ok (.bipush 10, 2) := dk_16 10 (dk_at dksX12_next_5 17 rfl rfl)
theorem dX12_next_139 : decode cX12_next 139 = .ok (.aload_n 0, 1) := dk_42 (dk_at dksX12_next_5 19 rfl rfl)
theorem dX12_next_140 : decode cX12_next 140 = .ok (.getfield 43, 3) := dk_180 0 43 (dk_at dksX12_next_5 20 rfl rfl)
theorem dX12_next_143 : decode cX12_next 143 = .ok (.imul, 1) := dk_104 (dk_at dksX12_next_5 23 rfl rfl)
theorem dX12_next_144 : decode cX12_next 144 = .ok (.aload_n 0, 1) := dk_42 (dk_at dksX12_next_6 0 rfl rfl)
theorem dX12_next_145 : decode cX12_next 145 = .ok (.getfield 18, 3) := dk_180 0 18 (dk_at dksX12_next_6 1 rfl rfl)
theorem dX12_next_148 : decode cX12_next 148 = .ok (.aload_n 0, 1) := dk_42 (dk_at dksX12_next_6 4 rfl rfl)
theorem dX12_next_149 : decode cX12_next 149 = .ok (.getfield 29, 3) := dk_180 0 29 (dk_at dksX12_next_6 5 rfl rfl)
theorem dX12_next_152 : decode cX12_next 152 = .ok (.baload, 1) := dk_51 (dk_at dksX12_next_6 8 rfl rfl)
theorem dX12_next_153 : decode cX12_next 153 = .ok (.iadd, 1) := dk_96 (dk_at dksX12_next_6 9 rfl rfl)
theorem dX12_next_154 : decode cX12_next 154 = .ok (.bipush 48, 2) := dk_16 48 (dk_at dksX12_next_6 10 rfl rfl)
theorem dX12_next_156 : decode cX12_next 156 = .ok (.isub, 1) := dk_100 (dk_at dksX12_next_6 12 rfl rfl)
theorem dX12_next_157 : decode cX12_next 157 = .ok (.invokestatic 50, 3) := dk_184 0 50 (dk_at dksX12_next_6 13 rfl rfl)
theorem dX12_next_160 : decode cX12_next 160 = .ok (.putfield 43, 3) := dk_181 0 43 (dk_at dksX12_next_6 16 rfl rfl)
theorem dX12_next_163 : decode cX12_next 163 = .ok (.aload_n 0, 1) := dk_42 (dk_at dksX12_next_6 19 rfl rfl)
theorem dX12_next_164 : decode cX12_next 164 = .ok (.dup, 1) := dk_89 (dk_at dksX12_next_6 20 rfl rfl)
theorem dX12_next_165 : decode cX12_next 165 = .ok (.getfield 29, 3) := dk_180 0 29 (dk_at dksX12_next_6 21 rfl rfl)
theorem dX12_next_168 : decode cX12_next 168 = .ok (.iconst 1, 1) := dk_4 (dk_at dksX12_next_7 0 rfl rfl)
theorem dX12_next_169 : decode cX12_next 169 = .ok (.iadd, 1) := dk_96 (dk_at dksX12_next_7 1 rfl rfl)
theorem dX12_next_170 : decode cX12_next 170 = .ok (.putfield 29, 3) := dk_181 0 29 (dk_at dksX12_next_7 2 rfl rfl)
theorem dX12_next_173 : decode cX12_next 173 = .ok (.goto (-50), 3) := dk_167 255 206 (dk_at dksX12_next_7 5 rfl rfl)
theorem dX12_next_176 : decode cX12_next 176 = .ok (.aload_n 0, 1) := dk_42 (dk_at dksX12_next_7 8 rfl rfl)
theorem dX12_next_177 : decode cX12_next 177 = .ok (.aload_n 0, 1) := dk_42 (dk_at dksX12_next_7 9 rfl rfl)
theorem dX12_next_178 : decode cX12_next 178 = .ok (.bipush 59, 2) := dk_16 59 (dk_at dksX12_next_7 10 rfl rfl)
theorem dX12_next_180 : decode cX12_next 180 = .ok (.bipush 59, 2) := dk_16 59 (dk_at dksX12_next_7 12 rfl rfl)
theorem dX12_next_182 : decode cX12_next 182 = .ok (.invokevirtual 36, 3) := dk_182 0 36 (dk_at dksX12_next_7 14 rfl rfl)
theorem dX12_next_185 : decode cX12_next 185 = .ok (.ifCond .eq 7, 3) := dk_153 0 7 (dk_at dksX12_next_7 17 rfl rfl)
theorem dX12_next_188 : decode cX12_next 188 = .ok (.iconst 3, 1) := dk_6 (dk_at dksX12_next_7 20 rfl rfl)
theorem dX12_next_189 : decode cX12_next 189 = .ok (.goto 4, 3) := dk_167 0 4 (dk_at dksX12_next_7 21 rfl rfl)
theorem dX12_next_192 : decode cX12_next 192 = .ok (.iconst 4, 1) := dk_7 (dk_at dksX12_next_8 0 rfl rfl)
theorem dX12_next_193 : decode cX12_next 193 = .ok (.putfield 46, 3) := dk_181 0 46 (dk_at dksX12_next_8 1 rfl rfl)
theorem dX12_next_196 : decode cX12_next 196 = .ok (.aload_n 0, 1) := dk_42 (dk_at dksX12_next_8 4 rfl rfl)
theorem dX12_next_197 : decode cX12_next 197 = .ok (.dup, 1) := dk_89 (dk_at dksX12_next_8 5 rfl rfl)
theorem dX12_next_198 : decode cX12_next 198 = .ok (.getfield 29, 3) := dk_180 0 29 (dk_at dksX12_next_8 6 rfl rfl)
theorem dX12_next_201 : decode cX12_next 201 = .ok (.iconst 1, 1) := dk_4 (dk_at dksX12_next_8 9 rfl rfl)
theorem dX12_next_202 : decode cX12_next 202 = .ok (.iadd, 1) := dk_96 (dk_at dksX12_next_8 10 rfl rfl)
theorem dX12_next_203 : decode cX12_next 203 = .ok (.putfield 29, 3) := dk_181 0 29 (dk_at dksX12_next_8 11 rfl rfl)
theorem dX12_next_206 : decode cX12_next 206 = .ok (.return_, 1) := dk_177 (dk_at dksX12_next_8 14 rfl rfl)
abbrev cX12_isAt : ByteArray := prog_10_method_2_code
def yX12_isAt : MethodName := ⟨RX12, "isAt", "(II)Z"⟩
def dkwX12_isAt_1 : List UInt8 := [133, 184, 0, 32, 153, 0, 7, 4, 167, 0, 4, 3, 172]
abbrev dktX12_isAt_1 : List UInt8 := dkwX12_isAt_1 ++ []
def dkwX12_isAt_0 : List UInt8 := [42, 180, 0, 29, 42, 180, 0, 22, 162, 0, 27, 42, 180, 0, 18, 42, 180, 0, 29, 51, 133, 27, 133, 28]
abbrev dktX12_isAt_0 : List UInt8 := dkwX12_isAt_0 ++ dktX12_isAt_1
theorem dksX12_isAt_0 : cX12_isAt.data.toList.drop 0 = dktX12_isAt_0 := by decide +kernel
theorem dksX12_isAt_1 : cX12_isAt.data.toList.drop 24 = dktX12_isAt_1 := dk_seg dksX12_isAt_0 24 rfl rfl
theorem dX12_isAt_0 : decode cX12_isAt 0 = .ok (.aload_n 0, 1) := dk_42 (dk_at dksX12_isAt_0 0 rfl rfl)
theorem dX12_isAt_1 : decode cX12_isAt 1 = .ok (.getfield 29, 3) := dk_180 0 29 (dk_at dksX12_isAt_0 1 rfl rfl)
theorem dX12_isAt_4 : decode cX12_isAt 4 = .ok (.aload_n 0, 1) := dk_42 (dk_at dksX12_isAt_0 4 rfl rfl)
theorem dX12_isAt_5 : decode cX12_isAt 5 = .ok (.getfield 22, 3) := dk_180 0 22 (dk_at dksX12_isAt_0 5 rfl rfl)
theorem dX12_isAt_8 : decode cX12_isAt 8 = .ok (.if_icmp .ge 27, 3) := dk_162 0 27 (dk_at dksX12_isAt_0 8 rfl rfl)
theorem dX12_isAt_11 : decode cX12_isAt 11 = .ok (.aload_n 0, 1) := dk_42 (dk_at dksX12_isAt_0 11 rfl rfl)
theorem dX12_isAt_12 : decode cX12_isAt 12 = .ok (.getfield 18, 3) := dk_180 0 18 (dk_at dksX12_isAt_0 12 rfl rfl)
theorem dX12_isAt_15 : decode cX12_isAt 15 = .ok (.aload_n 0, 1) := dk_42 (dk_at dksX12_isAt_0 15 rfl rfl)
theorem dX12_isAt_16 : decode cX12_isAt 16 = .ok (.getfield 29, 3) := dk_180 0 29 (dk_at dksX12_isAt_0 16 rfl rfl)
theorem dX12_isAt_19 : decode cX12_isAt 19 = .ok (.baload, 1) := dk_51 (dk_at dksX12_isAt_0 19 rfl rfl)
theorem dX12_isAt_20 : decode cX12_isAt 20 = .ok (.i2l, 1) := dk_133 (dk_at dksX12_isAt_0 20 rfl rfl)
theorem dX12_isAt_21 : decode cX12_isAt 21 = .ok (.iload_n 1, 1) := dk_27 (dk_at dksX12_isAt_0 21 rfl rfl)
theorem dX12_isAt_22 : decode cX12_isAt 22 = .ok (.i2l, 1) := dk_133 (dk_at dksX12_isAt_0 22 rfl rfl)
theorem dX12_isAt_23 : decode cX12_isAt 23 = .ok (.iload_n 2, 1) := dk_28 (dk_at dksX12_isAt_0 23 rfl rfl)
theorem dX12_isAt_24 : decode cX12_isAt 24 = .ok (.i2l, 1) := dk_133 (dk_at dksX12_isAt_1 0 rfl rfl)
theorem dX12_isAt_25 : decode cX12_isAt 25 = .ok (.invokestatic 32, 3) := dk_184 0 32 (dk_at dksX12_isAt_1 1 rfl rfl)
theorem dX12_isAt_28 : decode cX12_isAt 28 = .ok (.ifCond .eq 7, 3) := dk_153 0 7 (dk_at dksX12_isAt_1 4 rfl rfl)
theorem dX12_isAt_31 : decode cX12_isAt 31 = .ok (.iconst 1, 1) := dk_4 (dk_at dksX12_isAt_1 7 rfl rfl)
theorem dX12_isAt_32 : decode cX12_isAt 32 = .ok (.goto 4, 3) := dk_167 0 4 (dk_at dksX12_isAt_1 8 rfl rfl)
theorem dX12_isAt_35 : decode cX12_isAt 35 = .ok (.iconst 0, 1) := dk_3 (dk_at dksX12_isAt_1 11 rfl rfl)
theorem dX12_isAt_36 : decode cX12_isAt 36 = .ok (.ireturn, 1) := dk_172 (dk_at dksX12_isAt_1 12 rfl rfl)
abbrev cX12_reads : ByteArray := prog_10_method_17_code
def yX12_reads : MethodName := ⟨RX12, "reads", "()LWarByHours$War;"⟩
def dkwX12_reads_5 : List UInt8 := [182, 0, 26, 42, 180, 0, 12, 89, 180, 0, 200, 4, 96, 181, 0, 200, 167, 255, 124, 42, 180, 0, 12, 176]
abbrev dktX12_reads_5 : List UInt8 := dkwX12_reads_5 ++ []
def dkwX12_reads_4 : List UInt8 := [167, 0, 7, 42, 182, 0, 221, 42, 180, 0, 46, 6, 159, 0, 9, 42, 4, 182, 0, 78, 191, 42]
abbrev dktX12_reads_4 : List UInt8 := dkwX12_reads_4 ++ dktX12_reads_5
def dkwX12_reads_3 : List UInt8 := [182, 0, 93, 181, 0, 215, 42, 180, 0, 12, 42, 18, 217, 3, 16, 100, 182, 0, 93, 181, 0, 219]
abbrev dktX12_reads_3 : List UInt8 := dkwX12_reads_3 ++ dktX12_reads_4
def dkwX12_reads_2 : List UInt8 := [180, 0, 12, 180, 0, 207, 4, 100, 182, 0, 93, 181, 0, 211, 42, 180, 0, 12, 42, 18, 213, 3, 16, 60]
abbrev dktX12_reads_2 : List UInt8 := dkwX12_reads_2 ++ dktX12_reads_3
def dkwX12_reads_1 : List UInt8 := [180, 0, 12, 42, 18, 205, 4, 16, 60, 182, 0, 93, 181, 0, 207, 42, 180, 0, 12, 42, 18, 209, 3, 42]
abbrev dktX12_reads_1 : List UInt8 := dkwX12_reads_1 ++ dktX12_reads_2
def dkwX12_reads_0 : List UInt8 := [42, 180, 0, 46, 153, 0, 131, 42, 180, 0, 12, 180, 0, 200, 154, 0, 83, 42, 18, 203, 182, 0, 82, 42]
abbrev dktX12_reads_0 : List UInt8 := dkwX12_reads_0 ++ dktX12_reads_1
theorem dksX12_reads_0 : cX12_reads.data.toList.drop 0 = dktX12_reads_0 := by decide +kernel
theorem dksX12_reads_1 : cX12_reads.data.toList.drop 24 = dktX12_reads_1 := dk_seg dksX12_reads_0 24 rfl rfl
theorem dksX12_reads_2 : cX12_reads.data.toList.drop 48 = dktX12_reads_2 := dk_seg dksX12_reads_1 24 rfl rfl
theorem dksX12_reads_3 : cX12_reads.data.toList.drop 72 = dktX12_reads_3 := dk_seg dksX12_reads_2 24 rfl rfl
theorem dksX12_reads_4 : cX12_reads.data.toList.drop 94 = dktX12_reads_4 := dk_seg dksX12_reads_3 22 rfl rfl
theorem dksX12_reads_5 : cX12_reads.data.toList.drop 116 = dktX12_reads_5 := dk_seg dksX12_reads_4 22 rfl rfl
theorem dX12_reads_0 : decode cX12_reads 0 = .ok (.aload_n 0, 1) := dk_42 (dk_at dksX12_reads_0 0 rfl rfl)
theorem dX12_reads_1 : decode cX12_reads 1 = .ok (.getfield 46, 3) := dk_180 0 46 (dk_at dksX12_reads_0 1 rfl rfl)
theorem dX12_reads_4 : decode cX12_reads 4 = .ok (.ifCond .eq 131, 3) := dk_153 0 131 (dk_at dksX12_reads_0 4 rfl rfl)
theorem dX12_reads_7 : decode cX12_reads 7 = .ok (.aload_n 0, 1) := dk_42 (dk_at dksX12_reads_0 7 rfl rfl)
theorem dX12_reads_8 : decode cX12_reads 8 = .ok (.getfield 12, 3) := dk_180 0 12 (dk_at dksX12_reads_0 8 rfl rfl)
theorem dX12_reads_11 : decode cX12_reads 11 = .ok (.getfield 200, 3) := dk_180 0 200 (dk_at dksX12_reads_0 11 rfl rfl)
theorem dX12_reads_14 : decode cX12_reads 14 = .ok (.ifCond .ne 83, 3) := dk_154 0 83 (dk_at dksX12_reads_0 14 rfl rfl)
theorem dX12_reads_17 : decode cX12_reads 17 = .ok (.aload_n 0, 1) := dk_42 (dk_at dksX12_reads_0 17 rfl rfl)
theorem dX12_reads_18 : decode cX12_reads 18 = .ok (.ldc 203, 2) := dk_18 203 (dk_at dksX12_reads_0 18 rfl rfl)
theorem dX12_reads_20 : decode cX12_reads 20 = .ok (.invokevirtual 82, 3) := dk_182 0 82 (dk_at dksX12_reads_0 20 rfl rfl)
theorem dX12_reads_23 : decode cX12_reads 23 = .ok (.aload_n 0, 1) := dk_42 (dk_at dksX12_reads_0 23 rfl rfl)
theorem dX12_reads_24 : decode cX12_reads 24 = .ok (.getfield 12, 3) := dk_180 0 12 (dk_at dksX12_reads_1 0 rfl rfl)
theorem dX12_reads_27 : decode cX12_reads 27 = .ok (.aload_n 0, 1) := dk_42 (dk_at dksX12_reads_1 3 rfl rfl)
theorem dX12_reads_28 : decode cX12_reads 28 = .ok (.ldc 205, 2) := dk_18 205 (dk_at dksX12_reads_1 4 rfl rfl)
theorem dX12_reads_30 : decode cX12_reads 30 = .ok (.iconst 1, 1) := dk_4 (dk_at dksX12_reads_1 6 rfl rfl)
theorem dX12_reads_31 : decode cX12_reads 31 = .ok (.bipush 60, 2) := dk_16 60 (dk_at dksX12_reads_1 7 rfl rfl)
theorem dX12_reads_33 : decode cX12_reads 33 = .ok (.invokevirtual 93, 3) := dk_182 0 93 (dk_at dksX12_reads_1 9 rfl rfl)
theorem dX12_reads_36 : decode cX12_reads 36 = .ok (.putfield 207, 3) := dk_181 0 207 (dk_at dksX12_reads_1 12 rfl rfl)
theorem dX12_reads_39 : decode cX12_reads 39 = .ok (.aload_n 0, 1) := dk_42 (dk_at dksX12_reads_1 15 rfl rfl)
theorem dX12_reads_40 : decode cX12_reads 40 = .ok (.getfield 12, 3) := dk_180 0 12 (dk_at dksX12_reads_1 16 rfl rfl)
theorem dX12_reads_43 : decode cX12_reads 43 = .ok (.aload_n 0, 1) := dk_42 (dk_at dksX12_reads_1 19 rfl rfl)
theorem dX12_reads_44 : decode cX12_reads 44 = .ok (.ldc 209, 2) := dk_18 209 (dk_at dksX12_reads_1 20 rfl rfl)
theorem dX12_reads_46 : decode cX12_reads 46 = .ok (.iconst 0, 1) := dk_3 (dk_at dksX12_reads_1 22 rfl rfl)
theorem dX12_reads_47 : decode cX12_reads 47 = .ok (.aload_n 0, 1) := dk_42 (dk_at dksX12_reads_1 23 rfl rfl)
theorem dX12_reads_48 : decode cX12_reads 48 = .ok (.getfield 12, 3) := dk_180 0 12 (dk_at dksX12_reads_2 0 rfl rfl)
theorem dX12_reads_51 : decode cX12_reads 51 = .ok (.getfield 207, 3) := dk_180 0 207 (dk_at dksX12_reads_2 3 rfl rfl)
theorem dX12_reads_54 : decode cX12_reads 54 = .ok (.iconst 1, 1) := dk_4 (dk_at dksX12_reads_2 6 rfl rfl)
theorem dX12_reads_55 : decode cX12_reads 55 = .ok (.isub, 1) := dk_100 (dk_at dksX12_reads_2 7 rfl rfl)
theorem dX12_reads_56 : decode cX12_reads 56 = .ok (.invokevirtual 93, 3) := dk_182 0 93 (dk_at dksX12_reads_2 8 rfl rfl)
theorem dX12_reads_59 : decode cX12_reads 59 = .ok (.putfield 211, 3) := dk_181 0 211 (dk_at dksX12_reads_2 11 rfl rfl)
theorem dX12_reads_62 : decode cX12_reads 62 = .ok (.aload_n 0, 1) := dk_42 (dk_at dksX12_reads_2 14 rfl rfl)
theorem dX12_reads_63 : decode cX12_reads 63 = .ok (.getfield 12, 3) := dk_180 0 12 (dk_at dksX12_reads_2 15 rfl rfl)
theorem dX12_reads_66 : decode cX12_reads 66 = .ok (.aload_n 0, 1) := dk_42 (dk_at dksX12_reads_2 18 rfl rfl)
theorem dX12_reads_67 : decode cX12_reads 67 = .ok (.ldc 213, 2) := dk_18 213 (dk_at dksX12_reads_2 19 rfl rfl)
theorem dX12_reads_69 : decode cX12_reads 69 = .ok (.iconst 0, 1) := dk_3 (dk_at dksX12_reads_2 21 rfl rfl)
theorem dX12_reads_70 : decode cX12_reads 70 = .ok (.bipush 60, 2) := dk_16 60 (dk_at dksX12_reads_2 22 rfl rfl)
theorem dX12_reads_72 : decode cX12_reads 72 = .ok (.invokevirtual 93, 3) := dk_182 0 93 (dk_at dksX12_reads_3 0 rfl rfl)
theorem dX12_reads_75 : decode cX12_reads 75 = .ok (.putfield 215, 3) := dk_181 0 215 (dk_at dksX12_reads_3 3 rfl rfl)
theorem dX12_reads_78 : decode cX12_reads 78 = .ok (.aload_n 0, 1) := dk_42 (dk_at dksX12_reads_3 6 rfl rfl)
theorem dX12_reads_79 : decode cX12_reads 79 = .ok (.getfield 12, 3) := dk_180 0 12 (dk_at dksX12_reads_3 7 rfl rfl)
theorem dX12_reads_82 : decode cX12_reads 82 = .ok (.aload_n 0, 1) := dk_42 (dk_at dksX12_reads_3 10 rfl rfl)
theorem dX12_reads_83 : decode cX12_reads 83 = .ok (.ldc 217, 2) := dk_18 217 (dk_at dksX12_reads_3 11 rfl rfl)
theorem dX12_reads_85 : decode cX12_reads 85 = .ok (.iconst 0, 1) := dk_3 (dk_at dksX12_reads_3 13 rfl rfl)
theorem dX12_reads_86 : decode cX12_reads 86 = .ok (.bipush 100, 2) := dk_16 100 (dk_at dksX12_reads_3 14 rfl rfl)
theorem dX12_reads_88 : decode cX12_reads 88 = .ok (.invokevirtual 93, 3) := dk_182 0 93 (dk_at dksX12_reads_3 16 rfl rfl)
theorem dX12_reads_91 : decode cX12_reads 91 = .ok (.putfield 219, 3) := dk_181 0 219 (dk_at dksX12_reads_3 19 rfl rfl)
theorem dX12_reads_94 : decode cX12_reads 94 = .ok (.goto 7, 3) := dk_167 0 7 (dk_at dksX12_reads_4 0 rfl rfl)
theorem dX12_reads_97 : decode cX12_reads 97 = .ok (.aload_n 0, 1) := dk_42 (dk_at dksX12_reads_4 3 rfl rfl)
theorem dX12_reads_98 : decode cX12_reads 98 = .ok (.invokevirtual 221, 3) := dk_182 0 221 (dk_at dksX12_reads_4 4 rfl rfl)
theorem dX12_reads_101 : decode cX12_reads 101 = .ok (.aload_n 0, 1) := dk_42 (dk_at dksX12_reads_4 7 rfl rfl)
theorem dX12_reads_102 : decode cX12_reads 102 = .ok (.getfield 46, 3) := dk_180 0 46 (dk_at dksX12_reads_4 8 rfl rfl)
theorem dX12_reads_105 : decode cX12_reads 105 = .ok (.iconst 3, 1) := dk_6 (dk_at dksX12_reads_4 11 rfl rfl)
theorem dX12_reads_106 : decode cX12_reads 106 = .ok (.if_icmp .eq 9, 3) := dk_159 0 9 (dk_at dksX12_reads_4 12 rfl rfl)
theorem dX12_reads_109 : decode cX12_reads 109 = .ok (.aload_n 0, 1) := dk_42 (dk_at dksX12_reads_4 15 rfl rfl)
theorem dX12_reads_110 : decode cX12_reads 110 = .ok (.iconst 1, 1) := dk_4 (dk_at dksX12_reads_4 16 rfl rfl)
theorem dX12_reads_111 : decode cX12_reads 111 = .ok (.invokevirtual 78, 3) := dk_182 0 78 (dk_at dksX12_reads_4 17 rfl rfl)
theorem dX12_reads_114 : decode cX12_reads 114 = .ok (.athrow, 1) := dk_191 (dk_at dksX12_reads_4 20 rfl rfl)
theorem dX12_reads_115 : decode cX12_reads 115 = .ok (.aload_n 0, 1) := dk_42 (dk_at dksX12_reads_4 21 rfl rfl)
theorem dX12_reads_116 : decode cX12_reads 116 = .ok (.invokevirtual 26, 3) := dk_182 0 26 (dk_at dksX12_reads_5 0 rfl rfl)
theorem dX12_reads_119 : decode cX12_reads 119 = .ok (.aload_n 0, 1) := dk_42 (dk_at dksX12_reads_5 3 rfl rfl)
theorem dX12_reads_120 : decode cX12_reads 120 = .ok (.getfield 12, 3) := dk_180 0 12 (dk_at dksX12_reads_5 4 rfl rfl)
theorem dX12_reads_123 : decode cX12_reads 123 = .ok (.dup, 1) := dk_89 (dk_at dksX12_reads_5 7 rfl rfl)
theorem dX12_reads_124 : decode cX12_reads 124 = .ok (.getfield 200, 3) := dk_180 0 200 (dk_at dksX12_reads_5 8 rfl rfl)
theorem dX12_reads_127 : decode cX12_reads 127 = .ok (.iconst 1, 1) := dk_4 (dk_at dksX12_reads_5 11 rfl rfl)
theorem dX12_reads_128 : decode cX12_reads 128 = .ok (.iadd, 1) := dk_96 (dk_at dksX12_reads_5 12 rfl rfl)
theorem dX12_reads_129 : decode cX12_reads 129 = .ok (.putfield 200, 3) := dk_181 0 200 (dk_at dksX12_reads_5 13 rfl rfl)
theorem dX12_reads_132 : decode cX12_reads 132 = .ok (.goto (-132), 3) := dk_167 255 124 (dk_at dksX12_reads_5 16 rfl rfl)
theorem dX12_reads_135 : decode cX12_reads 135 = .ok (.aload_n 0, 1) := dk_42 (dk_at dksX12_reads_5 19 rfl rfl)
theorem dX12_reads_136 : decode cX12_reads 136 = .ok (.getfield 12, 3) := dk_180 0 12 (dk_at dksX12_reads_5 20 rfl rfl)
theorem dX12_reads_139 : decode cX12_reads 139 = .ok (.areturn, 1) := dk_176 (dk_at dksX12_reads_5 23 rfl rfl)
abbrev cX12_asks : ByteArray := prog_10_method_7_code
def yX12_asks : MethodName := ⟨RX12, "asks", "(Ljava/lang/String;)V"⟩
def dkwX12_asks_0 : List UInt8 := [42, 43, 182, 0, 75, 154, 0, 9, 42, 4, 182, 0, 78, 191, 177]
abbrev dktX12_asks_0 : List UInt8 := dkwX12_asks_0 ++ []
theorem dksX12_asks_0 : cX12_asks.data.toList.drop 0 = dktX12_asks_0 := by decide +kernel
theorem dX12_asks_0 : decode cX12_asks 0 = .ok (.aload_n 0, 1) := dk_42 (dk_at dksX12_asks_0 0 rfl rfl)
theorem dX12_asks_1 : decode cX12_asks 1 = .ok (.aload_n 1, 1) := dk_43 (dk_at dksX12_asks_0 1 rfl rfl)
theorem dX12_asks_2 : decode cX12_asks 2 = .ok (.invokevirtual 75, 3) := dk_182 0 75 (dk_at dksX12_asks_0 2 rfl rfl)
theorem dX12_asks_5 : decode cX12_asks 5 = .ok (.ifCond .ne 9, 3) := dk_154 0 9 (dk_at dksX12_asks_0 5 rfl rfl)
theorem dX12_asks_8 : decode cX12_asks 8 = .ok (.aload_n 0, 1) := dk_42 (dk_at dksX12_asks_0 8 rfl rfl)
theorem dX12_asks_9 : decode cX12_asks 9 = .ok (.iconst 1, 1) := dk_4 (dk_at dksX12_asks_0 9 rfl rfl)
theorem dX12_asks_10 : decode cX12_asks 10 = .ok (.invokevirtual 78, 3) := dk_182 0 78 (dk_at dksX12_asks_0 10 rfl rfl)
theorem dX12_asks_13 : decode cX12_asks 13 = .ok (.athrow, 1) := dk_191 (dk_at dksX12_asks_0 13 rfl rfl)
theorem dX12_asks_14 : decode cX12_asks 14 = .ok (.return_, 1) := dk_177 (dk_at dksX12_asks_0 14 rfl rfl)
abbrev cX12_takes : ByteArray := prog_10_method_6_code
def yX12_takes : MethodName := ⟨RX12, "takes", "(Ljava/lang/String;)Z"⟩
def dkwX12_takes_0 : List UInt8 := [42, 43, 182, 0, 71, 61, 28, 153, 0, 7, 42, 182, 0, 26, 28, 172]
abbrev dktX12_takes_0 : List UInt8 := dkwX12_takes_0 ++ []
theorem dksX12_takes_0 : cX12_takes.data.toList.drop 0 = dktX12_takes_0 := by decide +kernel
theorem dX12_takes_0 : decode cX12_takes 0 = .ok (.aload_n 0, 1) := dk_42 (dk_at dksX12_takes_0 0 rfl rfl)
theorem dX12_takes_1 : decode cX12_takes 1 = .ok (.aload_n 1, 1) := dk_43 (dk_at dksX12_takes_0 1 rfl rfl)
theorem dX12_takes_2 : decode cX12_takes 2 = .ok (.invokevirtual 71, 3) := dk_182 0 71 (dk_at dksX12_takes_0 2 rfl rfl)
theorem dX12_takes_5 : decode cX12_takes 5 = .ok (.istore_n 2, 1) := dk_61 (dk_at dksX12_takes_0 5 rfl rfl)
theorem dX12_takes_6 : decode cX12_takes 6 = .ok (.iload_n 2, 1) := dk_28 (dk_at dksX12_takes_0 6 rfl rfl)
theorem dX12_takes_7 : decode cX12_takes 7 = .ok (.ifCond .eq 7, 3) := dk_153 0 7 (dk_at dksX12_takes_0 7 rfl rfl)
theorem dX12_takes_10 : decode cX12_takes 10 = .ok (.aload_n 0, 1) := dk_42 (dk_at dksX12_takes_0 10 rfl rfl)
theorem dX12_takes_11 : decode cX12_takes 11 = .ok (.invokevirtual 26, 3) := dk_182 0 26 (dk_at dksX12_takes_0 11 rfl rfl)
theorem dX12_takes_14 : decode cX12_takes 14 = .ok (.iload_n 2, 1) := dk_28 (dk_at dksX12_takes_0 14 rfl rfl)
theorem dX12_takes_15 : decode cX12_takes 15 = .ok (.ireturn, 1) := dk_172 (dk_at dksX12_takes_0 15 rfl rfl)
abbrev cX12_is : ByteArray := prog_10_method_5_code
def yX12_is : MethodName := ⟨RX12, "is", "(Ljava/lang/String;)Z"⟩
def dkwX12_is_2 : List UInt8 := [28, 182, 0, 67, 159, 0, 5, 3, 172, 132, 2, 1, 167, 255, 224, 4, 172]
abbrev dktX12_is_2 : List UInt8 := dkwX12_is_2 ++ []
def dkwX12_is_1 : List UInt8 := [3, 172, 3, 61, 28, 43, 182, 0, 61, 162, 0, 30, 42, 180, 0, 18, 42, 180, 0, 40, 28, 96, 51, 43]
abbrev dktX12_is_1 : List UInt8 := dkwX12_is_1 ++ dktX12_is_2
def dkwX12_is_0 : List UInt8 := [42, 180, 0, 46, 4, 160, 0, 19, 42, 180, 0, 29, 42, 180, 0, 40, 100, 43, 182, 0, 61, 159, 0, 5]
abbrev dktX12_is_0 : List UInt8 := dkwX12_is_0 ++ dktX12_is_1
theorem dksX12_is_0 : cX12_is.data.toList.drop 0 = dktX12_is_0 := by decide +kernel
theorem dksX12_is_1 : cX12_is.data.toList.drop 24 = dktX12_is_1 := dk_seg dksX12_is_0 24 rfl rfl
theorem dksX12_is_2 : cX12_is.data.toList.drop 48 = dktX12_is_2 := dk_seg dksX12_is_1 24 rfl rfl
theorem dX12_is_0 : decode cX12_is 0 = .ok (.aload_n 0, 1) := dk_42 (dk_at dksX12_is_0 0 rfl rfl)
theorem dX12_is_1 : decode cX12_is 1 = .ok (.getfield 46, 3) := dk_180 0 46 (dk_at dksX12_is_0 1 rfl rfl)
theorem dX12_is_4 : decode cX12_is 4 = .ok (.iconst 1, 1) := dk_4 (dk_at dksX12_is_0 4 rfl rfl)
theorem dX12_is_5 : decode cX12_is 5 = .ok (.if_icmp .ne 19, 3) := dk_160 0 19 (dk_at dksX12_is_0 5 rfl rfl)
theorem dX12_is_8 : decode cX12_is 8 = .ok (.aload_n 0, 1) := dk_42 (dk_at dksX12_is_0 8 rfl rfl)
theorem dX12_is_9 : decode cX12_is 9 = .ok (.getfield 29, 3) := dk_180 0 29 (dk_at dksX12_is_0 9 rfl rfl)
theorem dX12_is_12 : decode cX12_is 12 = .ok (.aload_n 0, 1) := dk_42 (dk_at dksX12_is_0 12 rfl rfl)
theorem dX12_is_13 : decode cX12_is 13 = .ok (.getfield 40, 3) := dk_180 0 40 (dk_at dksX12_is_0 13 rfl rfl)
theorem dX12_is_16 : decode cX12_is 16 = .ok (.isub, 1) := dk_100 (dk_at dksX12_is_0 16 rfl rfl)
theorem dX12_is_17 : decode cX12_is 17 = .ok (.aload_n 1, 1) := dk_43 (dk_at dksX12_is_0 17 rfl rfl)
theorem dX12_is_18 : decode cX12_is 18 = .ok (.invokevirtual 61, 3) := dk_182 0 61 (dk_at dksX12_is_0 18 rfl rfl)
theorem dX12_is_21 : decode cX12_is 21 = .ok (.if_icmp .eq 5, 3) := dk_159 0 5 (dk_at dksX12_is_0 21 rfl rfl)
theorem dX12_is_24 : decode cX12_is 24 = .ok (.iconst 0, 1) := dk_3 (dk_at dksX12_is_1 0 rfl rfl)
theorem dX12_is_25 : decode cX12_is 25 = .ok (.ireturn, 1) := dk_172 (dk_at dksX12_is_1 1 rfl rfl)
theorem dX12_is_26 : decode cX12_is 26 = .ok (.iconst 0, 1) := dk_3 (dk_at dksX12_is_1 2 rfl rfl)
theorem dX12_is_27 : decode cX12_is 27 = .ok (.istore_n 2, 1) := dk_61 (dk_at dksX12_is_1 3 rfl rfl)
theorem dX12_is_28 : decode cX12_is 28 = .ok (.iload_n 2, 1) := dk_28 (dk_at dksX12_is_1 4 rfl rfl)
theorem dX12_is_29 : decode cX12_is 29 = .ok (.aload_n 1, 1) := dk_43 (dk_at dksX12_is_1 5 rfl rfl)
theorem dX12_is_30 : decode cX12_is 30 = .ok (.invokevirtual 61, 3) := dk_182 0 61 (dk_at dksX12_is_1 6 rfl rfl)
theorem dX12_is_33 : decode cX12_is 33 = .ok (.if_icmp .ge 30, 3) := dk_162 0 30 (dk_at dksX12_is_1 9 rfl rfl)
theorem dX12_is_36 : decode cX12_is 36 = .ok (.aload_n 0, 1) := dk_42 (dk_at dksX12_is_1 12 rfl rfl)
theorem dX12_is_37 : decode cX12_is 37 = .ok (.getfield 18, 3) := dk_180 0 18 (dk_at dksX12_is_1 13 rfl rfl)
theorem dX12_is_40 : decode cX12_is 40 = .ok (.aload_n 0, 1) := dk_42 (dk_at dksX12_is_1 16 rfl rfl)
theorem dX12_is_41 : decode cX12_is 41 = .ok (.getfield 40, 3) := dk_180 0 40 (dk_at dksX12_is_1 17 rfl rfl)
theorem dX12_is_44 : decode cX12_is 44 = .ok (.iload_n 2, 1) := dk_28 (dk_at dksX12_is_1 20 rfl rfl)
theorem dX12_is_45 : decode cX12_is 45 = .ok (.iadd, 1) := dk_96 (dk_at dksX12_is_1 21 rfl rfl)
theorem dX12_is_46 : decode cX12_is 46 = .ok (.baload, 1) := dk_51 (dk_at dksX12_is_1 22 rfl rfl)
theorem dX12_is_47 : decode cX12_is 47 = .ok (.aload_n 1, 1) := dk_43 (dk_at dksX12_is_1 23 rfl rfl)
theorem dX12_is_48 : decode cX12_is 48 = .ok (.iload_n 2, 1) := dk_28 (dk_at dksX12_is_2 0 rfl rfl)
theorem dX12_is_49 : decode cX12_is 49 = .ok (.invokevirtual 67, 3) := dk_182 0 67 (dk_at dksX12_is_2 1 rfl rfl)
theorem dX12_is_52 : decode cX12_is 52 = .ok (.if_icmp .eq 5, 3) := dk_159 0 5 (dk_at dksX12_is_2 4 rfl rfl)
theorem dX12_is_55 : decode cX12_is 55 = .ok (.iconst 0, 1) := dk_3 (dk_at dksX12_is_2 7 rfl rfl)
theorem dX12_is_56 : decode cX12_is 56 = .ok (.ireturn, 1) := dk_172 (dk_at dksX12_is_2 8 rfl rfl)
theorem dX12_is_57 : decode cX12_is 57 = .ok (.iinc 2 1, 3) := dk_132 2 1 (dk_at dksX12_is_2 9 rfl rfl)
theorem dX12_is_60 : decode cX12_is 60 = .ok (.goto (-32), 3) := dk_167 255 224 (dk_at dksX12_is_2 12 rfl rfl)
theorem dX12_is_63 : decode cX12_is 63 = .ok (.iconst 1, 1) := dk_4 (dk_at dksX12_is_2 15 rfl rfl)
theorem dX12_is_64 : decode cX12_is 64 = .ok (.ireturn, 1) := dk_172 (dk_at dksX12_is_2 16 rfl rfl)
abbrev cX12_fault : ByteArray := prog_10_method_4_code
def yX12_fault : MethodName := ⟨RX12, "fault", "(I)LWarByHours$Fault;"⟩
def dkwX12_fault_0 : List UInt8 := [187, 0, 56, 89, 27, 42, 180, 0, 40, 183, 0, 58, 176]
abbrev dktX12_fault_0 : List UInt8 := dkwX12_fault_0 ++ []
theorem dksX12_fault_0 : cX12_fault.data.toList.drop 0 = dktX12_fault_0 := by decide +kernel
theorem dX12_fault_0 : decode cX12_fault 0 = .ok (.new 56, 3) := dk_187 0 56 (dk_at dksX12_fault_0 0 rfl rfl)
theorem dX12_fault_3 : decode cX12_fault 3 = .ok (.dup, 1) := dk_89 (dk_at dksX12_fault_0 3 rfl rfl)
theorem dX12_fault_4 : decode cX12_fault 4 = .ok (.iload_n 1, 1) := dk_27 (dk_at dksX12_fault_0 4 rfl rfl)
theorem dX12_fault_5 : decode cX12_fault 5 = .ok (.aload_n 0, 1) := dk_42 (dk_at dksX12_fault_0 5 rfl rfl)
theorem dX12_fault_6 : decode cX12_fault 6 = .ok (.getfield 40, 3) := dk_180 0 40 (dk_at dksX12_fault_0 6 rfl rfl)
theorem dX12_fault_9 : decode cX12_fault 9 = .ok (.invokespecial 58, 3) := dk_183 0 58 (dk_at dksX12_fault_0 9 rfl rfl)
theorem dX12_fault_12 : decode cX12_fault 12 = .ok (.areturn, 1) := dk_176 (dk_at dksX12_fault_0 12 rfl rfl)
abbrev cX12_number : ByteArray := prog_10_method_9_code
def yX12_number : MethodName := ⟨RX12, "number", "(Ljava/lang/String;II)I"⟩
def dkwX12_number_0 : List UInt8 := [42, 43, 182, 0, 82, 42, 28, 29, 182, 0, 86, 172]
abbrev dktX12_number_0 : List UInt8 := dkwX12_number_0 ++ []
theorem dksX12_number_0 : cX12_number.data.toList.drop 0 = dktX12_number_0 := by decide +kernel
theorem dX12_number_0 : decode cX12_number 0 = .ok (.aload_n 0, 1) := dk_42 (dk_at dksX12_number_0 0 rfl rfl)
theorem dX12_number_1 : decode cX12_number 1 = .ok (.aload_n 1, 1) := dk_43 (dk_at dksX12_number_0 1 rfl rfl)
theorem dX12_number_2 : decode cX12_number 2 = .ok (.invokevirtual 82, 3) := dk_182 0 82 (dk_at dksX12_number_0 2 rfl rfl)
theorem dX12_number_5 : decode cX12_number 5 = .ok (.aload_n 0, 1) := dk_42 (dk_at dksX12_number_0 5 rfl rfl)
theorem dX12_number_6 : decode cX12_number 6 = .ok (.iload_n 2, 1) := dk_28 (dk_at dksX12_number_0 6 rfl rfl)
theorem dX12_number_7 : decode cX12_number 7 = .ok (.iload_n 3, 1) := dk_29 (dk_at dksX12_number_0 7 rfl rfl)
theorem dX12_number_8 : decode cX12_number 8 = .ok (.invokevirtual 86, 3) := dk_182 0 86 (dk_at dksX12_number_0 8 rfl rfl)
theorem dX12_number_11 : decode cX12_number 11 = .ok (.ireturn, 1) := dk_172 (dk_at dksX12_number_0 11 rfl rfl)
abbrev cX12_number_2 : ByteArray := prog_10_method_8_code
def yX12_number_2 : MethodName := ⟨RX12, "number", "(II)I"⟩
def dkwX12_number_2_1 : List UInt8 := [184, 0, 32, 154, 0, 9, 42, 5, 182, 0, 78, 191, 42, 180, 0, 43, 62, 42, 182, 0, 26, 29, 172]
abbrev dktX12_number_2_1 : List UInt8 := dkwX12_number_2_1 ++ []
def dkwX12_number_2_0 : List UInt8 := [42, 180, 0, 46, 5, 159, 0, 9, 42, 4, 182, 0, 78, 191, 42, 180, 0, 43, 133, 27, 133, 28, 133]
abbrev dktX12_number_2_0 : List UInt8 := dkwX12_number_2_0 ++ dktX12_number_2_1
theorem dksX12_number_2_0 : cX12_number_2.data.toList.drop 0 = dktX12_number_2_0 := by decide +kernel
theorem dksX12_number_2_1 : cX12_number_2.data.toList.drop 23 = dktX12_number_2_1 := dk_seg dksX12_number_2_0 23 rfl rfl
theorem dX12_number_2_0 : decode cX12_number_2 0 = .ok (.aload_n 0, 1) := dk_42 (dk_at dksX12_number_2_0 0 rfl rfl)
theorem dX12_number_2_1 : decode cX12_number_2 1 = .ok (.getfield 46, 3) := dk_180 0 46 (dk_at dksX12_number_2_0 1 rfl rfl)
theorem dX12_number_2_4 : decode cX12_number_2 4 = .ok (.iconst 2, 1) := dk_5 (dk_at dksX12_number_2_0 4 rfl rfl)
theorem dX12_number_2_5 : decode cX12_number_2 5 = .ok (.if_icmp .eq 9, 3) := dk_159 0 9 (dk_at dksX12_number_2_0 5 rfl rfl)
theorem dX12_number_2_8 : decode cX12_number_2 8 = .ok (.aload_n 0, 1) := dk_42 (dk_at dksX12_number_2_0 8 rfl rfl)
theorem dX12_number_2_9 : decode cX12_number_2 9 = .ok (.iconst 1, 1) := dk_4 (dk_at dksX12_number_2_0 9 rfl rfl)
theorem dX12_number_2_10 : decode cX12_number_2 10 = .ok (.invokevirtual 78, 3) := dk_182 0 78 (dk_at dksX12_number_2_0 10 rfl rfl)
theorem dX12_number_2_13 : decode cX12_number_2 13 = .ok (.athrow, 1) := dk_191 (dk_at dksX12_number_2_0 13 rfl rfl)
theorem dX12_number_2_14 : decode cX12_number_2 14 = .ok (.aload_n 0, 1) := dk_42 (dk_at dksX12_number_2_0 14 rfl rfl)
theorem dX12_number_2_15 : decode cX12_number_2 15 = .ok (.getfield 43, 3) := dk_180 0 43 (dk_at dksX12_number_2_0 15 rfl rfl)
theorem dX12_number_2_18 : decode cX12_number_2 18 = .ok (.i2l, 1) := dk_133 (dk_at dksX12_number_2_0 18 rfl rfl)
theorem dX12_number_2_19 : decode cX12_number_2 19 = .ok (.iload_n 1, 1) := dk_27 (dk_at dksX12_number_2_0 19 rfl rfl)
theorem dX12_number_2_20 : decode cX12_number_2 20 = .ok (.i2l, 1) := dk_133 (dk_at dksX12_number_2_0 20 rfl rfl)
theorem dX12_number_2_21 : decode cX12_number_2 21 = .ok (.iload_n 2, 1) := dk_28 (dk_at dksX12_number_2_0 21 rfl rfl)
theorem dX12_number_2_22 : decode cX12_number_2 22 = .ok (.i2l, 1) := dk_133 (dk_at dksX12_number_2_0 22 rfl rfl)
theorem dX12_number_2_23 : decode cX12_number_2 23 = .ok (.invokestatic 32, 3) := dk_184 0 32 (dk_at dksX12_number_2_1 0 rfl rfl)
theorem dX12_number_2_26 : decode cX12_number_2 26 = .ok (.ifCond .ne 9, 3) := dk_154 0 9 (dk_at dksX12_number_2_1 3 rfl rfl)
theorem dX12_number_2_29 : decode cX12_number_2 29 = .ok (.aload_n 0, 1) := dk_42 (dk_at dksX12_number_2_1 6 rfl rfl)
theorem dX12_number_2_30 : decode cX12_number_2 30 = .ok (.iconst 2, 1) := dk_5 (dk_at dksX12_number_2_1 7 rfl rfl)
theorem dX12_number_2_31 : decode cX12_number_2 31 = .ok (.invokevirtual 78, 3) := dk_182 0 78 (dk_at dksX12_number_2_1 8 rfl rfl)
theorem dX12_number_2_34 : decode cX12_number_2 34 = .ok (.athrow, 1) := dk_191 (dk_at dksX12_number_2_1 11 rfl rfl)
theorem dX12_number_2_35 : decode cX12_number_2 35 = .ok (.aload_n 0, 1) := dk_42 (dk_at dksX12_number_2_1 12 rfl rfl)
theorem dX12_number_2_36 : decode cX12_number_2 36 = .ok (.getfield 43, 3) := dk_180 0 43 (dk_at dksX12_number_2_1 13 rfl rfl)
theorem dX12_number_2_39 : decode cX12_number_2 39 = .ok (.istore_n 3, 1) := dk_62 (dk_at dksX12_number_2_1 16 rfl rfl)
theorem dX12_number_2_40 : decode cX12_number_2 40 = .ok (.aload_n 0, 1) := dk_42 (dk_at dksX12_number_2_1 17 rfl rfl)
theorem dX12_number_2_41 : decode cX12_number_2 41 = .ok (.invokevirtual 26, 3) := dk_182 0 26 (dk_at dksX12_number_2_1 18 rfl rfl)
theorem dX12_number_2_44 : decode cX12_number_2 44 = .ok (.iload_n 3, 1) := dk_29 (dk_at dksX12_number_2_1 21 rfl rfl)
theorem dX12_number_2_45 : decode cX12_number_2 45 = .ok (.ireturn, 1) := dk_172 (dk_at dksX12_number_2_1 22 rfl rfl)
abbrev cX12_line : ByteArray := prog_10_method_16_code
def yX12_line : MethodName := ⟨RX12, "line", "()V"⟩
def dkwX12_line_8 : List UInt8 := [79, 177]
abbrev dktX12_line_8 : List UInt8 := dkwX12_line_8 ++ []
def dkwX12_line_7 : List UInt8 := [182, 0, 82, 42, 182, 0, 113, 60, 42, 180, 0, 12, 180, 0, 196, 27, 42, 3, 17, 3, 231, 182, 0, 86]
abbrev dktX12_line_7 : List UInt8 := dkwX12_line_7 ++ dktX12_line_8
def dkwX12_line_6 : List UInt8 := [180, 0, 12, 180, 0, 191, 42, 182, 0, 185, 185, 0, 138, 2, 0, 87, 167, 0, 31, 42, 18, 194]
abbrev dktX12_line_6 : List UInt8 := dkwX12_line_6 ++ dktX12_line_7
def dkwX12_line_5 : List UInt8 := [180, 0, 12, 180, 0, 191, 185, 0, 101, 1, 0, 7, 162, 0, 7, 4, 167, 0, 4, 3, 182, 0, 106, 42]
abbrev dktX12_line_5 : List UInt8 := dkwX12_line_5 ++ dktX12_line_6
def dkwX12_line_4 : List UInt8 := [42, 182, 0, 185, 185, 0, 138, 2, 0, 87, 167, 0, 85, 42, 18, 189, 182, 0, 71, 153, 0, 48, 42, 42]
abbrev dktX12_line_4 : List UInt8 := dkwX12_line_4 ++ dktX12_line_5
def dkwX12_line_3 : List UInt8 := [185, 0, 101, 1, 0, 7, 162, 0, 7, 4, 167, 0, 4, 3, 182, 0, 106, 42, 180, 0, 12, 180, 0, 182]
abbrev dktX12_line_3 : List UInt8 := dkwX12_line_3 ++ dktX12_line_4
def dkwX12_line_2 : List UInt8 := [167, 0, 139, 42, 18, 180, 182, 0, 71, 153, 0, 48, 42, 42, 180, 0, 12, 180, 0, 182]
abbrev dktX12_line_2 : List UInt8 := dkwX12_line_2 ++ dktX12_line_3
def dkwX12_line_1 : List UInt8 := [153, 0, 10, 42, 182, 0, 172, 167, 0, 155, 42, 18, 175, 182, 0, 71, 153, 0, 10, 42, 182, 0, 177]
abbrev dktX12_line_1 : List UInt8 := dkwX12_line_1 ++ dktX12_line_2
def dkwX12_line_0 : List UInt8 := [42, 18, 165, 182, 0, 71, 153, 0, 10, 42, 182, 0, 167, 167, 0, 171, 42, 18, 170, 182, 0, 71]
abbrev dktX12_line_0 : List UInt8 := dkwX12_line_0 ++ dktX12_line_1
theorem dksX12_line_0 : cX12_line.data.toList.drop 0 = dktX12_line_0 := by decide +kernel
theorem dksX12_line_1 : cX12_line.data.toList.drop 22 = dktX12_line_1 := dk_seg dksX12_line_0 22 rfl rfl
theorem dksX12_line_2 : cX12_line.data.toList.drop 45 = dktX12_line_2 := dk_seg dksX12_line_1 23 rfl rfl
theorem dksX12_line_3 : cX12_line.data.toList.drop 65 = dktX12_line_3 := dk_seg dksX12_line_2 20 rfl rfl
theorem dksX12_line_4 : cX12_line.data.toList.drop 89 = dktX12_line_4 := dk_seg dksX12_line_3 24 rfl rfl
theorem dksX12_line_5 : cX12_line.data.toList.drop 113 = dktX12_line_5 := dk_seg dksX12_line_4 24 rfl rfl
theorem dksX12_line_6 : cX12_line.data.toList.drop 137 = dktX12_line_6 := dk_seg dksX12_line_5 24 rfl rfl
theorem dksX12_line_7 : cX12_line.data.toList.drop 159 = dktX12_line_7 := dk_seg dksX12_line_6 22 rfl rfl
theorem dksX12_line_8 : cX12_line.data.toList.drop 183 = dktX12_line_8 := dk_seg dksX12_line_7 24 rfl rfl
theorem dX12_line_0 : decode cX12_line 0 = .ok (.aload_n 0, 1) := dk_42 (dk_at dksX12_line_0 0 rfl rfl)
theorem dX12_line_1 : decode cX12_line 1 = .ok (.ldc 165, 2) := dk_18 165 (dk_at dksX12_line_0 1 rfl rfl)
theorem dX12_line_3 : decode cX12_line 3 = .ok (.invokevirtual 71, 3) := dk_182 0 71 (dk_at dksX12_line_0 3 rfl rfl)
theorem dX12_line_6 : decode cX12_line 6 = .ok (.ifCond .eq 10, 3) := dk_153 0 10 (dk_at dksX12_line_0 6 rfl rfl)
theorem dX12_line_9 : decode cX12_line 9 = .ok (.aload_n 0, 1) := dk_42 (dk_at dksX12_line_0 9 rfl rfl)
theorem dX12_line_10 : decode cX12_line 10 = .ok (.invokevirtual 167, 3) := dk_182 0 167 (dk_at dksX12_line_0 10 rfl rfl)
theorem dX12_line_13 : decode cX12_line 13 = .ok (.goto 171, 3) := dk_167 0 171 (dk_at dksX12_line_0 13 rfl rfl)
theorem dX12_line_16 : decode cX12_line 16 = .ok (.aload_n 0, 1) := dk_42 (dk_at dksX12_line_0 16 rfl rfl)
theorem dX12_line_17 : decode cX12_line 17 = .ok (.ldc 170, 2) := dk_18 170 (dk_at dksX12_line_0 17 rfl rfl)
theorem dX12_line_19 : decode cX12_line 19 = .ok (.invokevirtual 71, 3) := dk_182 0 71 (dk_at dksX12_line_0 19 rfl rfl)
theorem dX12_line_22 : decode cX12_line 22 = .ok (.ifCond .eq 10, 3) := dk_153 0 10 (dk_at dksX12_line_1 0 rfl rfl)
theorem dX12_line_25 : decode cX12_line 25 = .ok (.aload_n 0, 1) := dk_42 (dk_at dksX12_line_1 3 rfl rfl)
theorem dX12_line_26 : decode cX12_line 26 = .ok (.invokevirtual 172, 3) := dk_182 0 172 (dk_at dksX12_line_1 4 rfl rfl)
theorem dX12_line_29 : decode cX12_line 29 = .ok (.goto 155, 3) := dk_167 0 155 (dk_at dksX12_line_1 7 rfl rfl)
theorem dX12_line_32 : decode cX12_line 32 = .ok (.aload_n 0, 1) := dk_42 (dk_at dksX12_line_1 10 rfl rfl)
theorem dX12_line_33 : decode cX12_line 33 = .ok (.ldc 175, 2) := dk_18 175 (dk_at dksX12_line_1 11 rfl rfl)
theorem dX12_line_35 : decode cX12_line 35 = .ok (.invokevirtual 71, 3) := dk_182 0 71 (dk_at dksX12_line_1 13 rfl rfl)
theorem dX12_line_38 : decode cX12_line 38 = .ok (.ifCond .eq 10, 3) := dk_153 0 10 (dk_at dksX12_line_1 16 rfl rfl)
theorem dX12_line_41 : decode cX12_line 41 = .ok (.aload_n 0, 1) := dk_42 (dk_at dksX12_line_1 19 rfl rfl)
theorem dX12_line_42 : decode cX12_line 42 = .ok (.invokevirtual 177, 3) := dk_182 0 177 (dk_at dksX12_line_1 20 rfl rfl)
theorem dX12_line_45 : decode cX12_line 45 = .ok (.goto 139, 3) := dk_167 0 139 (dk_at dksX12_line_2 0 rfl rfl)
theorem dX12_line_48 : decode cX12_line 48 = .ok (.aload_n 0, 1) := dk_42 (dk_at dksX12_line_2 3 rfl rfl)
theorem dX12_line_49 : decode cX12_line 49 = .ok (.ldc 180, 2) := dk_18 180 (dk_at dksX12_line_2 4 rfl rfl)
theorem dX12_line_51 : decode cX12_line 51 = .ok (.invokevirtual 71, 3) := dk_182 0 71 (dk_at dksX12_line_2 6 rfl rfl)
theorem dX12_line_54 : decode cX12_line 54 = .ok (.ifCond .eq 48, 3) := dk_153 0 48 (dk_at dksX12_line_2 9 rfl rfl)
theorem dX12_line_57 : decode cX12_line 57 = .ok (.aload_n 0, 1) := dk_42 (dk_at dksX12_line_2 12 rfl rfl)
theorem dX12_line_58 : decode cX12_line 58 = .ok (.aload_n 0, 1) := dk_42 (dk_at dksX12_line_2 13 rfl rfl)
theorem dX12_line_59 : decode cX12_line 59 = .ok (.getfield 12, 3) := dk_180 0 12 (dk_at dksX12_line_2 14 rfl rfl)
theorem dX12_line_62 : decode cX12_line 62 = .ok (.getfield 182, 3) := dk_180 0 182 (dk_at dksX12_line_2 17 rfl rfl)
theorem dX12_line_65 : decode cX12_line 65 = .ok (.invokeinterface 101 1, 5) := by decide +kernel
theorem dX12_line_70 : decode cX12_line 70 = .ok (.iconst 4, 1) := dk_7 (dk_at dksX12_line_3 5 rfl rfl)
theorem dX12_line_71 : decode cX12_line 71 = .ok (.if_icmp .ge 7, 3) := dk_162 0 7 (dk_at dksX12_line_3 6 rfl rfl)
theorem dX12_line_74 : decode cX12_line 74 = .ok (.iconst 1, 1) := dk_4 (dk_at dksX12_line_3 9 rfl rfl)
theorem dX12_line_75 : decode cX12_line 75 = .ok (.goto 4, 3) := dk_167 0 4 (dk_at dksX12_line_3 10 rfl rfl)
theorem dX12_line_78 : decode cX12_line 78 = .ok (.iconst 0, 1) := dk_3 (dk_at dksX12_line_3 13 rfl rfl)
theorem dX12_line_79 : decode cX12_line 79 = .ok (.invokevirtual 106, 3) := dk_182 0 106 (dk_at dksX12_line_3 14 rfl rfl)
theorem dX12_line_82 : decode cX12_line 82 = .ok (.aload_n 0, 1) := dk_42 (dk_at dksX12_line_3 17 rfl rfl)
theorem dX12_line_83 : decode cX12_line 83 = .ok (.getfield 12, 3) := dk_180 0 12 (dk_at dksX12_line_3 18 rfl rfl)
theorem dX12_line_86 : decode cX12_line 86 = .ok (.getfield 182, 3) := dk_180 0 182 (dk_at dksX12_line_3 21 rfl rfl)
theorem dX12_line_89 : decode cX12_line 89 = .ok (.aload_n 0, 1) := dk_42 (dk_at dksX12_line_4 0 rfl rfl)
theorem dX12_line_90 : decode cX12_line 90 = .ok (.invokevirtual 185, 3) := dk_182 0 185 (dk_at dksX12_line_4 1 rfl rfl)
theorem dX12_line_93 : decode cX12_line 93 = .ok (.invokeinterface 138 2, 5) := by decide +kernel
theorem dX12_line_98 : decode cX12_line 98 = .ok (.pop, 1) := dk_87 (dk_at dksX12_line_4 9 rfl rfl)
theorem dX12_line_99 : decode cX12_line 99 = .ok (.goto 85, 3) := dk_167 0 85 (dk_at dksX12_line_4 10 rfl rfl)
theorem dX12_line_102 : decode cX12_line 102 = .ok (.aload_n 0, 1) := dk_42 (dk_at dksX12_line_4 13 rfl rfl)
theorem dX12_line_103 : decode cX12_line 103 = .ok (.ldc 189, 2) := dk_18 189 (dk_at dksX12_line_4 14 rfl rfl)
theorem dX12_line_105 : decode cX12_line 105 = .ok (.invokevirtual 71, 3) := dk_182 0 71 (dk_at dksX12_line_4 16 rfl rfl)
theorem dX12_line_108 : decode cX12_line 108 = .ok (.ifCond .eq 48, 3) := dk_153 0 48 (dk_at dksX12_line_4 19 rfl rfl)
theorem dX12_line_111 : decode cX12_line 111 = .ok (.aload_n 0, 1) := dk_42 (dk_at dksX12_line_4 22 rfl rfl)
theorem dX12_line_112 : decode cX12_line 112 = .ok (.aload_n 0, 1) := dk_42 (dk_at dksX12_line_4 23 rfl rfl)
theorem dX12_line_113 : decode cX12_line 113 = .ok (.getfield 12, 3) := dk_180 0 12 (dk_at dksX12_line_5 0 rfl rfl)
theorem dX12_line_116 : decode cX12_line 116 = .ok (.getfield 191, 3) := dk_180 0 191 (dk_at dksX12_line_5 3 rfl rfl)
theorem dX12_line_119 : decode cX12_line 119 = .ok (.invokeinterface 101 1, 5) := by decide +kernel
theorem dX12_line_124 : decode cX12_line 124 = .ok (.iconst 4, 1) := dk_7 (dk_at dksX12_line_5 11 rfl rfl)
theorem dX12_line_125 : decode cX12_line 125 = .ok (.if_icmp .ge 7, 3) := dk_162 0 7 (dk_at dksX12_line_5 12 rfl rfl)
theorem dX12_line_128 : decode cX12_line 128 = .ok (.iconst 1, 1) := dk_4 (dk_at dksX12_line_5 15 rfl rfl)
theorem dX12_line_129 : decode cX12_line 129 = .ok (.goto 4, 3) := dk_167 0 4 (dk_at dksX12_line_5 16 rfl rfl)
theorem dX12_line_132 : decode cX12_line 132 = .ok (.iconst 0, 1) := dk_3 (dk_at dksX12_line_5 19 rfl rfl)
theorem dX12_line_133 : decode cX12_line 133 = .ok (.invokevirtual 106, 3) := dk_182 0 106 (dk_at dksX12_line_5 20 rfl rfl)
theorem dX12_line_136 : decode cX12_line 136 = .ok (.aload_n 0, 1) := dk_42 (dk_at dksX12_line_5 23 rfl rfl)
theorem dX12_line_137 : decode cX12_line 137 = .ok (.getfield 12, 3) := dk_180 0 12 (dk_at dksX12_line_6 0 rfl rfl)
theorem dX12_line_140 : decode cX12_line 140 = .ok (.getfield 191, 3) := dk_180 0 191 (dk_at dksX12_line_6 3 rfl rfl)
theorem dX12_line_143 : decode cX12_line 143 = .ok (.aload_n 0, 1) := dk_42 (dk_at dksX12_line_6 6 rfl rfl)
theorem dX12_line_144 : decode cX12_line 144 = .ok (.invokevirtual 185, 3) := dk_182 0 185 (dk_at dksX12_line_6 7 rfl rfl)
theorem dX12_line_147 : decode cX12_line 147 = .ok (.invokeinterface 138 2, 5) := by decide +kernel
theorem dX12_line_152 : decode cX12_line 152 = .ok (.pop, 1) := dk_87 (dk_at dksX12_line_6 15 rfl rfl)
theorem dX12_line_153 : decode cX12_line 153 = .ok (.goto 31, 3) := dk_167 0 31 (dk_at dksX12_line_6 16 rfl rfl)
theorem dX12_line_156 : decode cX12_line 156 = .ok (.aload_n 0, 1) := dk_42 (dk_at dksX12_line_6 19 rfl rfl)
theorem dX12_line_157 : decode cX12_line 157 = .ok (.ldc 194, 2) := dk_18 194 (dk_at dksX12_line_6 20 rfl rfl)
theorem dX12_line_159 : decode cX12_line 159 = .ok (.invokevirtual 82, 3) := dk_182 0 82 (dk_at dksX12_line_7 0 rfl rfl)
theorem dX12_line_162 : decode cX12_line 162 = .ok (.aload_n 0, 1) := dk_42 (dk_at dksX12_line_7 3 rfl rfl)
theorem dX12_line_163 : decode cX12_line 163 = .ok (.invokevirtual 113, 3) := dk_182 0 113 (dk_at dksX12_line_7 4 rfl rfl)
theorem dX12_line_166 : decode cX12_line 166 = .ok (.istore_n 1, 1) := dk_60 (dk_at dksX12_line_7 7 rfl rfl)
theorem dX12_line_167 : decode cX12_line 167 = .ok (.aload_n 0, 1) := dk_42 (dk_at dksX12_line_7 8 rfl rfl)
theorem dX12_line_168 : decode cX12_line 168 = .ok (.getfield 12, 3) := dk_180 0 12 (dk_at dksX12_line_7 9 rfl rfl)
theorem dX12_line_171 : decode cX12_line 171 = .ok (.getfield 196, 3) := dk_180 0 196 (dk_at dksX12_line_7 12 rfl rfl)
theorem dX12_line_174 : decode cX12_line 174 = .ok (.iload_n 1, 1) := dk_27 (dk_at dksX12_line_7 15 rfl rfl)
theorem dX12_line_175 : decode cX12_line 175 = .ok (.aload_n 0, 1) := dk_42 (dk_at dksX12_line_7 16 rfl rfl)
theorem dX12_line_176 : decode cX12_line 176 = .ok (.iconst 0, 1) := dk_3 (dk_at dksX12_line_7 17 rfl rfl)
theorem dX12_line_177 : decode cX12_line 177 = .ok (.sipush 999, 3) := dk_17 3 231 (dk_at dksX12_line_7 18 rfl rfl)
theorem dX12_line_180 : decode cX12_line 180 = .ok (.invokevirtual 86, 3) := dk_182 0 86 (dk_at dksX12_line_7 21 rfl rfl)
theorem dX12_line_183 : decode cX12_line 183 = .ok (.iastore, 1) := dk_79 (dk_at dksX12_line_8 0 rfl rfl)
theorem dX12_line_184 : decode cX12_line 184 = .ok (.return_, 1) := dk_177 (dk_at dksX12_line_8 1 rfl rfl)
abbrev cX12_trainLine : ByteArray := prog_10_method_13_code
def yX12_trainLine : MethodName := ⟨RX12, "trainLine", "()V"⟩
def dkwX12_trainLine_5 : List UInt8 := [185, 0, 138, 2, 0, 87, 177]
abbrev dktX12_trainLine_5 : List UInt8 := dkwX12_trainLine_5 ++ []
def dkwX12_trainLine_4 : List UInt8 := [43, 42, 18, 134, 3, 17, 3, 231, 182, 0, 93, 181, 0, 136, 42, 180, 0, 12, 180, 0, 97, 43]
abbrev dktX12_trainLine_4 : List UInt8 := dkwX12_trainLine_4 ++ dktX12_trainLine_5
def dkwX12_trainLine_3 : List UInt8 := [18, 126, 3, 16, 100, 182, 0, 93, 181, 0, 128, 43, 42, 18, 130, 4, 16, 30, 182, 0, 93, 181, 0, 132]
abbrev dktX12_trainLine_3 : List UInt8 := dkwX12_trainLine_3 ++ dktX12_trainLine_4
def dkwX12_trainLine_2 : List UInt8 := [16, 99, 182, 0, 93, 181, 0, 120, 43, 42, 18, 122, 3, 16, 59, 182, 0, 93, 181, 0, 124, 43, 42]
abbrev dktX12_trainLine_2 : List UInt8 := dkwX12_trainLine_2 ++ dktX12_trainLine_3
def dkwX12_trainLine_1 : List UInt8 := [182, 0, 106, 187, 0, 110, 89, 183, 0, 112, 76, 43, 42, 182, 0, 113, 181, 0, 116, 43, 42, 18, 118, 4]
abbrev dktX12_trainLine_1 : List UInt8 := dkwX12_trainLine_1 ++ dktX12_trainLine_2
def dkwX12_trainLine_0 : List UInt8 := [42, 42, 180, 0, 12, 180, 0, 97, 185, 0, 101, 1, 0, 16, 9, 162, 0, 7, 4, 167, 0, 4, 3]
abbrev dktX12_trainLine_0 : List UInt8 := dkwX12_trainLine_0 ++ dktX12_trainLine_1
theorem dksX12_trainLine_0 : cX12_trainLine.data.toList.drop 0 = dktX12_trainLine_0 := by decide +kernel
theorem dksX12_trainLine_1 : cX12_trainLine.data.toList.drop 23 = dktX12_trainLine_1 := dk_seg dksX12_trainLine_0 23 rfl rfl
theorem dksX12_trainLine_2 : cX12_trainLine.data.toList.drop 47 = dktX12_trainLine_2 := dk_seg dksX12_trainLine_1 24 rfl rfl
theorem dksX12_trainLine_3 : cX12_trainLine.data.toList.drop 70 = dktX12_trainLine_3 := dk_seg dksX12_trainLine_2 23 rfl rfl
theorem dksX12_trainLine_4 : cX12_trainLine.data.toList.drop 94 = dktX12_trainLine_4 := dk_seg dksX12_trainLine_3 24 rfl rfl
theorem dksX12_trainLine_5 : cX12_trainLine.data.toList.drop 116 = dktX12_trainLine_5 := dk_seg dksX12_trainLine_4 22 rfl rfl
theorem dX12_trainLine_0 : decode cX12_trainLine 0 = .ok (.aload_n 0, 1) := dk_42 (dk_at dksX12_trainLine_0 0 rfl rfl)
theorem dX12_trainLine_1 : decode cX12_trainLine 1 = .ok (.aload_n 0, 1) := dk_42 (dk_at dksX12_trainLine_0 1 rfl rfl)
theorem dX12_trainLine_2 : decode cX12_trainLine 2 = .ok (.getfield 12, 3) := dk_180 0 12 (dk_at dksX12_trainLine_0 2 rfl rfl)
theorem dX12_trainLine_5 : decode cX12_trainLine 5 = .ok (.getfield 97, 3) := dk_180 0 97 (dk_at dksX12_trainLine_0 5 rfl rfl)
theorem dX12_trainLine_8 : decode cX12_trainLine 8 = .ok (.invokeinterface 101 1, 5) := by decide +kernel
theorem dX12_trainLine_13 : decode cX12_trainLine 13 = .ok (.bipush 9, 2) := dk_16 9 (dk_at dksX12_trainLine_0 13 rfl rfl)
theorem dX12_trainLine_15 : decode cX12_trainLine 15 = .ok (.if_icmp .ge 7, 3) := dk_162 0 7 (dk_at dksX12_trainLine_0 15 rfl rfl)
theorem dX12_trainLine_18 : decode cX12_trainLine 18 = .ok (.iconst 1, 1) := dk_4 (dk_at dksX12_trainLine_0 18 rfl rfl)
theorem dX12_trainLine_19 : decode cX12_trainLine 19 = .ok (.goto 4, 3) := dk_167 0 4 (dk_at dksX12_trainLine_0 19 rfl rfl)
theorem dX12_trainLine_22 : decode cX12_trainLine 22 = .ok (.iconst 0, 1) := dk_3 (dk_at dksX12_trainLine_0 22 rfl rfl)
theorem dX12_trainLine_23 : decode cX12_trainLine 23 = .ok (.invokevirtual 106, 3) := dk_182 0 106 (dk_at dksX12_trainLine_1 0 rfl rfl)
theorem dX12_trainLine_26 : decode cX12_trainLine 26 = .ok (.new 110, 3) := dk_187 0 110 (dk_at dksX12_trainLine_1 3 rfl rfl)
theorem dX12_trainLine_29 : decode cX12_trainLine 29 = .ok (.dup, 1) := dk_89 (dk_at dksX12_trainLine_1 6 rfl rfl)
theorem dX12_trainLine_30 : decode cX12_trainLine 30 = .ok (.invokespecial 112, 3) := dk_183 0 112 (dk_at dksX12_trainLine_1 7 rfl rfl)
theorem dX12_trainLine_33 : decode cX12_trainLine 33 = .ok (.astore_n 1, 1) := dk_76 (dk_at dksX12_trainLine_1 10 rfl rfl)
theorem dX12_trainLine_34 : decode cX12_trainLine 34 = .ok (.aload_n 1, 1) := dk_43 (dk_at dksX12_trainLine_1 11 rfl rfl)
theorem dX12_trainLine_35 : decode cX12_trainLine 35 = .ok (.aload_n 0, 1) := dk_42 (dk_at dksX12_trainLine_1 12 rfl rfl)
theorem dX12_trainLine_36 : decode cX12_trainLine 36 = .ok (.invokevirtual 113, 3) := dk_182 0 113 (dk_at dksX12_trainLine_1 13 rfl rfl)
theorem dX12_trainLine_39 : decode cX12_trainLine 39 = .ok (.putfield 116, 3) := dk_181 0 116 (dk_at dksX12_trainLine_1 16 rfl rfl)
theorem dX12_trainLine_42 : decode cX12_trainLine 42 = .ok (.aload_n 1, 1) := dk_43 (dk_at dksX12_trainLine_1 19 rfl rfl)
theorem dX12_trainLine_43 : decode cX12_trainLine 43 = .ok (.aload_n 0, 1) := dk_42 (dk_at dksX12_trainLine_1 20 rfl rfl)
theorem dX12_trainLine_44 : decode cX12_trainLine 44 = .ok (.ldc 118, 2) := dk_18 118 (dk_at dksX12_trainLine_1 21 rfl rfl)
theorem dX12_trainLine_46 : decode cX12_trainLine 46 = .ok (.iconst 1, 1) := dk_4 (dk_at dksX12_trainLine_1 23 rfl rfl)
theorem dX12_trainLine_47 : decode cX12_trainLine 47 = .ok (.bipush 99, 2) := dk_16 99 (dk_at dksX12_trainLine_2 0 rfl rfl)
theorem dX12_trainLine_49 : decode cX12_trainLine 49 = .ok (.invokevirtual 93, 3) := dk_182 0 93 (dk_at dksX12_trainLine_2 2 rfl rfl)
theorem dX12_trainLine_52 : decode cX12_trainLine 52 = .ok (.putfield 120, 3) := dk_181 0 120 (dk_at dksX12_trainLine_2 5 rfl rfl)
theorem dX12_trainLine_55 : decode cX12_trainLine 55 = .ok (.aload_n 1, 1) := dk_43 (dk_at dksX12_trainLine_2 8 rfl rfl)
theorem dX12_trainLine_56 : decode cX12_trainLine 56 = .ok (.aload_n 0, 1) := dk_42 (dk_at dksX12_trainLine_2 9 rfl rfl)
theorem dX12_trainLine_57 : decode cX12_trainLine 57 = .ok (.ldc 122, 2) := dk_18 122 (dk_at dksX12_trainLine_2 10 rfl rfl)
theorem dX12_trainLine_59 : decode cX12_trainLine 59 = .ok (.iconst 0, 1) := dk_3 (dk_at dksX12_trainLine_2 12 rfl rfl)
theorem dX12_trainLine_60 : decode cX12_trainLine 60 = .ok (.bipush 59, 2) := dk_16 59 (dk_at dksX12_trainLine_2 13 rfl rfl)
theorem dX12_trainLine_62 : decode cX12_trainLine 62 = .ok (.invokevirtual 93, 3) := dk_182 0 93 (dk_at dksX12_trainLine_2 15 rfl rfl)
theorem dX12_trainLine_65 : decode cX12_trainLine 65 = .ok (.putfield 124, 3) := dk_181 0 124 (dk_at dksX12_trainLine_2 18 rfl rfl)
theorem dX12_trainLine_68 : decode cX12_trainLine 68 = .ok (.aload_n 1, 1) := dk_43 (dk_at dksX12_trainLine_2 21 rfl rfl)
theorem dX12_trainLine_69 : decode cX12_trainLine 69 = .ok (.aload_n 0, 1) := dk_42 (dk_at dksX12_trainLine_2 22 rfl rfl)
theorem dX12_trainLine_70 : decode cX12_trainLine 70 = .ok (.ldc 126, 2) := dk_18 126 (dk_at dksX12_trainLine_3 0 rfl rfl)
theorem dX12_trainLine_72 : decode cX12_trainLine 72 = .ok (.iconst 0, 1) := dk_3 (dk_at dksX12_trainLine_3 2 rfl rfl)
theorem dX12_trainLine_73 : decode cX12_trainLine 73 = .ok (.bipush 100, 2) := dk_16 100 (dk_at dksX12_trainLine_3 3 rfl rfl)
theorem dX12_trainLine_75 : decode cX12_trainLine 75 = .ok (.invokevirtual 93, 3) := dk_182 0 93 (dk_at dksX12_trainLine_3 5 rfl rfl)
theorem dX12_trainLine_78 : decode cX12_trainLine 78 = .ok (.putfield 128, 3) := dk_181 0 128 (dk_at dksX12_trainLine_3 8 rfl rfl)
theorem dX12_trainLine_81 : decode cX12_trainLine 81 = .ok (.aload_n 1, 1) := dk_43 (dk_at dksX12_trainLine_3 11 rfl rfl)
theorem dX12_trainLine_82 : decode cX12_trainLine 82 = .ok (.aload_n 0, 1) := dk_42 (dk_at dksX12_trainLine_3 12 rfl rfl)
theorem dX12_trainLine_83 : decode cX12_trainLine 83 = .ok (.ldc 130, 2) := dk_18 130 (dk_at dksX12_trainLine_3 13 rfl rfl)
theorem dX12_trainLine_85 : decode cX12_trainLine 85 = .ok (.iconst 1, 1) := dk_4 (dk_at dksX12_trainLine_3 15 rfl rfl)
theorem dX12_trainLine_86 : decode cX12_trainLine 86 = .ok (.bipush 30, 2) := dk_16 30 (dk_at dksX12_trainLine_3 16 rfl rfl)
theorem dX12_trainLine_88 : decode cX12_trainLine 88 = .ok (.invokevirtual 93, 3) := dk_182 0 93 (dk_at dksX12_trainLine_3 18 rfl rfl)
theorem dX12_trainLine_91 : decode cX12_trainLine 91 = .ok (.putfield 132, 3) := dk_181 0 132 (dk_at dksX12_trainLine_3 21 rfl rfl)
theorem dX12_trainLine_94 : decode cX12_trainLine 94 = .ok (.aload_n 1, 1) := dk_43 (dk_at dksX12_trainLine_4 0 rfl rfl)
theorem dX12_trainLine_95 : decode cX12_trainLine 95 = .ok (.aload_n 0, 1) := dk_42 (dk_at dksX12_trainLine_4 1 rfl rfl)
theorem dX12_trainLine_96 : decode cX12_trainLine 96 = .ok (.ldc 134, 2) := dk_18 134 (dk_at dksX12_trainLine_4 2 rfl rfl)
theorem dX12_trainLine_98 : decode cX12_trainLine 98 = .ok (.iconst 0, 1) := dk_3 (dk_at dksX12_trainLine_4 4 rfl rfl)
theorem dX12_trainLine_99 : decode cX12_trainLine 99 = .ok (.sipush 999, 3) := dk_17 3 231 (dk_at dksX12_trainLine_4 5 rfl rfl)
theorem dX12_trainLine_102 : decode cX12_trainLine 102 = .ok (.invokevirtual 93, 3) := dk_182 0 93 (dk_at dksX12_trainLine_4 8 rfl rfl)
theorem dX12_trainLine_105 : decode cX12_trainLine 105 = .ok (.putfield 136, 3) := dk_181 0 136 (dk_at dksX12_trainLine_4 11 rfl rfl)
theorem dX12_trainLine_108 : decode cX12_trainLine 108 = .ok (.aload_n 0, 1) := dk_42 (dk_at dksX12_trainLine_4 14 rfl rfl)
theorem dX12_trainLine_109 : decode cX12_trainLine 109 = .ok (.getfield 12, 3) := dk_180 0 12 (dk_at dksX12_trainLine_4 15 rfl rfl)
theorem dX12_trainLine_112 : decode cX12_trainLine 112 = .ok (.getfield 97, 3) := dk_180 0 97 (dk_at dksX12_trainLine_4 18 rfl rfl)
theorem dX12_trainLine_115 : decode cX12_trainLine 115 = .ok (.aload_n 1, 1) := dk_43 (dk_at dksX12_trainLine_4 21 rfl rfl)
theorem dX12_trainLine_116 : decode cX12_trainLine 116 = .ok (.invokeinterface 138 2, 5) := by decide +kernel
theorem dX12_trainLine_121 : decode cX12_trainLine 121 = .ok (.pop, 1) := dk_87 (dk_at dksX12_trainLine_5 5 rfl rfl)
theorem dX12_trainLine_122 : decode cX12_trainLine 122 = .ok (.return_, 1) := dk_177 (dk_at dksX12_trainLine_5 6 rfl rfl)
abbrev cX12_room : ByteArray := prog_10_method_10_code
def yX12_room : MethodName := ⟨RX12, "room", "(Z)V"⟩
def dkwX12_room_0 : List UInt8 := [27, 154, 0, 9, 42, 6, 182, 0, 78, 191, 42, 182, 0, 26, 177]
abbrev dktX12_room_0 : List UInt8 := dkwX12_room_0 ++ []
theorem dksX12_room_0 : cX12_room.data.toList.drop 0 = dktX12_room_0 := by decide +kernel
theorem dX12_room_0 : decode cX12_room 0 = .ok (.iload_n 1, 1) := dk_27 (dk_at dksX12_room_0 0 rfl rfl)
theorem dX12_room_1 : decode cX12_room 1 = .ok (.ifCond .ne 9, 3) := dk_154 0 9 (dk_at dksX12_room_0 1 rfl rfl)
theorem dX12_room_4 : decode cX12_room 4 = .ok (.aload_n 0, 1) := dk_42 (dk_at dksX12_room_0 4 rfl rfl)
theorem dX12_room_5 : decode cX12_room 5 = .ok (.iconst 3, 1) := dk_6 (dk_at dksX12_room_0 5 rfl rfl)
theorem dX12_room_6 : decode cX12_room 6 = .ok (.invokevirtual 78, 3) := dk_182 0 78 (dk_at dksX12_room_0 6 rfl rfl)
theorem dX12_room_9 : decode cX12_room 9 = .ok (.athrow, 1) := dk_191 (dk_at dksX12_room_0 9 rfl rfl)
theorem dX12_room_10 : decode cX12_room 10 = .ok (.aload_n 0, 1) := dk_42 (dk_at dksX12_room_0 10 rfl rfl)
theorem dX12_room_11 : decode cX12_room 11 = .ok (.invokevirtual 26, 3) := dk_182 0 26 (dk_at dksX12_room_0 11 rfl rfl)
theorem dX12_room_14 : decode cX12_room 14 = .ok (.return_, 1) := dk_177 (dk_at dksX12_room_0 14 rfl rfl)
abbrev cX12_side : ByteArray := prog_10_method_11_code
def yX12_side : MethodName := ⟨RX12, "side", "()I"⟩
def dkwX12_side_0 : List UInt8 := [42, 3, 4, 182, 0, 86, 172]
abbrev dktX12_side_0 : List UInt8 := dkwX12_side_0 ++ []
theorem dksX12_side_0 : cX12_side.data.toList.drop 0 = dktX12_side_0 := by decide +kernel
theorem dX12_side_0 : decode cX12_side 0 = .ok (.aload_n 0, 1) := dk_42 (dk_at dksX12_side_0 0 rfl rfl)
theorem dX12_side_1 : decode cX12_side 1 = .ok (.iconst 0, 1) := dk_3 (dk_at dksX12_side_0 1 rfl rfl)
theorem dX12_side_2 : decode cX12_side 2 = .ok (.iconst 1, 1) := dk_4 (dk_at dksX12_side_0 2 rfl rfl)
theorem dX12_side_3 : decode cX12_side 3 = .ok (.invokevirtual 86, 3) := dk_182 0 86 (dk_at dksX12_side_0 3 rfl rfl)
theorem dX12_side_6 : decode cX12_side 6 = .ok (.ireturn, 1) := dk_172 (dk_at dksX12_side_0 6 rfl rfl)
abbrev cX12_askLine : ByteArray := prog_10_method_14_code
def yX12_askLine : MethodName := ⟨RX12, "askLine", "()V"⟩
def dkwX12_askLine_3 : List UInt8 := [182, 0, 93, 183, 0, 151, 185, 0, 138, 2, 0, 87, 177]
abbrev dktX12_askLine_3 : List UInt8 := dkwX12_askLine_3 ++ []
def dkwX12_askLine_2 : List UInt8 := [182, 0, 93, 62, 42, 180, 0, 12, 180, 0, 142, 187, 0, 147, 89, 27, 28, 29, 42, 18, 149, 4, 16, 99]
abbrev dktX12_askLine_2 : List UInt8 := dkwX12_askLine_2 ++ dktX12_askLine_3
def dkwX12_askLine_1 : List UInt8 := [182, 0, 106, 42, 182, 0, 113, 60, 42, 18, 144, 3, 16, 59, 182, 0, 93, 61, 42, 18, 145, 4, 16, 20]
abbrev dktX12_askLine_1 : List UInt8 := dkwX12_askLine_1 ++ dktX12_askLine_2
def dkwX12_askLine_0 : List UInt8 := [42, 42, 180, 0, 12, 180, 0, 142, 185, 0, 101, 1, 0, 16, 8, 162, 0, 7, 4, 167, 0, 4, 3]
abbrev dktX12_askLine_0 : List UInt8 := dkwX12_askLine_0 ++ dktX12_askLine_1
theorem dksX12_askLine_0 : cX12_askLine.data.toList.drop 0 = dktX12_askLine_0 := by decide +kernel
theorem dksX12_askLine_1 : cX12_askLine.data.toList.drop 23 = dktX12_askLine_1 := dk_seg dksX12_askLine_0 23 rfl rfl
theorem dksX12_askLine_2 : cX12_askLine.data.toList.drop 47 = dktX12_askLine_2 := dk_seg dksX12_askLine_1 24 rfl rfl
theorem dksX12_askLine_3 : cX12_askLine.data.toList.drop 71 = dktX12_askLine_3 := dk_seg dksX12_askLine_2 24 rfl rfl
theorem dX12_askLine_0 : decode cX12_askLine 0 = .ok (.aload_n 0, 1) := dk_42 (dk_at dksX12_askLine_0 0 rfl rfl)
theorem dX12_askLine_1 : decode cX12_askLine 1 = .ok (.aload_n 0, 1) := dk_42 (dk_at dksX12_askLine_0 1 rfl rfl)
theorem dX12_askLine_2 : decode cX12_askLine 2 = .ok (.getfield 12, 3) := dk_180 0 12 (dk_at dksX12_askLine_0 2 rfl rfl)
theorem dX12_askLine_5 : decode cX12_askLine 5 = .ok (.getfield 142, 3) := dk_180 0 142 (dk_at dksX12_askLine_0 5 rfl rfl)
theorem dX12_askLine_8 : decode cX12_askLine 8 = .ok (.invokeinterface 101 1, 5) := by decide +kernel
theorem dX12_askLine_13 : decode cX12_askLine 13 = .ok (.bipush 8, 2) := dk_16 8 (dk_at dksX12_askLine_0 13 rfl rfl)
theorem dX12_askLine_15 : decode cX12_askLine 15 = .ok (.if_icmp .ge 7, 3) := dk_162 0 7 (dk_at dksX12_askLine_0 15 rfl rfl)
theorem dX12_askLine_18 : decode cX12_askLine 18 = .ok (.iconst 1, 1) := dk_4 (dk_at dksX12_askLine_0 18 rfl rfl)
theorem dX12_askLine_19 : decode cX12_askLine 19 = .ok (.goto 4, 3) := dk_167 0 4 (dk_at dksX12_askLine_0 19 rfl rfl)
theorem dX12_askLine_22 : decode cX12_askLine 22 = .ok (.iconst 0, 1) := dk_3 (dk_at dksX12_askLine_0 22 rfl rfl)
theorem dX12_askLine_23 : decode cX12_askLine 23 = .ok (.invokevirtual 106, 3) := dk_182 0 106 (dk_at dksX12_askLine_1 0 rfl rfl)
theorem dX12_askLine_26 : decode cX12_askLine 26 = .ok (.aload_n 0, 1) := dk_42 (dk_at dksX12_askLine_1 3 rfl rfl)
theorem dX12_askLine_27 : decode cX12_askLine 27 = .ok (.invokevirtual 113, 3) := dk_182 0 113 (dk_at dksX12_askLine_1 4 rfl rfl)
theorem dX12_askLine_30 : decode cX12_askLine 30 = .ok (.istore_n 1, 1) := dk_60 (dk_at dksX12_askLine_1 7 rfl rfl)
theorem dX12_askLine_31 : decode cX12_askLine 31 = .ok (.aload_n 0, 1) := dk_42 (dk_at dksX12_askLine_1 8 rfl rfl)
theorem dX12_askLine_32 : decode cX12_askLine 32 = .ok (.ldc 144, 2) := dk_18 144 (dk_at dksX12_askLine_1 9 rfl rfl)
theorem dX12_askLine_34 : decode cX12_askLine 34 = .ok (.iconst 0, 1) := dk_3 (dk_at dksX12_askLine_1 11 rfl rfl)
theorem dX12_askLine_35 : decode cX12_askLine 35 = .ok (.bipush 59, 2) := dk_16 59 (dk_at dksX12_askLine_1 12 rfl rfl)
theorem dX12_askLine_37 : decode cX12_askLine 37 = .ok (.invokevirtual 93, 3) := dk_182 0 93 (dk_at dksX12_askLine_1 14 rfl rfl)
theorem dX12_askLine_40 : decode cX12_askLine 40 = .ok (.istore_n 2, 1) := dk_61 (dk_at dksX12_askLine_1 17 rfl rfl)
theorem dX12_askLine_41 : decode cX12_askLine 41 = .ok (.aload_n 0, 1) := dk_42 (dk_at dksX12_askLine_1 18 rfl rfl)
theorem dX12_askLine_42 : decode cX12_askLine 42 = .ok (.ldc 145, 2) := dk_18 145 (dk_at dksX12_askLine_1 19 rfl rfl)
theorem dX12_askLine_44 : decode cX12_askLine 44 = .ok (.iconst 1, 1) := dk_4 (dk_at dksX12_askLine_1 21 rfl rfl)
theorem dX12_askLine_45 : decode cX12_askLine 45 = .ok (.bipush 20, 2) := dk_16 20 (dk_at dksX12_askLine_1 22 rfl rfl)
theorem dX12_askLine_47 : decode cX12_askLine 47 = .ok (.invokevirtual 93, 3) := dk_182 0 93 (dk_at dksX12_askLine_2 0 rfl rfl)
theorem dX12_askLine_50 : decode cX12_askLine 50 = .ok (.istore_n 3, 1) := dk_62 (dk_at dksX12_askLine_2 3 rfl rfl)
theorem dX12_askLine_51 : decode cX12_askLine 51 = .ok (.aload_n 0, 1) := dk_42 (dk_at dksX12_askLine_2 4 rfl rfl)
theorem dX12_askLine_52 : decode cX12_askLine 52 = .ok (.getfield 12, 3) := dk_180 0 12 (dk_at dksX12_askLine_2 5 rfl rfl)
theorem dX12_askLine_55 : decode cX12_askLine 55 = .ok (.getfield 142, 3) := dk_180 0 142 (dk_at dksX12_askLine_2 8 rfl rfl)
theorem dX12_askLine_58 : decode cX12_askLine 58 = .ok (.new 147, 3) := dk_187 0 147 (dk_at dksX12_askLine_2 11 rfl rfl)
theorem dX12_askLine_61 : decode cX12_askLine 61 = .ok (.dup, 1) := dk_89 (dk_at dksX12_askLine_2 14 rfl rfl)
theorem dX12_askLine_62 : decode cX12_askLine 62 = .ok (.iload_n 1, 1) := dk_27 (dk_at dksX12_askLine_2 15 rfl rfl)
theorem dX12_askLine_63 : decode cX12_askLine 63 = .ok (.iload_n 2, 1) := dk_28 (dk_at dksX12_askLine_2 16 rfl rfl)
theorem dX12_askLine_64 : decode cX12_askLine 64 = .ok (.iload_n 3, 1) := dk_29 (dk_at dksX12_askLine_2 17 rfl rfl)
theorem dX12_askLine_65 : decode cX12_askLine 65 = .ok (.aload_n 0, 1) := dk_42 (dk_at dksX12_askLine_2 18 rfl rfl)
theorem dX12_askLine_66 : decode cX12_askLine 66 = .ok (.ldc 149, 2) := dk_18 149 (dk_at dksX12_askLine_2 19 rfl rfl)
theorem dX12_askLine_68 : decode cX12_askLine 68 = .ok (.iconst 1, 1) := dk_4 (dk_at dksX12_askLine_2 21 rfl rfl)
theorem dX12_askLine_69 : decode cX12_askLine 69 = .ok (.bipush 99, 2) := dk_16 99 (dk_at dksX12_askLine_2 22 rfl rfl)
theorem dX12_askLine_71 : decode cX12_askLine 71 = .ok (.invokevirtual 93, 3) := dk_182 0 93 (dk_at dksX12_askLine_3 0 rfl rfl)
theorem dX12_askLine_74 : decode cX12_askLine 74 = .ok (.invokespecial 151, 3) := dk_183 0 151 (dk_at dksX12_askLine_3 3 rfl rfl)
theorem dX12_askLine_77 : decode cX12_askLine 77 = .ok (.invokeinterface 138 2, 5) := by decide +kernel
theorem dX12_askLine_82 : decode cX12_askLine 82 = .ok (.pop, 1) := dk_87 (dk_at dksX12_askLine_3 11 rfl rfl)
theorem dX12_askLine_83 : decode cX12_askLine 83 = .ok (.return_, 1) := dk_177 (dk_at dksX12_askLine_3 12 rfl rfl)
abbrev cX12_spyLine : ByteArray := prog_10_method_15_code
def yX12_spyLine : MethodName := ⟨RX12, "spyLine", "()V"⟩
def dkwX12_spyLine_3 : List UInt8 := [180, 0, 12, 180, 0, 154, 27, 184, 0, 159, 185, 0, 138, 2, 0, 87, 177]
abbrev dktX12_spyLine_3 : List UInt8 := dkwX12_spyLine_3 ++ []
def dkwX12_spyLine_2 : List UInt8 := [185, 0, 101, 1, 0, 4, 100, 182, 0, 86, 120, 128, 60, 42, 180, 0, 46, 5, 159, 255, 227, 42]
abbrev dktX12_spyLine_2 : List UInt8 := dkwX12_spyLine_2 ++ dktX12_spyLine_3
def dkwX12_spyLine_1 : List UInt8 := [182, 0, 106, 42, 18, 157, 182, 0, 82, 3, 60, 27, 4, 42, 3, 42, 180, 0, 12, 180, 0, 97]
abbrev dktX12_spyLine_1 : List UInt8 := dkwX12_spyLine_1 ++ dktX12_spyLine_2
def dkwX12_spyLine_0 : List UInt8 := [42, 42, 180, 0, 12, 180, 0, 154, 185, 0, 101, 1, 0, 8, 162, 0, 7, 4, 167, 0, 4, 3]
abbrev dktX12_spyLine_0 : List UInt8 := dkwX12_spyLine_0 ++ dktX12_spyLine_1
theorem dksX12_spyLine_0 : cX12_spyLine.data.toList.drop 0 = dktX12_spyLine_0 := by decide +kernel
theorem dksX12_spyLine_1 : cX12_spyLine.data.toList.drop 22 = dktX12_spyLine_1 := dk_seg dksX12_spyLine_0 22 rfl rfl
theorem dksX12_spyLine_2 : cX12_spyLine.data.toList.drop 44 = dktX12_spyLine_2 := dk_seg dksX12_spyLine_1 22 rfl rfl
theorem dksX12_spyLine_3 : cX12_spyLine.data.toList.drop 66 = dktX12_spyLine_3 := dk_seg dksX12_spyLine_2 22 rfl rfl
theorem dX12_spyLine_0 : decode cX12_spyLine 0 = .ok (.aload_n 0, 1) := dk_42 (dk_at dksX12_spyLine_0 0 rfl rfl)
theorem dX12_spyLine_1 : decode cX12_spyLine 1 = .ok (.aload_n 0, 1) := dk_42 (dk_at dksX12_spyLine_0 1 rfl rfl)
theorem dX12_spyLine_2 : decode cX12_spyLine 2 = .ok (.getfield 12, 3) := dk_180 0 12 (dk_at dksX12_spyLine_0 2 rfl rfl)
theorem dX12_spyLine_5 : decode cX12_spyLine 5 = .ok (.getfield 154, 3) := dk_180 0 154 (dk_at dksX12_spyLine_0 5 rfl rfl)
theorem dX12_spyLine_8 : decode cX12_spyLine 8 = .ok (.invokeinterface 101 1, 5) := by decide +kernel
theorem dX12_spyLine_13 : decode cX12_spyLine 13 = .ok (.iconst 5, 1) := dk_8 (dk_at dksX12_spyLine_0 13 rfl rfl)
theorem dX12_spyLine_14 : decode cX12_spyLine 14 = .ok (.if_icmp .ge 7, 3) := dk_162 0 7 (dk_at dksX12_spyLine_0 14 rfl rfl)
theorem dX12_spyLine_17 : decode cX12_spyLine 17 = .ok (.iconst 1, 1) := dk_4 (dk_at dksX12_spyLine_0 17 rfl rfl)
theorem dX12_spyLine_18 : decode cX12_spyLine 18 = .ok (.goto 4, 3) := dk_167 0 4 (dk_at dksX12_spyLine_0 18 rfl rfl)
theorem dX12_spyLine_21 : decode cX12_spyLine 21 = .ok (.iconst 0, 1) := dk_3 (dk_at dksX12_spyLine_0 21 rfl rfl)
theorem dX12_spyLine_22 : decode cX12_spyLine 22 = .ok (.invokevirtual 106, 3) := dk_182 0 106 (dk_at dksX12_spyLine_1 0 rfl rfl)
theorem dX12_spyLine_25 : decode cX12_spyLine 25 = .ok (.aload_n 0, 1) := dk_42 (dk_at dksX12_spyLine_1 3 rfl rfl)
theorem dX12_spyLine_26 : decode cX12_spyLine 26 = .ok (.ldc 157, 2) := dk_18 157 (dk_at dksX12_spyLine_1 4 rfl rfl)
theorem dX12_spyLine_28 : decode cX12_spyLine 28 = .ok (.invokevirtual 82, 3) := dk_182 0 82 (dk_at dksX12_spyLine_1 6 rfl rfl)
theorem dX12_spyLine_31 : decode cX12_spyLine 31 = .ok (.iconst 0, 1) := dk_3 (dk_at dksX12_spyLine_1 9 rfl rfl)
theorem dX12_spyLine_32 : decode cX12_spyLine 32 = .ok (.istore_n 1, 1) := dk_60 (dk_at dksX12_spyLine_1 10 rfl rfl)
theorem dX12_spyLine_33 : decode cX12_spyLine 33 = .ok (.iload_n 1, 1) := dk_27 (dk_at dksX12_spyLine_1 11 rfl rfl)
theorem dX12_spyLine_34 : decode cX12_spyLine 34 = .ok (.iconst 1, 1) := dk_4 (dk_at dksX12_spyLine_1 12 rfl rfl)
theorem dX12_spyLine_35 : decode cX12_spyLine 35 = .ok (.aload_n 0, 1) := dk_42 (dk_at dksX12_spyLine_1 13 rfl rfl)
theorem dX12_spyLine_36 : decode cX12_spyLine 36 = .ok (.iconst 0, 1) := dk_3 (dk_at dksX12_spyLine_1 14 rfl rfl)
theorem dX12_spyLine_37 : decode cX12_spyLine 37 = .ok (.aload_n 0, 1) := dk_42 (dk_at dksX12_spyLine_1 15 rfl rfl)
theorem dX12_spyLine_38 : decode cX12_spyLine 38 = .ok (.getfield 12, 3) := dk_180 0 12 (dk_at dksX12_spyLine_1 16 rfl rfl)
theorem dX12_spyLine_41 : decode cX12_spyLine 41 = .ok (.getfield 97, 3) := dk_180 0 97 (dk_at dksX12_spyLine_1 19 rfl rfl)
theorem dX12_spyLine_44 : decode cX12_spyLine 44 = .ok (.invokeinterface 101 1, 5) := by decide +kernel
theorem dX12_spyLine_49 : decode cX12_spyLine 49 = .ok (.iconst 1, 1) := dk_4 (dk_at dksX12_spyLine_2 5 rfl rfl)
theorem dX12_spyLine_50 : decode cX12_spyLine 50 = .ok (.isub, 1) := dk_100 (dk_at dksX12_spyLine_2 6 rfl rfl)
theorem dX12_spyLine_51 : decode cX12_spyLine 51 = .ok (.invokevirtual 86, 3) := dk_182 0 86 (dk_at dksX12_spyLine_2 7 rfl rfl)
theorem dX12_spyLine_54 : decode cX12_spyLine 54 = .ok (.ishl, 1) := dk_120 (dk_at dksX12_spyLine_2 10 rfl rfl)
theorem dX12_spyLine_55 : decode cX12_spyLine 55 = .ok (.ior, 1) := dk_128 (dk_at dksX12_spyLine_2 11 rfl rfl)
theorem dX12_spyLine_56 : decode cX12_spyLine 56 = .ok (.istore_n 1, 1) := dk_60 (dk_at dksX12_spyLine_2 12 rfl rfl)
theorem dX12_spyLine_57 : decode cX12_spyLine 57 = .ok (.aload_n 0, 1) := dk_42 (dk_at dksX12_spyLine_2 13 rfl rfl)
theorem dX12_spyLine_58 : decode cX12_spyLine 58 = .ok (.getfield 46, 3) := dk_180 0 46 (dk_at dksX12_spyLine_2 14 rfl rfl)
theorem dX12_spyLine_61 : decode cX12_spyLine 61 = .ok (.iconst 2, 1) := dk_5 (dk_at dksX12_spyLine_2 17 rfl rfl)
theorem dX12_spyLine_62 : decode cX12_spyLine 62 = .ok (.if_icmp .eq (-29), 3) := dk_159 255 227 (dk_at dksX12_spyLine_2 18 rfl rfl)
theorem dX12_spyLine_65 : decode cX12_spyLine 65 = .ok (.aload_n 0, 1) := dk_42 (dk_at dksX12_spyLine_2 21 rfl rfl)
theorem dX12_spyLine_66 : decode cX12_spyLine 66 = .ok (.getfield 12, 3) := dk_180 0 12 (dk_at dksX12_spyLine_3 0 rfl rfl)
theorem dX12_spyLine_69 : decode cX12_spyLine 69 = .ok (.getfield 154, 3) := dk_180 0 154 (dk_at dksX12_spyLine_3 3 rfl rfl)
theorem dX12_spyLine_72 : decode cX12_spyLine 72 = .ok (.iload_n 1, 1) := dk_27 (dk_at dksX12_spyLine_3 6 rfl rfl)
theorem dX12_spyLine_73 : decode cX12_spyLine 73 = .ok (.invokestatic 159, 3) := dk_184 0 159 (dk_at dksX12_spyLine_3 7 rfl rfl)
theorem dX12_spyLine_76 : decode cX12_spyLine 76 = .ok (.invokeinterface 138 2, 5) := by decide +kernel
theorem dX12_spyLine_81 : decode cX12_spyLine 81 = .ok (.pop, 1) := dk_87 (dk_at dksX12_spyLine_3 15 rfl rfl)
theorem dX12_spyLine_82 : decode cX12_spyLine 82 = .ok (.return_, 1) := dk_177 (dk_at dksX12_spyLine_3 16 rfl rfl)
abbrev cX12_span : ByteArray := prog_10_method_12_code
def yX12_span : MethodName := ⟨RX12, "span", "()LWarByHours$Span;"⟩
def dkwX12_span_1 : List UInt8 := [183, 0, 96, 176]
abbrev dktX12_span_1 : List UInt8 := dkwX12_span_1 ++ []
def dkwX12_span_0 : List UInt8 := [42, 3, 16, 59, 182, 0, 86, 60, 187, 0, 89, 89, 27, 42, 18, 91, 27, 16, 59, 182, 0, 93]
abbrev dktX12_span_0 : List UInt8 := dkwX12_span_0 ++ dktX12_span_1
theorem dksX12_span_0 : cX12_span.data.toList.drop 0 = dktX12_span_0 := by decide +kernel
theorem dksX12_span_1 : cX12_span.data.toList.drop 22 = dktX12_span_1 := dk_seg dksX12_span_0 22 rfl rfl
theorem dX12_span_0 : decode cX12_span 0 = .ok (.aload_n 0, 1) := dk_42 (dk_at dksX12_span_0 0 rfl rfl)
theorem dX12_span_1 : decode cX12_span 1 = .ok (.iconst 0, 1) := dk_3 (dk_at dksX12_span_0 1 rfl rfl)
theorem dX12_span_2 : decode cX12_span 2 = .ok (.bipush 59, 2) := dk_16 59 (dk_at dksX12_span_0 2 rfl rfl)
theorem dX12_span_4 : decode cX12_span 4 = .ok (.invokevirtual 86, 3) := dk_182 0 86 (dk_at dksX12_span_0 4 rfl rfl)
theorem dX12_span_7 : decode cX12_span 7 = .ok (.istore_n 1, 1) := dk_60 (dk_at dksX12_span_0 7 rfl rfl)
theorem dX12_span_8 : decode cX12_span 8 = .ok (.new 89, 3) := dk_187 0 89 (dk_at dksX12_span_0 8 rfl rfl)
theorem dX12_span_11 : decode cX12_span 11 = .ok (.dup, 1) := dk_89 (dk_at dksX12_span_0 11 rfl rfl)
theorem dX12_span_12 : decode cX12_span 12 = .ok (.iload_n 1, 1) := dk_27 (dk_at dksX12_span_0 12 rfl rfl)
theorem dX12_span_13 : decode cX12_span 13 = .ok (.aload_n 0, 1) := dk_42 (dk_at dksX12_span_0 13 rfl rfl)
theorem dX12_span_14 : decode cX12_span 14 = .ok (.ldc 91, 2) := dk_18 91 (dk_at dksX12_span_0 14 rfl rfl)
theorem dX12_span_16 : decode cX12_span 16 = .ok (.iload_n 1, 1) := dk_27 (dk_at dksX12_span_0 16 rfl rfl)
theorem dX12_span_17 : decode cX12_span 17 = .ok (.bipush 59, 2) := dk_16 59 (dk_at dksX12_span_0 17 rfl rfl)
theorem dX12_span_19 : decode cX12_span 19 = .ok (.invokevirtual 93, 3) := dk_182 0 93 (dk_at dksX12_span_0 19 rfl rfl)
theorem dX12_span_22 : decode cX12_span 22 = .ok (.invokespecial 96, 3) := dk_183 0 96 (dk_at dksX12_span_1 0 rfl rfl)
theorem dX12_span_25 : decode cX12_span 25 = .ok (.areturn, 1) := dk_176 (dk_at dksX12_span_1 3 rfl rfl)
theorem q149 : (Jvm.Cond.initialized "WarByHours$Reader") ∈ lw_all := lw_g (lw_at lw_m1 16 rfl) rfl
theorem q438 : (Jvm.Cond.fieldLinkNest "WarByHours$Reader" (97 : Nat) "WarByHours$War" "trains" "Ljava/util/List;" "WarByHours") ∈ lw_tbl := lw_at lw_m2 65 rfl
theorem q440 : (Jvm.Cond.fieldLinkNest "WarByHours$Reader" (182 : Nat) "WarByHours$War" "teas" "Ljava/util/List;" "WarByHours") ∈ lw_tbl := lw_at lw_m2 67 rfl
theorem q443 : (Jvm.Cond.fieldLinkNest "WarByHours$Reader" (191 : Nat) "WarByHours$War" "rules" "Ljava/util/List;" "WarByHours") ∈ lw_tbl := lw_at lw_m2 70 rfl
theorem q446 : (Jvm.Cond.fieldLinkNest "WarByHours$Reader" (142 : Nat) "WarByHours$War" "asks" "Ljava/util/List;" "WarByHours") ∈ lw_tbl := lw_at lw_m2 73 rfl
theorem q449 : (Jvm.Cond.fieldLinkNest "WarByHours$Reader" (154 : Nat) "WarByHours$War" "spies" "Ljava/util/List;" "WarByHours") ∈ lw_tbl := lw_at lw_m2 76 rfl
theorem q456 : (Jvm.Cond.fieldLinkNest "WarByHours$Reader" (196 : Nat) "WarByHours$War" "needs" "[I" "WarByHours") ∈ lw_tbl := lw_at lw_m2 83 rfl
theorem q460 : (Jvm.Cond.fieldLinkNest "WarByHours$Reader" (207 : Nat) "WarByHours$War" "minutes" "I" "WarByHours") ∈ lw_tbl := lw_at lw_m2 87 rfl
theorem q465 : (Jvm.Cond.fieldLinkNest "WarByHours$Reader" (211 : Nat) "WarByHours$War" "late" "I" "WarByHours") ∈ lw_tbl := lw_at lw_m2 92 rfl
theorem q468 : (Jvm.Cond.fieldLinkNest "WarByHours$Reader" (215 : Nat) "WarByHours$War" "peace" "I" "WarByHours") ∈ lw_tbl := lw_at lw_m2 95 rfl
theorem q471 : (Jvm.Cond.fieldLinkNest "WarByHours$Reader" (219 : Nat) "WarByHours$War" "rain" "I" "WarByHours") ∈ lw_tbl := lw_at lw_m2 98 rfl
theorem q475 : (Jvm.Cond.fieldLinkNest "WarByHours$Reader" (200 : Nat) "WarByHours$War" "lines" "I" "WarByHours") ∈ lw_tbl := lw_at lw_m2 102 rfl
theorem q698 : (Jvm.Cond.instantiable "WarByHours$Reader" (7 : Nat)) ∈ lw_all := lw_g (lw_at lw_m3 85 rfl) rfl
theorem q700 : (Jvm.Cond.instanceMethod ({ cls := "WarByHours$Reader", name := "<init>", desc := "([BI)V" } : Jvm.MethodName)) ∈ lw_all := lw_g (lw_at lw_m3 87 rfl) rfl
theorem q701 : (Jvm.Cond.code ({ cls := "WarByHours$Reader", name := "<init>", desc := "([BI)V" } : Jvm.MethodName) prog_10_method_1_code (3 : Nat) (Option.none : Option Jvm.ClassFile.FieldType)) ∈ lw_all := lw_g (lw_at lw_m3 88 rfl) rfl
theorem q702 : (Jvm.Cond.methodLink "WarByHours$Reader" (3 : Nat) ({ cls := "java/lang/Object", name := "<init>", desc := "()V" } : Jvm.MethodName)) ∈ lw_all := lw_g (lw_at lw_m3 89 rfl) rfl
theorem q703 : (Jvm.Cond.classLink "WarByHours$Reader" (9 : Nat) "WarByHours$War") ∈ lw_all := lw_g (lw_at lw_m3 90 rfl) rfl
theorem q704 : (Jvm.Cond.methodLinkNest "WarByHours$Reader" (11 : Nat) ({ cls := "WarByHours$War", name := "<init>", desc := "()V" } : Jvm.MethodName) "WarByHours") ∈ lw_tbl := lw_at lw_m3 91 rfl
theorem q705 : (Jvm.Cond.methodLink "WarByHours$Reader" (26 : Nat) ({ cls := "WarByHours$Reader", name := "next", desc := "()V" } : Jvm.MethodName)) ∈ lw_all := lw_g (lw_at lw_m3 92 rfl) rfl
theorem q706 : (Jvm.Cond.privateMethod ({ cls := "WarByHours$Reader", name := "next", desc := "()V" } : Jvm.MethodName)) ∈ lw_tbl := lw_at lw_m3 93 rfl
theorem q707 : (Jvm.Cond.instanceMethod ({ cls := "WarByHours$Reader", name := "next", desc := "()V" } : Jvm.MethodName)) ∈ lw_all := lw_g (lw_at lw_m3 94 rfl) rfl
theorem q708 : (Jvm.Cond.code ({ cls := "WarByHours$Reader", name := "next", desc := "()V" } : Jvm.MethodName) prog_10_method_3_code (1 : Nat) (Option.none : Option Jvm.ClassFile.FieldType)) ∈ lw_all := lw_g (lw_at lw_m3 95 rfl) rfl
theorem q709 : (Jvm.Cond.methodLink "WarByHours$Reader" (36 : Nat) ({ cls := "WarByHours$Reader", name := "isAt", desc := "(II)Z" } : Jvm.MethodName)) ∈ lw_all := lw_g (lw_at lw_m3 96 rfl) rfl
theorem q710 : (Jvm.Cond.privateMethod ({ cls := "WarByHours$Reader", name := "isAt", desc := "(II)Z" } : Jvm.MethodName)) ∈ lw_tbl := lw_at lw_m3 97 rfl
theorem q711 : (Jvm.Cond.instanceMethod ({ cls := "WarByHours$Reader", name := "isAt", desc := "(II)Z" } : Jvm.MethodName)) ∈ lw_all := lw_g (lw_at lw_m3 98 rfl) rfl
theorem q712 : (Jvm.Cond.code ({ cls := "WarByHours$Reader", name := "isAt", desc := "(II)Z" } : Jvm.MethodName) prog_10_method_2_code (3 : Nat) (Option.some Jvm.ClassFile.FieldType.boolean)) ∈ lw_all := lw_g (lw_at lw_m3 99 rfl) rfl
theorem q713 : (Jvm.Cond.methodLinkNest "WarByHours$Reader" (32 : Nat) ({ cls := "WarByHours", name := "in", desc := "(JJJ)Z" } : Jvm.MethodName) "WarByHours") ∈ lw_tbl := lw_at lw_m3 100 rfl
theorem q714 : (Jvm.Cond.constant "WarByHours$Reader" (49 : Nat) (99999 : Int32)) ∈ lw_all := lw_g (lw_at lw_m3 101 rfl) rfl
theorem q715 : (Jvm.Cond.methodLink "WarByHours$Reader" (50 : Nat) ({ cls := "java/lang/Math", name := "min", desc := "(II)I" } : Jvm.MethodName)) ∈ lw_all := lw_g (lw_at lw_m3 102 rfl) rfl
theorem q718 : (Jvm.Cond.fieldLink "WarByHours$Reader" (18 : Nat) "WarByHours$Reader" "text" "[B") ∈ lw_all := lw_g (lw_at lw_m3 105 rfl) rfl
theorem q719 : (Jvm.Cond.fieldLink "WarByHours$Reader" (22 : Nat) "WarByHours$Reader" "many" "I") ∈ lw_all := lw_g (lw_at lw_m3 106 rfl) rfl
theorem q720 : (Jvm.Cond.fieldLink "WarByHours$Reader" (12 : Nat) "WarByHours$Reader" "w" "LWarByHours$War;") ∈ lw_all := lw_g (lw_at lw_m3 107 rfl) rfl
theorem q721 : (Jvm.Cond.fieldLink "WarByHours$Reader" (29 : Nat) "WarByHours$Reader" "at" "I") ∈ lw_all := lw_g (lw_at lw_m3 108 rfl) rfl
theorem q722 : (Jvm.Cond.fieldLink "WarByHours$Reader" (40 : Nat) "WarByHours$Reader" "begin" "I") ∈ lw_all := lw_g (lw_at lw_m3 109 rfl) rfl
theorem q723 : (Jvm.Cond.fieldLink "WarByHours$Reader" (46 : Nat) "WarByHours$Reader" "token" "I") ∈ lw_all := lw_g (lw_at lw_m3 110 rfl) rfl
theorem q724 : (Jvm.Cond.fieldLink "WarByHours$Reader" (43 : Nat) "WarByHours$Reader" "value" "I") ∈ lw_all := lw_g (lw_at lw_m3 111 rfl) rfl
theorem q725 : (Jvm.Cond.laysFinal "WarByHours$Reader" "WarByHours$Reader" "text" "[B") ∈ lw_all := lw_g (lw_at lw_m3 112 rfl) rfl
theorem q726 : (Jvm.Cond.soleField "WarByHours$Reader" "text") ∈ lw_all := lw_g (lw_at lw_m3 113 rfl) rfl
theorem q727 : (Jvm.Cond.laysFinal "WarByHours$Reader" "WarByHours$Reader" "many" "I") ∈ lw_all := lw_g (lw_at lw_m3 114 rfl) rfl
theorem q728 : (Jvm.Cond.soleField "WarByHours$Reader" "many") ∈ lw_all := lw_g (lw_at lw_m3 115 rfl) rfl
theorem q729 : (Jvm.Cond.laysFinal "WarByHours$Reader" "WarByHours$Reader" "w" "LWarByHours$War;") ∈ lw_all := lw_g (lw_at lw_m3 116 rfl) rfl
theorem q730 : (Jvm.Cond.soleField "WarByHours$Reader" "w") ∈ lw_all := lw_g (lw_at lw_m3 117 rfl) rfl
theorem q731 : (Jvm.Cond.lays "WarByHours$Reader" "WarByHours$Reader" "at" "I") ∈ lw_all := lw_g (lw_at lw_m3 118 rfl) rfl
theorem q732 : (Jvm.Cond.soleField "WarByHours$Reader" "at") ∈ lw_all := lw_g (lw_at lw_m3 119 rfl) rfl
theorem q733 : (Jvm.Cond.lays "WarByHours$Reader" "WarByHours$Reader" "begin" "I") ∈ lw_all := lw_g (lw_at lw_m3 120 rfl) rfl
theorem q734 : (Jvm.Cond.soleField "WarByHours$Reader" "begin") ∈ lw_all := lw_g (lw_at lw_m3 121 rfl) rfl
theorem q735 : (Jvm.Cond.lays "WarByHours$Reader" "WarByHours$Reader" "token" "I") ∈ lw_all := lw_g (lw_at lw_m3 122 rfl) rfl
theorem q736 : (Jvm.Cond.soleField "WarByHours$Reader" "token") ∈ lw_all := lw_g (lw_at lw_m3 123 rfl) rfl
theorem q737 : (Jvm.Cond.lays "WarByHours$Reader" "WarByHours$Reader" "value" "I") ∈ lw_all := lw_g (lw_at lw_m3 124 rfl) rfl
theorem q738 : (Jvm.Cond.soleField "WarByHours$Reader" "value") ∈ lw_all := lw_g (lw_at lw_m3 125 rfl) rfl
theorem q739 : (Jvm.Cond.superclass "WarByHours$Reader" "java/lang/Object") ∈ lw_all := lw_g (lw_at lw_m3 126 rfl) rfl
theorem q741 : (Jvm.Cond.instanceMethod ({ cls := "WarByHours$Reader", name := "reads", desc := "()LWarByHours$War;" } : Jvm.MethodName)) ∈ lw_all := lw_g (lw_at lw_m3 128 rfl) rfl
theorem q742 : (Jvm.Cond.selects "WarByHours$Reader" ({ cls := "WarByHours$Reader", name := "reads", desc := "()LWarByHours$War;" } : Jvm.MethodName) ({ cls := "WarByHours$Reader", name := "reads", desc := "()LWarByHours$War;" } : Jvm.MethodName)) ∈ lw_all := lw_g (lw_at lw_m3 129 rfl) rfl
theorem q743 : (Jvm.Cond.code ({ cls := "WarByHours$Reader", name := "reads", desc := "()LWarByHours$War;" } : Jvm.MethodName) prog_10_method_17_code (1 : Nat) (Option.some (Jvm.ClassFile.FieldType.object "WarByHours$War"))) ∈ lw_all := lw_g (lw_at lw_m3 130 rfl) rfl
theorem q744 : (Jvm.Cond.stringRef "WarByHours$Reader" (203 : Nat) "war") ∈ lw_tbl := lw_at lw_m3 131 rfl
theorem q745 : (Jvm.Cond.methodLink "WarByHours$Reader" (82 : Nat) ({ cls := "WarByHours$Reader", name := "asks", desc := "(Ljava/lang/String;)V" } : Jvm.MethodName)) ∈ lw_all := lw_g (lw_at lw_m3 132 rfl) rfl
theorem q746 : (Jvm.Cond.privateMethod ({ cls := "WarByHours$Reader", name := "asks", desc := "(Ljava/lang/String;)V" } : Jvm.MethodName)) ∈ lw_tbl := lw_at lw_m3 133 rfl
theorem q747 : (Jvm.Cond.instanceMethod ({ cls := "WarByHours$Reader", name := "asks", desc := "(Ljava/lang/String;)V" } : Jvm.MethodName)) ∈ lw_all := lw_g (lw_at lw_m3 134 rfl) rfl
theorem q748 : (Jvm.Cond.code ({ cls := "WarByHours$Reader", name := "asks", desc := "(Ljava/lang/String;)V" } : Jvm.MethodName) prog_10_method_7_code (2 : Nat) (Option.none : Option Jvm.ClassFile.FieldType)) ∈ lw_all := lw_g (lw_at lw_m3 135 rfl) rfl
theorem q749 : (Jvm.Cond.methodLink "WarByHours$Reader" (75 : Nat) ({ cls := "WarByHours$Reader", name := "takes", desc := "(Ljava/lang/String;)Z" } : Jvm.MethodName)) ∈ lw_all := lw_g (lw_at lw_m3 136 rfl) rfl
theorem q750 : (Jvm.Cond.privateMethod ({ cls := "WarByHours$Reader", name := "takes", desc := "(Ljava/lang/String;)Z" } : Jvm.MethodName)) ∈ lw_tbl := lw_at lw_m3 137 rfl
theorem q751 : (Jvm.Cond.instanceMethod ({ cls := "WarByHours$Reader", name := "takes", desc := "(Ljava/lang/String;)Z" } : Jvm.MethodName)) ∈ lw_all := lw_g (lw_at lw_m3 138 rfl) rfl
theorem q752 : (Jvm.Cond.code ({ cls := "WarByHours$Reader", name := "takes", desc := "(Ljava/lang/String;)Z" } : Jvm.MethodName) prog_10_method_6_code (3 : Nat) (Option.some Jvm.ClassFile.FieldType.boolean)) ∈ lw_all := lw_g (lw_at lw_m3 139 rfl) rfl
theorem q753 : (Jvm.Cond.methodLink "WarByHours$Reader" (71 : Nat) ({ cls := "WarByHours$Reader", name := "is", desc := "(Ljava/lang/String;)Z" } : Jvm.MethodName)) ∈ lw_all := lw_g (lw_at lw_m3 140 rfl) rfl
theorem q754 : (Jvm.Cond.privateMethod ({ cls := "WarByHours$Reader", name := "is", desc := "(Ljava/lang/String;)Z" } : Jvm.MethodName)) ∈ lw_tbl := lw_at lw_m3 141 rfl
theorem q755 : (Jvm.Cond.instanceMethod ({ cls := "WarByHours$Reader", name := "is", desc := "(Ljava/lang/String;)Z" } : Jvm.MethodName)) ∈ lw_all := lw_g (lw_at lw_m3 142 rfl) rfl
theorem q756 : (Jvm.Cond.code ({ cls := "WarByHours$Reader", name := "is", desc := "(Ljava/lang/String;)Z" } : Jvm.MethodName) prog_10_method_5_code (3 : Nat) (Option.some Jvm.ClassFile.FieldType.boolean)) ∈ lw_all := lw_g (lw_at lw_m3 143 rfl) rfl
theorem q757 : (Jvm.Cond.methodLink "WarByHours$Reader" (61 : Nat) ({ cls := "java/lang/String", name := "length", desc := "()I" } : Jvm.MethodName)) ∈ lw_all := lw_g (lw_at lw_m3 144 rfl) rfl
theorem q767 : (Jvm.Cond.methodLink "WarByHours$Reader" (67 : Nat) ({ cls := "java/lang/String", name := "charAt", desc := "(I)C" } : Jvm.MethodName)) ∈ lw_all := lw_g (lw_at lw_m3 154 rfl) rfl
theorem q805 : (Jvm.Cond.methodLink "WarByHours$Reader" (78 : Nat) ({ cls := "WarByHours$Reader", name := "fault", desc := "(I)LWarByHours$Fault;" } : Jvm.MethodName)) ∈ lw_all := lw_g (lw_at lw_m3 192 rfl) rfl
theorem q806 : (Jvm.Cond.privateMethod ({ cls := "WarByHours$Reader", name := "fault", desc := "(I)LWarByHours$Fault;" } : Jvm.MethodName)) ∈ lw_tbl := lw_at lw_m3 193 rfl
theorem q807 : (Jvm.Cond.instanceMethod ({ cls := "WarByHours$Reader", name := "fault", desc := "(I)LWarByHours$Fault;" } : Jvm.MethodName)) ∈ lw_all := lw_g (lw_at lw_m3 194 rfl) rfl
theorem q808 : (Jvm.Cond.code ({ cls := "WarByHours$Reader", name := "fault", desc := "(I)LWarByHours$Fault;" } : Jvm.MethodName) prog_10_method_4_code (2 : Nat) (Option.some (Jvm.ClassFile.FieldType.object "WarByHours$Fault"))) ∈ lw_all := lw_g (lw_at lw_m3 195 rfl) rfl
theorem q809 : (Jvm.Cond.classLink "WarByHours$Reader" (56 : Nat) "WarByHours$Fault") ∈ lw_all := lw_g (lw_at lw_m3 196 rfl) rfl
theorem q818 : (Jvm.Cond.methodLink "WarByHours$Reader" (58 : Nat) ({ cls := "WarByHours$Fault", name := "<init>", desc := "(II)V" } : Jvm.MethodName)) ∈ lw_all := lw_g (lw_at lw_m3 205 rfl) rfl
theorem q840 : (Jvm.Cond.stringRef "WarByHours$Reader" (205 : Nat) "minutes") ∈ lw_tbl := lw_at lw_m3 227 rfl
theorem q841 : (Jvm.Cond.methodLink "WarByHours$Reader" (93 : Nat) ({ cls := "WarByHours$Reader", name := "number", desc := "(Ljava/lang/String;II)I" } : Jvm.MethodName)) ∈ lw_all := lw_g (lw_at lw_m3 228 rfl) rfl
theorem q842 : (Jvm.Cond.privateMethod ({ cls := "WarByHours$Reader", name := "number", desc := "(Ljava/lang/String;II)I" } : Jvm.MethodName)) ∈ lw_tbl := lw_at lw_m3 229 rfl
theorem q843 : (Jvm.Cond.instanceMethod ({ cls := "WarByHours$Reader", name := "number", desc := "(Ljava/lang/String;II)I" } : Jvm.MethodName)) ∈ lw_all := lw_g (lw_at lw_m3 230 rfl) rfl
theorem q844 : (Jvm.Cond.code ({ cls := "WarByHours$Reader", name := "number", desc := "(Ljava/lang/String;II)I" } : Jvm.MethodName) prog_10_method_9_code (4 : Nat) (Option.some Jvm.ClassFile.FieldType.int)) ∈ lw_all := lw_g (lw_at lw_m3 231 rfl) rfl
theorem q845 : (Jvm.Cond.methodLink "WarByHours$Reader" (86 : Nat) ({ cls := "WarByHours$Reader", name := "number", desc := "(II)I" } : Jvm.MethodName)) ∈ lw_all := lw_g (lw_at lw_m3 232 rfl) rfl
theorem q846 : (Jvm.Cond.privateMethod ({ cls := "WarByHours$Reader", name := "number", desc := "(II)I" } : Jvm.MethodName)) ∈ lw_tbl := lw_at lw_m3 233 rfl
theorem q847 : (Jvm.Cond.instanceMethod ({ cls := "WarByHours$Reader", name := "number", desc := "(II)I" } : Jvm.MethodName)) ∈ lw_all := lw_g (lw_at lw_m3 234 rfl) rfl
theorem q848 : (Jvm.Cond.code ({ cls := "WarByHours$Reader", name := "number", desc := "(II)I" } : Jvm.MethodName) prog_10_method_8_code (4 : Nat) (Option.some Jvm.ClassFile.FieldType.int)) ∈ lw_all := lw_g (lw_at lw_m3 235 rfl) rfl
theorem q849 : (Jvm.Cond.stringRef "WarByHours$Reader" (209 : Nat) "late") ∈ lw_tbl := lw_at lw_m3 236 rfl
theorem q850 : (Jvm.Cond.stringRef "WarByHours$Reader" (213 : Nat) "peace") ∈ lw_tbl := lw_at lw_m3 237 rfl
theorem q851 : (Jvm.Cond.stringRef "WarByHours$Reader" (217 : Nat) "rain") ∈ lw_tbl := lw_at lw_m3 238 rfl
theorem q852 : (Jvm.Cond.methodLink "WarByHours$Reader" (221 : Nat) ({ cls := "WarByHours$Reader", name := "line", desc := "()V" } : Jvm.MethodName)) ∈ lw_all := lw_g (lw_at lw_m3 239 rfl) rfl
theorem q853 : (Jvm.Cond.privateMethod ({ cls := "WarByHours$Reader", name := "line", desc := "()V" } : Jvm.MethodName)) ∈ lw_tbl := lw_at lw_m4 0 rfl
theorem q854 : (Jvm.Cond.instanceMethod ({ cls := "WarByHours$Reader", name := "line", desc := "()V" } : Jvm.MethodName)) ∈ lw_all := lw_g (lw_at lw_m4 1 rfl) rfl
theorem q855 : (Jvm.Cond.code ({ cls := "WarByHours$Reader", name := "line", desc := "()V" } : Jvm.MethodName) prog_10_method_16_code (2 : Nat) (Option.none : Option Jvm.ClassFile.FieldType)) ∈ lw_all := lw_g (lw_at lw_m4 2 rfl) rfl
theorem q856 : (Jvm.Cond.stringRef "WarByHours$Reader" (165 : Nat) "train") ∈ lw_tbl := lw_at lw_m4 3 rfl
theorem q857 : (Jvm.Cond.methodLink "WarByHours$Reader" (167 : Nat) ({ cls := "WarByHours$Reader", name := "trainLine", desc := "()V" } : Jvm.MethodName)) ∈ lw_all := lw_g (lw_at lw_m4 4 rfl) rfl
theorem q858 : (Jvm.Cond.privateMethod ({ cls := "WarByHours$Reader", name := "trainLine", desc := "()V" } : Jvm.MethodName)) ∈ lw_tbl := lw_at lw_m4 5 rfl
theorem q859 : (Jvm.Cond.instanceMethod ({ cls := "WarByHours$Reader", name := "trainLine", desc := "()V" } : Jvm.MethodName)) ∈ lw_all := lw_g (lw_at lw_m4 6 rfl) rfl
theorem q860 : (Jvm.Cond.code ({ cls := "WarByHours$Reader", name := "trainLine", desc := "()V" } : Jvm.MethodName) prog_10_method_13_code (2 : Nat) (Option.none : Option Jvm.ClassFile.FieldType)) ∈ lw_all := lw_g (lw_at lw_m4 7 rfl) rfl
theorem q861 : (Jvm.Cond.interfaceEntry "WarByHours$Reader" (101 : Nat)) ∈ lw_tbl := lw_at lw_m4 8 rfl
theorem q862 : (Jvm.Cond.methodLink "WarByHours$Reader" (101 : Nat) ({ cls := "java/util/List", name := "size", desc := "()I" } : Jvm.MethodName)) ∈ lw_all := lw_g (lw_at lw_m4 9 rfl) rfl
theorem q871 : (Jvm.Cond.methodLink "WarByHours$Reader" (106 : Nat) ({ cls := "WarByHours$Reader", name := "room", desc := "(Z)V" } : Jvm.MethodName)) ∈ lw_all := lw_g (lw_at lw_m4 18 rfl) rfl
theorem q872 : (Jvm.Cond.privateMethod ({ cls := "WarByHours$Reader", name := "room", desc := "(Z)V" } : Jvm.MethodName)) ∈ lw_tbl := lw_at lw_m4 19 rfl
theorem q873 : (Jvm.Cond.instanceMethod ({ cls := "WarByHours$Reader", name := "room", desc := "(Z)V" } : Jvm.MethodName)) ∈ lw_all := lw_g (lw_at lw_m4 20 rfl) rfl
theorem q874 : (Jvm.Cond.code ({ cls := "WarByHours$Reader", name := "room", desc := "(Z)V" } : Jvm.MethodName) prog_10_method_10_code (2 : Nat) (Option.none : Option Jvm.ClassFile.FieldType)) ∈ lw_all := lw_g (lw_at lw_m4 21 rfl) rfl
theorem q875 : (Jvm.Cond.classLink "WarByHours$Reader" (110 : Nat) "WarByHours$Train") ∈ lw_all := lw_g (lw_at lw_m4 22 rfl) rfl
theorem q877 : (Jvm.Cond.methodLinkNest "WarByHours$Reader" (112 : Nat) ({ cls := "WarByHours$Train", name := "<init>", desc := "()V" } : Jvm.MethodName) "WarByHours") ∈ lw_tbl := lw_at lw_m4 24 rfl
theorem q882 : (Jvm.Cond.fieldLinkNest "WarByHours$Reader" (116 : Nat) "WarByHours$Train" "side" "I" "WarByHours") ∈ lw_tbl := lw_at lw_m4 29 rfl
theorem q885 : (Jvm.Cond.fieldLinkNest "WarByHours$Reader" (120 : Nat) "WarByHours$Train" "men" "I" "WarByHours") ∈ lw_tbl := lw_at lw_m4 32 rfl
theorem q888 : (Jvm.Cond.fieldLinkNest "WarByHours$Reader" (124 : Nat) "WarByHours$Train" "due" "I" "WarByHours") ∈ lw_tbl := lw_at lw_m4 35 rfl
theorem q891 : (Jvm.Cond.fieldLinkNest "WarByHours$Reader" (128 : Nat) "WarByHours$Train" "odds" "I" "WarByHours") ∈ lw_tbl := lw_at lw_m4 38 rfl
theorem q894 : (Jvm.Cond.fieldLinkNest "WarByHours$Reader" (132 : Nat) "WarByHours$Train" "by" "I" "WarByHours") ∈ lw_tbl := lw_at lw_m4 41 rfl
theorem q897 : (Jvm.Cond.fieldLinkNest "WarByHours$Reader" (136 : Nat) "WarByHours$Train" "price" "I" "WarByHours") ∈ lw_tbl := lw_at lw_m4 44 rfl
theorem q912 : (Jvm.Cond.methodLink "WarByHours$Reader" (113 : Nat) ({ cls := "WarByHours$Reader", name := "side", desc := "()I" } : Jvm.MethodName)) ∈ lw_all := lw_g (lw_at lw_m4 59 rfl) rfl
theorem q913 : (Jvm.Cond.privateMethod ({ cls := "WarByHours$Reader", name := "side", desc := "()I" } : Jvm.MethodName)) ∈ lw_tbl := lw_at lw_m4 60 rfl
theorem q914 : (Jvm.Cond.instanceMethod ({ cls := "WarByHours$Reader", name := "side", desc := "()I" } : Jvm.MethodName)) ∈ lw_all := lw_g (lw_at lw_m4 61 rfl) rfl
theorem q915 : (Jvm.Cond.code ({ cls := "WarByHours$Reader", name := "side", desc := "()I" } : Jvm.MethodName) prog_10_method_11_code (1 : Nat) (Option.some Jvm.ClassFile.FieldType.int)) ∈ lw_all := lw_g (lw_at lw_m4 62 rfl) rfl
theorem q916 : (Jvm.Cond.stringRef "WarByHours$Reader" (118 : Nat) "men") ∈ lw_tbl := lw_at lw_m4 63 rfl
theorem q917 : (Jvm.Cond.stringRef "WarByHours$Reader" (122 : Nat) "due") ∈ lw_tbl := lw_at lw_m4 64 rfl
theorem q918 : (Jvm.Cond.stringRef "WarByHours$Reader" (126 : Nat) "odds") ∈ lw_tbl := lw_at lw_m4 65 rfl
theorem q919 : (Jvm.Cond.stringRef "WarByHours$Reader" (130 : Nat) "by") ∈ lw_tbl := lw_at lw_m4 66 rfl
theorem q920 : (Jvm.Cond.stringRef "WarByHours$Reader" (134 : Nat) "price") ∈ lw_tbl := lw_at lw_m4 67 rfl
theorem q921 : (Jvm.Cond.interfaceEntry "WarByHours$Reader" (138 : Nat)) ∈ lw_tbl := lw_at lw_m4 68 rfl
theorem q922 : (Jvm.Cond.methodLink "WarByHours$Reader" (138 : Nat) ({ cls := "java/util/List", name := "add", desc := "(Ljava/lang/Object;)Z" } : Jvm.MethodName)) ∈ lw_all := lw_g (lw_at lw_m4 69 rfl) rfl
theorem q967 : (Jvm.Cond.selects "WarByHours$Reader" ({ cls := "java/lang/Object", name := "getClass", desc := "()Ljava/lang/Class;" } : Jvm.MethodName) ({ cls := "java/lang/Object", name := "getClass", desc := "()Ljava/lang/Class;" } : Jvm.MethodName)) ∈ lw_all := lw_g (lw_at lw_m4 114 rfl) rfl
theorem q991 : (Jvm.Cond.stringRef "WarByHours$Reader" (170 : Nat) "cannon") ∈ lw_tbl := lw_at lw_m4 138 rfl
theorem q992 : (Jvm.Cond.methodLink "WarByHours$Reader" (172 : Nat) ({ cls := "WarByHours$Reader", name := "askLine", desc := "()V" } : Jvm.MethodName)) ∈ lw_all := lw_g (lw_at lw_m4 139 rfl) rfl
theorem q993 : (Jvm.Cond.privateMethod ({ cls := "WarByHours$Reader", name := "askLine", desc := "()V" } : Jvm.MethodName)) ∈ lw_tbl := lw_at lw_m4 140 rfl
theorem q994 : (Jvm.Cond.instanceMethod ({ cls := "WarByHours$Reader", name := "askLine", desc := "()V" } : Jvm.MethodName)) ∈ lw_all := lw_g (lw_at lw_m4 141 rfl) rfl
theorem q995 : (Jvm.Cond.code ({ cls := "WarByHours$Reader", name := "askLine", desc := "()V" } : Jvm.MethodName) prog_10_method_14_code (4 : Nat) (Option.none : Option Jvm.ClassFile.FieldType)) ∈ lw_all := lw_g (lw_at lw_m4 142 rfl) rfl
theorem q996 : (Jvm.Cond.stringRef "WarByHours$Reader" (144 : Nat) "at") ∈ lw_tbl := lw_at lw_m4 143 rfl
theorem q997 : (Jvm.Cond.stringRef "WarByHours$Reader" (145 : Nat) "for") ∈ lw_tbl := lw_at lw_m4 144 rfl
theorem q998 : (Jvm.Cond.classLink "WarByHours$Reader" (147 : Nat) "WarByHours$Ask") ∈ lw_all := lw_g (lw_at lw_m4 145 rfl) rfl
theorem q1000 : (Jvm.Cond.stringRef "WarByHours$Reader" (149 : Nat) "worth") ∈ lw_tbl := lw_at lw_m4 147 rfl
theorem q1001 : (Jvm.Cond.methodLink "WarByHours$Reader" (151 : Nat) ({ cls := "WarByHours$Ask", name := "<init>", desc := "(IIII)V" } : Jvm.MethodName)) ∈ lw_all := lw_g (lw_at lw_m4 148 rfl) rfl
theorem q1022 : (Jvm.Cond.stringRef "WarByHours$Reader" (175 : Nat) "spy") ∈ lw_tbl := lw_at lw_m4 169 rfl
theorem q1023 : (Jvm.Cond.methodLink "WarByHours$Reader" (177 : Nat) ({ cls := "WarByHours$Reader", name := "spyLine", desc := "()V" } : Jvm.MethodName)) ∈ lw_all := lw_g (lw_at lw_m4 170 rfl) rfl
theorem q1024 : (Jvm.Cond.privateMethod ({ cls := "WarByHours$Reader", name := "spyLine", desc := "()V" } : Jvm.MethodName)) ∈ lw_tbl := lw_at lw_m4 171 rfl
theorem q1025 : (Jvm.Cond.instanceMethod ({ cls := "WarByHours$Reader", name := "spyLine", desc := "()V" } : Jvm.MethodName)) ∈ lw_all := lw_g (lw_at lw_m4 172 rfl) rfl
theorem q1026 : (Jvm.Cond.code ({ cls := "WarByHours$Reader", name := "spyLine", desc := "()V" } : Jvm.MethodName) prog_10_method_15_code (2 : Nat) (Option.none : Option Jvm.ClassFile.FieldType)) ∈ lw_all := lw_g (lw_at lw_m4 173 rfl) rfl
theorem q1027 : (Jvm.Cond.stringRef "WarByHours$Reader" (157 : Nat) "knows") ∈ lw_tbl := lw_at lw_m4 174 rfl
theorem q1028 : (Jvm.Cond.methodLink "WarByHours$Reader" (159 : Nat) ({ cls := "java/lang/Integer", name := "valueOf", desc := "(I)Ljava/lang/Integer;" } : Jvm.MethodName)) ∈ lw_all := lw_g (lw_at lw_m4 175 rfl) rfl
theorem q1048 : (Jvm.Cond.stringRef "WarByHours$Reader" (180 : Nat) "tea") ∈ lw_tbl := lw_at lw_m4 195 rfl
theorem q1049 : (Jvm.Cond.methodLink "WarByHours$Reader" (185 : Nat) ({ cls := "WarByHours$Reader", name := "span", desc := "()LWarByHours$Span;" } : Jvm.MethodName)) ∈ lw_all := lw_g (lw_at lw_m4 196 rfl) rfl
theorem q1050 : (Jvm.Cond.privateMethod ({ cls := "WarByHours$Reader", name := "span", desc := "()LWarByHours$Span;" } : Jvm.MethodName)) ∈ lw_tbl := lw_at lw_m4 197 rfl
theorem q1051 : (Jvm.Cond.instanceMethod ({ cls := "WarByHours$Reader", name := "span", desc := "()LWarByHours$Span;" } : Jvm.MethodName)) ∈ lw_all := lw_g (lw_at lw_m4 198 rfl) rfl
theorem q1052 : (Jvm.Cond.code ({ cls := "WarByHours$Reader", name := "span", desc := "()LWarByHours$Span;" } : Jvm.MethodName) prog_10_method_12_code (2 : Nat) (Option.some (Jvm.ClassFile.FieldType.object "WarByHours$Span"))) ∈ lw_all := lw_g (lw_at lw_m4 199 rfl) rfl
theorem q1053 : (Jvm.Cond.classLink "WarByHours$Reader" (89 : Nat) "WarByHours$Span") ∈ lw_all := lw_g (lw_at lw_m4 200 rfl) rfl
theorem q1055 : (Jvm.Cond.stringRef "WarByHours$Reader" (91 : Nat) "to") ∈ lw_tbl := lw_at lw_m4 202 rfl
theorem q1056 : (Jvm.Cond.methodLink "WarByHours$Reader" (96 : Nat) ({ cls := "WarByHours$Span", name := "<init>", desc := "(II)V" } : Jvm.MethodName)) ∈ lw_all := lw_g (lw_at lw_m4 203 rfl) rfl
theorem q1069 : (Jvm.Cond.stringRef "WarByHours$Reader" (189 : Nat) "rule") ∈ lw_tbl := lw_at lw_m4 216 rfl
theorem q1070 : (Jvm.Cond.stringRef "WarByHours$Reader" (194 : Nat) "need") ∈ lw_tbl := lw_at lw_m4 217 rfl
theorem q2597 : (Jvm.Cond.castable "WarByHours$Reader" "java/lang/Object") ∈ lw_tbl := lw_at lw_m11 64 rfl
theorem in_X12 : ∀ w ∈ wsX120, w ∈ lw_all := lw_in wsX120 [725, 727, 729, 731, 733, 735, 737] (by decide +kernel) (by decide +kernel)

/-! WarByHours$Fault -/
set_option maxRecDepth 100000
def RX13 : String := "WarByHours$Fault"
def TX13 : u_T := fun k => match k with
  | 0 => ("java/lang/Throwable", "cause", "Ljava/lang/Throwable;", false)
  | 1 => ("java/lang/Throwable", "stackTrace", "[Ljava/lang/StackTraceElement;", false)
  | 2 => ("java/lang/Throwable", "suppressedExceptions", "Ljava/util/List;", false)
  | 3 => ("java/lang/Throwable", "detailMessage", "Ljava/lang/String;", false)
  | 4 => ("java/lang/Throwable", "backtrace", "Ljava/lang/Object;", false)
  | 5 => ("java/lang/Throwable", "depth", "I", false)
  | 6 => ("WarByHours$Fault", "kind", "I", true)
  | _ => ("WarByHours$Fault", "place", "I", true)
def tyX13 : Nat → FieldType := fun k => match k with
  | 0 => .object "java/lang/Throwable"
  | 1 => .array (.object "java/lang/StackTraceElement")
  | 2 => .object "java/util/List"
  | 3 => .object "java/lang/String"
  | 4 => .object "java/lang/Object"
  | 5 => .int
  | 6 => .int
  | _ => .int
abbrev wsX130 : List Cond := u_ws RX13 TX13 8
theorem nmX13 : ∀ a, a < 8 → ∀ b, b < 8 → a ≠ b → (TX13 a).2.1 ≠ (TX13 b).2.1 := by decide +kernel
theorem tyX13_ok : ∀ k, k < 8 → parseFieldDescriptor (TX13 k).2.2.1 = some (tyX13 k) := by decide +kernel
abbrev cX13_init : ByteArray := prog_6_method_1_code
def yX13_init : MethodName := ⟨RX13, "<init>", "(II)V"⟩
def dkwX13_init_0 : List UInt8 := [42, 1, 1, 3, 3, 183, 0, 1, 42, 27, 181, 0, 7, 42, 28, 181, 0, 13, 177]
abbrev dktX13_init_0 : List UInt8 := dkwX13_init_0 ++ []
theorem dksX13_init_0 : cX13_init.data.toList.drop 0 = dktX13_init_0 := by decide +kernel
theorem dX13_init_0 : decode cX13_init 0 = .ok (.aload_n 0, 1) := dk_42 (dk_at dksX13_init_0 0 rfl rfl)
theorem dX13_init_1 : decode cX13_init 1 = .ok (.aconst_null, 1) := dk_1 (dk_at dksX13_init_0 1 rfl rfl)
theorem dX13_init_2 : decode cX13_init 2 = .ok (.aconst_null, 1) := dk_1 (dk_at dksX13_init_0 2 rfl rfl)
theorem dX13_init_3 : decode cX13_init 3 = .ok (.iconst 0, 1) := dk_3 (dk_at dksX13_init_0 3 rfl rfl)
theorem dX13_init_4 : decode cX13_init 4 = .ok (.iconst 0, 1) := dk_3 (dk_at dksX13_init_0 4 rfl rfl)
theorem dX13_init_5 : decode cX13_init 5 = .ok (.invokespecial 1, 3) := dk_183 0 1 (dk_at dksX13_init_0 5 rfl rfl)
theorem dX13_init_8 : decode cX13_init 8 = .ok (.aload_n 0, 1) := dk_42 (dk_at dksX13_init_0 8 rfl rfl)
theorem dX13_init_9 : decode cX13_init 9 = .ok (.iload_n 1, 1) := dk_27 (dk_at dksX13_init_0 9 rfl rfl)
theorem dX13_init_10 : decode cX13_init 10 = .ok (.putfield 7, 3) := dk_181 0 7 (dk_at dksX13_init_0 10 rfl rfl)
theorem dX13_init_13 : decode cX13_init 13 = .ok (.aload_n 0, 1) := dk_42 (dk_at dksX13_init_0 13 rfl rfl)
theorem dX13_init_14 : decode cX13_init 14 = .ok (.iload_n 2, 1) := dk_28 (dk_at dksX13_init_0 14 rfl rfl)
theorem dX13_init_15 : decode cX13_init 15 = .ok (.putfield 13, 3) := dk_181 0 13 (dk_at dksX13_init_0 15 rfl rfl)
theorem dX13_init_18 : decode cX13_init 18 = .ok (.return_, 1) := dk_177 (dk_at dksX13_init_0 18 rfl rfl)
theorem q158 : (Jvm.Cond.initialized "WarByHours$Fault") ∈ lw_all := lw_g (lw_at lw_m1 25 rfl) rfl
theorem q214 : (Jvm.Cond.selects "WarByHours$Fault" ({ cls := "java/lang/Throwable", name := "fillInStackTrace", desc := "()Ljava/lang/Throwable;" } : Jvm.MethodName) ({ cls := "java/lang/Throwable", name := "fillInStackTrace", desc := "()Ljava/lang/Throwable;" } : Jvm.MethodName)) ∈ lw_all := lw_g (lw_at lw_m1 81 rfl) rfl
theorem q810 : (Jvm.Cond.instantiable "WarByHours$Fault" (8 : Nat)) ∈ lw_all := lw_g (lw_at lw_m3 197 rfl) rfl
theorem q811 : (Jvm.Cond.castable "WarByHours$Fault" "WarByHours$Fault") ∈ lw_tbl := lw_at lw_m3 198 rfl
theorem q812 : (Jvm.Cond.selects "WarByHours$Fault" ({ cls := "java/lang/Throwable", name := "fillInStackTrace", desc := "(I)Ljava/lang/Throwable;" } : Jvm.MethodName) ({ cls := "java/lang/Throwable", name := "fillInStackTrace", desc := "(I)Ljava/lang/Throwable;" } : Jvm.MethodName)) ∈ lw_all := lw_g (lw_at lw_m3 199 rfl) rfl
theorem q813 : (Jvm.Cond.lays "WarByHours$Fault" "java/lang/Throwable" "cause" "Ljava/lang/Throwable;") ∈ lw_all := lw_g (lw_at lw_m3 200 rfl) rfl
theorem q814 : (Jvm.Cond.lays "WarByHours$Fault" "java/lang/Throwable" "stackTrace" "[Ljava/lang/StackTraceElement;") ∈ lw_all := lw_g (lw_at lw_m3 201 rfl) rfl
theorem q815 : (Jvm.Cond.lays "WarByHours$Fault" "java/lang/Throwable" "suppressedExceptions" "Ljava/util/List;") ∈ lw_all := lw_g (lw_at lw_m3 202 rfl) rfl
theorem q816 : (Jvm.Cond.lays "WarByHours$Fault" "java/lang/Throwable" "detailMessage" "Ljava/lang/String;") ∈ lw_all := lw_g (lw_at lw_m3 203 rfl) rfl
theorem q817 : (Jvm.Cond.lays "WarByHours$Fault" "java/lang/Throwable" "backtrace" "Ljava/lang/Object;") ∈ lw_all := lw_g (lw_at lw_m3 204 rfl) rfl
theorem q819 : (Jvm.Cond.instanceMethod ({ cls := "WarByHours$Fault", name := "<init>", desc := "(II)V" } : Jvm.MethodName)) ∈ lw_all := lw_g (lw_at lw_m3 206 rfl) rfl
theorem q820 : (Jvm.Cond.code ({ cls := "WarByHours$Fault", name := "<init>", desc := "(II)V" } : Jvm.MethodName) prog_6_method_1_code (3 : Nat) (Option.none : Option Jvm.ClassFile.FieldType)) ∈ lw_all := lw_g (lw_at lw_m3 207 rfl) rfl
theorem q821 : (Jvm.Cond.methodLink "WarByHours$Fault" (1 : Nat) ({ cls := "java/lang/RuntimeException", name := "<init>", desc := "(Ljava/lang/String;Ljava/lang/Throwable;ZZ)V" } : Jvm.MethodName)) ∈ lw_all := lw_g (lw_at lw_m3 208 rfl) rfl
theorem q830 : (Jvm.Cond.fieldLink "WarByHours$Fault" (7 : Nat) "WarByHours$Fault" "kind" "I") ∈ lw_all := lw_g (lw_at lw_m3 217 rfl) rfl
theorem q832 : (Jvm.Cond.fieldLink "WarByHours$Fault" (13 : Nat) "WarByHours$Fault" "place" "I") ∈ lw_all := lw_g (lw_at lw_m3 219 rfl) rfl
theorem q834 : (Jvm.Cond.laysFinal "WarByHours$Fault" "WarByHours$Fault" "kind" "I") ∈ lw_all := lw_g (lw_at lw_m3 221 rfl) rfl
theorem q835 : (Jvm.Cond.soleField "WarByHours$Fault" "kind") ∈ lw_all := lw_g (lw_at lw_m3 222 rfl) rfl
theorem q836 : (Jvm.Cond.laysFinal "WarByHours$Fault" "WarByHours$Fault" "place" "I") ∈ lw_all := lw_g (lw_at lw_m3 223 rfl) rfl
theorem q837 : (Jvm.Cond.soleField "WarByHours$Fault" "place") ∈ lw_all := lw_g (lw_at lw_m3 224 rfl) rfl
theorem q838 : (Jvm.Cond.lays "WarByHours$Fault" "java/lang/Throwable" "depth" "I") ∈ lw_all := lw_g (lw_at lw_m3 225 rfl) rfl
theorem q839 : (Jvm.Cond.superclass "WarByHours$Fault" "java/lang/RuntimeException") ∈ lw_all := lw_g (lw_at lw_m3 226 rfl) rfl
theorem q963 : (Jvm.Cond.selects "WarByHours$Fault" ({ cls := "java/lang/Object", name := "getClass", desc := "()Ljava/lang/Class;" } : Jvm.MethodName) ({ cls := "java/lang/Object", name := "getClass", desc := "()Ljava/lang/Class;" } : Jvm.MethodName)) ∈ lw_all := lw_g (lw_at lw_m4 110 rfl) rfl
theorem q2598 : (Jvm.Cond.castable "WarByHours$Fault" "java/lang/Object") ∈ lw_tbl := lw_at lw_m11 65 rfl
theorem in_X13 : ∀ w ∈ wsX130, w ∈ lw_all := lw_in wsX130 [813, 814, 815, 816, 817, 838, 834, 836] (by decide +kernel) (by decide +kernel)

/-! WarByHours$Train -/
set_option maxRecDepth 100000
def RX14 : String := "WarByHours$Train"
def TX14 : u_T := fun k => match k with
  | 0 => ("WarByHours$Train", "side", "I", false)
  | 1 => ("WarByHours$Train", "men", "I", false)
  | 2 => ("WarByHours$Train", "due", "I", false)
  | 3 => ("WarByHours$Train", "odds", "I", false)
  | 4 => ("WarByHours$Train", "by", "I", false)
  | _ => ("WarByHours$Train", "price", "I", false)
def tyX14 : Nat → FieldType := fun k => match k with
  | 0 => .int
  | 1 => .int
  | 2 => .int
  | 3 => .int
  | 4 => .int
  | _ => .int
abbrev wsX140 : List Cond := u_ws RX14 TX14 6
theorem nmX14 : ∀ a, a < 6 → ∀ b, b < 6 → a ≠ b → (TX14 a).2.1 ≠ (TX14 b).2.1 := by decide +kernel
theorem tyX14_ok : ∀ k, k < 6 → parseFieldDescriptor (TX14 k).2.2.1 = some (tyX14 k) := by decide +kernel
abbrev cX14_init : ByteArray := prog_16_method_1_code
def yX14_init : MethodName := ⟨RX14, "<init>", "()V"⟩
theorem dX14_init_0 : decode cX14_init 0 = .ok (.aload_n 0, 1) := by decide +kernel
theorem dX14_init_1 : decode cX14_init 1 = .ok (.invokespecial 1, 3) := by decide +kernel
theorem dX14_init_4 : decode cX14_init 4 = .ok (.return_, 1) := by decide +kernel
abbrev cX14_comes : ByteArray := prog_16_method_2_code
def yX14_comes : MethodName := ⟨RX14, "comes", "(Z)I"⟩
def dkwX14_comes_0 : List UInt8 := [27, 153, 0, 15, 42, 180, 0, 7, 42, 180, 0, 13, 96, 167, 0, 7, 42, 180, 0, 7, 172]
abbrev dktX14_comes_0 : List UInt8 := dkwX14_comes_0 ++ []
theorem dksX14_comes_0 : cX14_comes.data.toList.drop 0 = dktX14_comes_0 := by decide +kernel
theorem dX14_comes_0 : decode cX14_comes 0 = .ok (.iload_n 1, 1) := dk_27 (dk_at dksX14_comes_0 0 rfl rfl)
theorem dX14_comes_1 : decode cX14_comes 1 = .ok (.ifCond .eq 15, 3) := dk_153 0 15 (dk_at dksX14_comes_0 1 rfl rfl)
theorem dX14_comes_4 : decode cX14_comes 4 = .ok (.aload_n 0, 1) := dk_42 (dk_at dksX14_comes_0 4 rfl rfl)
theorem dX14_comes_5 : decode cX14_comes 5 = .ok (.getfield 7, 3) := dk_180 0 7 (dk_at dksX14_comes_0 5 rfl rfl)
theorem dX14_comes_8 : decode cX14_comes 8 = .ok (.aload_n 0, 1) := dk_42 (dk_at dksX14_comes_0 8 rfl rfl)
theorem dX14_comes_9 : decode cX14_comes 9 = .ok (.getfield 13, 3) := dk_180 0 13 (dk_at dksX14_comes_0 9 rfl rfl)
theorem dX14_comes_12 : decode cX14_comes 12 = .ok (.iadd, 1) := dk_96 (dk_at dksX14_comes_0 12 rfl rfl)
theorem dX14_comes_13 : decode cX14_comes 13 = .ok (.goto 7, 3) := dk_167 0 7 (dk_at dksX14_comes_0 13 rfl rfl)
theorem dX14_comes_16 : decode cX14_comes 16 = .ok (.aload_n 0, 1) := dk_42 (dk_at dksX14_comes_0 16 rfl rfl)
theorem dX14_comes_17 : decode cX14_comes 17 = .ok (.getfield 7, 3) := dk_180 0 7 (dk_at dksX14_comes_0 17 rfl rfl)
theorem dX14_comes_20 : decode cX14_comes 20 = .ok (.ireturn, 1) := dk_172 (dk_at dksX14_comes_0 20 rfl rfl)
abbrev cX14_same : ByteArray := prog_16_method_3_code
def yX14_same : MethodName := ⟨RX14, "same", "()LWarByHours$Train;"⟩
def dkwX14_same_2 : List UInt8 := [43, 42, 180, 0, 26, 181, 0, 26, 43, 176]
abbrev dktX14_same_2 : List UInt8 := dkwX14_same_2 ++ []
def dkwX14_same_1 : List UInt8 := [43, 42, 180, 0, 7, 181, 0, 7, 43, 42, 180, 0, 23, 181, 0, 23, 43, 42, 180, 0, 13, 181, 0, 13]
abbrev dktX14_same_1 : List UInt8 := dkwX14_same_1 ++ dktX14_same_2
def dkwX14_same_0 : List UInt8 := [187, 0, 8, 89, 183, 0, 16, 76, 43, 42, 180, 0, 17, 181, 0, 17, 43, 42, 180, 0, 20, 181, 0, 20]
abbrev dktX14_same_0 : List UInt8 := dkwX14_same_0 ++ dktX14_same_1
theorem dksX14_same_0 : cX14_same.data.toList.drop 0 = dktX14_same_0 := by decide +kernel
theorem dksX14_same_1 : cX14_same.data.toList.drop 24 = dktX14_same_1 := dk_seg dksX14_same_0 24 rfl rfl
theorem dksX14_same_2 : cX14_same.data.toList.drop 48 = dktX14_same_2 := dk_seg dksX14_same_1 24 rfl rfl
theorem dX14_same_0 : decode cX14_same 0 = .ok (.new 8, 3) := dk_187 0 8 (dk_at dksX14_same_0 0 rfl rfl)
theorem dX14_same_3 : decode cX14_same 3 = .ok (.dup, 1) := dk_89 (dk_at dksX14_same_0 3 rfl rfl)
theorem dX14_same_4 : decode cX14_same 4 = .ok (.invokespecial 16, 3) := dk_183 0 16 (dk_at dksX14_same_0 4 rfl rfl)
theorem dX14_same_7 : decode cX14_same 7 = .ok (.astore_n 1, 1) := dk_76 (dk_at dksX14_same_0 7 rfl rfl)
theorem dX14_same_8 : decode cX14_same 8 = .ok (.aload_n 1, 1) := dk_43 (dk_at dksX14_same_0 8 rfl rfl)
theorem dX14_same_9 : decode cX14_same 9 = .ok (.aload_n 0, 1) := dk_42 (dk_at dksX14_same_0 9 rfl rfl)
theorem dX14_same_10 : decode cX14_same 10 = .ok (.getfield 17, 3) := dk_180 0 17 (dk_at dksX14_same_0 10 rfl rfl)
theorem dX14_same_13 : decode cX14_same 13 = .ok (.putfield 17, 3) := dk_181 0 17 (dk_at dksX14_same_0 13 rfl rfl)
theorem dX14_same_16 : decode cX14_same 16 = .ok (.aload_n 1, 1) := dk_43 (dk_at dksX14_same_0 16 rfl rfl)
theorem dX14_same_17 : decode cX14_same 17 = .ok (.aload_n 0, 1) := dk_42 (dk_at dksX14_same_0 17 rfl rfl)
theorem dX14_same_18 : decode cX14_same 18 = .ok (.getfield 20, 3) := dk_180 0 20 (dk_at dksX14_same_0 18 rfl rfl)
theorem dX14_same_21 : decode cX14_same 21 = .ok (.putfield 20, 3) := dk_181 0 20 (dk_at dksX14_same_0 21 rfl rfl)
theorem dX14_same_24 : decode cX14_same 24 = .ok (.aload_n 1, 1) := dk_43 (dk_at dksX14_same_1 0 rfl rfl)
theorem dX14_same_25 : decode cX14_same 25 = .ok (.aload_n 0, 1) := dk_42 (dk_at dksX14_same_1 1 rfl rfl)
theorem dX14_same_26 : decode cX14_same 26 = .ok (.getfield 7, 3) := dk_180 0 7 (dk_at dksX14_same_1 2 rfl rfl)
theorem dX14_same_29 : decode cX14_same 29 = .ok (.putfield 7, 3) := dk_181 0 7 (dk_at dksX14_same_1 5 rfl rfl)
theorem dX14_same_32 : decode cX14_same 32 = .ok (.aload_n 1, 1) := dk_43 (dk_at dksX14_same_1 8 rfl rfl)
theorem dX14_same_33 : decode cX14_same 33 = .ok (.aload_n 0, 1) := dk_42 (dk_at dksX14_same_1 9 rfl rfl)
theorem dX14_same_34 : decode cX14_same 34 = .ok (.getfield 23, 3) := dk_180 0 23 (dk_at dksX14_same_1 10 rfl rfl)
theorem dX14_same_37 : decode cX14_same 37 = .ok (.putfield 23, 3) := dk_181 0 23 (dk_at dksX14_same_1 13 rfl rfl)
theorem dX14_same_40 : decode cX14_same 40 = .ok (.aload_n 1, 1) := dk_43 (dk_at dksX14_same_1 16 rfl rfl)
theorem dX14_same_41 : decode cX14_same 41 = .ok (.aload_n 0, 1) := dk_42 (dk_at dksX14_same_1 17 rfl rfl)
theorem dX14_same_42 : decode cX14_same 42 = .ok (.getfield 13, 3) := dk_180 0 13 (dk_at dksX14_same_1 18 rfl rfl)
theorem dX14_same_45 : decode cX14_same 45 = .ok (.putfield 13, 3) := dk_181 0 13 (dk_at dksX14_same_1 21 rfl rfl)
theorem dX14_same_48 : decode cX14_same 48 = .ok (.aload_n 1, 1) := dk_43 (dk_at dksX14_same_2 0 rfl rfl)
theorem dX14_same_49 : decode cX14_same 49 = .ok (.aload_n 0, 1) := dk_42 (dk_at dksX14_same_2 1 rfl rfl)
theorem dX14_same_50 : decode cX14_same 50 = .ok (.getfield 26, 3) := dk_180 0 26 (dk_at dksX14_same_2 2 rfl rfl)
theorem dX14_same_53 : decode cX14_same 53 = .ok (.putfield 26, 3) := dk_181 0 26 (dk_at dksX14_same_2 5 rfl rfl)
theorem dX14_same_56 : decode cX14_same 56 = .ok (.aload_n 1, 1) := dk_43 (dk_at dksX14_same_2 8 rfl rfl)
theorem dX14_same_57 : decode cX14_same 57 = .ok (.areturn, 1) := dk_176 (dk_at dksX14_same_2 9 rfl rfl)
theorem q159 : (Jvm.Cond.initialized "WarByHours$Train") ∈ lw_all := lw_g (lw_at lw_m1 26 rfl) rfl
theorem q876 : (Jvm.Cond.instantiable "WarByHours$Train" (6 : Nat)) ∈ lw_all := lw_g (lw_at lw_m4 23 rfl) rfl
theorem q878 : (Jvm.Cond.instanceMethod ({ cls := "WarByHours$Train", name := "<init>", desc := "()V" } : Jvm.MethodName)) ∈ lw_all := lw_g (lw_at lw_m4 25 rfl) rfl
theorem q879 : (Jvm.Cond.code ({ cls := "WarByHours$Train", name := "<init>", desc := "()V" } : Jvm.MethodName) prog_16_method_1_code (1 : Nat) (Option.none : Option Jvm.ClassFile.FieldType)) ∈ lw_all := lw_g (lw_at lw_m4 26 rfl) rfl
theorem q880 : (Jvm.Cond.methodLink "WarByHours$Train" (1 : Nat) ({ cls := "java/lang/Object", name := "<init>", desc := "()V" } : Jvm.MethodName)) ∈ lw_all := lw_g (lw_at lw_m4 27 rfl) rfl
theorem q881 : (Jvm.Cond.fieldLink "WarByHours$Train" (17 : Nat) "WarByHours$Train" "side" "I") ∈ lw_all := lw_g (lw_at lw_m4 28 rfl) rfl
theorem q884 : (Jvm.Cond.fieldLink "WarByHours$Train" (20 : Nat) "WarByHours$Train" "men" "I") ∈ lw_all := lw_g (lw_at lw_m4 31 rfl) rfl
theorem q887 : (Jvm.Cond.fieldLink "WarByHours$Train" (7 : Nat) "WarByHours$Train" "due" "I") ∈ lw_all := lw_g (lw_at lw_m4 34 rfl) rfl
theorem q890 : (Jvm.Cond.fieldLink "WarByHours$Train" (23 : Nat) "WarByHours$Train" "odds" "I") ∈ lw_all := lw_g (lw_at lw_m4 37 rfl) rfl
theorem q893 : (Jvm.Cond.fieldLink "WarByHours$Train" (13 : Nat) "WarByHours$Train" "by" "I") ∈ lw_all := lw_g (lw_at lw_m4 40 rfl) rfl
theorem q896 : (Jvm.Cond.fieldLink "WarByHours$Train" (26 : Nat) "WarByHours$Train" "price" "I") ∈ lw_all := lw_g (lw_at lw_m4 43 rfl) rfl
theorem q899 : (Jvm.Cond.lays "WarByHours$Train" "WarByHours$Train" "side" "I") ∈ lw_all := lw_g (lw_at lw_m4 46 rfl) rfl
theorem q900 : (Jvm.Cond.soleField "WarByHours$Train" "side") ∈ lw_all := lw_g (lw_at lw_m4 47 rfl) rfl
theorem q901 : (Jvm.Cond.lays "WarByHours$Train" "WarByHours$Train" "men" "I") ∈ lw_all := lw_g (lw_at lw_m4 48 rfl) rfl
theorem q902 : (Jvm.Cond.soleField "WarByHours$Train" "men") ∈ lw_all := lw_g (lw_at lw_m4 49 rfl) rfl
theorem q903 : (Jvm.Cond.lays "WarByHours$Train" "WarByHours$Train" "due" "I") ∈ lw_all := lw_g (lw_at lw_m4 50 rfl) rfl
theorem q904 : (Jvm.Cond.soleField "WarByHours$Train" "due") ∈ lw_all := lw_g (lw_at lw_m4 51 rfl) rfl
theorem q905 : (Jvm.Cond.lays "WarByHours$Train" "WarByHours$Train" "odds" "I") ∈ lw_all := lw_g (lw_at lw_m4 52 rfl) rfl
theorem q906 : (Jvm.Cond.soleField "WarByHours$Train" "odds") ∈ lw_all := lw_g (lw_at lw_m4 53 rfl) rfl
theorem q907 : (Jvm.Cond.lays "WarByHours$Train" "WarByHours$Train" "by" "I") ∈ lw_all := lw_g (lw_at lw_m4 54 rfl) rfl
theorem q908 : (Jvm.Cond.soleField "WarByHours$Train" "by") ∈ lw_all := lw_g (lw_at lw_m4 55 rfl) rfl
theorem q909 : (Jvm.Cond.lays "WarByHours$Train" "WarByHours$Train" "price" "I") ∈ lw_all := lw_g (lw_at lw_m4 56 rfl) rfl
theorem q910 : (Jvm.Cond.soleField "WarByHours$Train" "price") ∈ lw_all := lw_g (lw_at lw_m4 57 rfl) rfl
theorem q911 : (Jvm.Cond.superclass "WarByHours$Train" "java/lang/Object") ∈ lw_all := lw_g (lw_at lw_m4 58 rfl) rfl
theorem q972 : (Jvm.Cond.selects "WarByHours$Train" ({ cls := "java/lang/Object", name := "getClass", desc := "()Ljava/lang/Class;" } : Jvm.MethodName) ({ cls := "java/lang/Object", name := "getClass", desc := "()Ljava/lang/Class;" } : Jvm.MethodName)) ∈ lw_all := lw_g (lw_at lw_m4 119 rfl) rfl
theorem q1185 : (Jvm.Cond.instanceMethod ({ cls := "WarByHours$Train", name := "comes", desc := "(Z)I" } : Jvm.MethodName)) ∈ lw_all := lw_g (lw_at lw_m5 92 rfl) rfl
theorem q1186 : (Jvm.Cond.selects "WarByHours$Train" ({ cls := "WarByHours$Train", name := "comes", desc := "(Z)I" } : Jvm.MethodName) ({ cls := "WarByHours$Train", name := "comes", desc := "(Z)I" } : Jvm.MethodName)) ∈ lw_all := lw_g (lw_at lw_m5 93 rfl) rfl
theorem q1187 : (Jvm.Cond.code ({ cls := "WarByHours$Train", name := "comes", desc := "(Z)I" } : Jvm.MethodName) prog_16_method_2_code (2 : Nat) (Option.some Jvm.ClassFile.FieldType.int)) ∈ lw_all := lw_g (lw_at lw_m5 94 rfl) rfl
theorem q1811 : (Jvm.Cond.instanceMethod ({ cls := "WarByHours$Train", name := "same", desc := "()LWarByHours$Train;" } : Jvm.MethodName)) ∈ lw_all := lw_g (lw_at lw_m7 238 rfl) rfl
theorem q1812 : (Jvm.Cond.selects "WarByHours$Train" ({ cls := "WarByHours$Train", name := "same", desc := "()LWarByHours$Train;" } : Jvm.MethodName) ({ cls := "WarByHours$Train", name := "same", desc := "()LWarByHours$Train;" } : Jvm.MethodName)) ∈ lw_all := lw_g (lw_at lw_m7 239 rfl) rfl
theorem q1813 : (Jvm.Cond.code ({ cls := "WarByHours$Train", name := "same", desc := "()LWarByHours$Train;" } : Jvm.MethodName) prog_16_method_3_code (2 : Nat) (Option.some (Jvm.ClassFile.FieldType.object "WarByHours$Train"))) ∈ lw_all := lw_g (lw_at lw_m8 0 rfl) rfl
theorem q1814 : (Jvm.Cond.classLink "WarByHours$Train" (8 : Nat) "WarByHours$Train") ∈ lw_all := lw_g (lw_at lw_m8 1 rfl) rfl
theorem q1815 : (Jvm.Cond.methodLink "WarByHours$Train" (16 : Nat) ({ cls := "WarByHours$Train", name := "<init>", desc := "()V" } : Jvm.MethodName)) ∈ lw_all := lw_g (lw_at lw_m8 2 rfl) rfl
theorem q2599 : (Jvm.Cond.castable "WarByHours$Train" "java/lang/Object") ∈ lw_tbl := lw_at lw_m11 66 rfl
theorem in_X14 : ∀ w ∈ wsX140, w ∈ lw_all := lw_in wsX140 [899, 901, 903, 905, 907, 909] (by decide +kernel) (by decide +kernel)

/-! WarByHours$Ask -/
set_option maxRecDepth 100000
def RX15 : String := "WarByHours$Ask"
def TX15 : u_T := fun k => match k with
  | 0 => ("WarByHours$Ask", "side", "I", true)
  | 1 => ("WarByHours$Ask", "at", "I", true)
  | 2 => ("WarByHours$Ask", "lasts", "I", true)
  | _ => ("WarByHours$Ask", "worth", "I", true)
def tyX15 : Nat → FieldType := fun k => match k with
  | 0 => .int
  | 1 => .int
  | 2 => .int
  | _ => .int
abbrev wsX150 : List Cond := u_ws RX15 TX15 4
theorem nmX15 : ∀ a, a < 4 → ∀ b, b < 4 → a ≠ b → (TX15 a).2.1 ≠ (TX15 b).2.1 := by decide +kernel
theorem tyX15_ok : ∀ k, k < 4 → parseFieldDescriptor (TX15 k).2.2.1 = some (tyX15 k) := by decide +kernel
abbrev cX15_init : ByteArray := prog_2_method_1_code
def yX15_init : MethodName := ⟨RX15, "<init>", "(IIII)V"⟩
def dkwX15_init_1 : List UInt8 := [181, 0, 19, 177]
abbrev dktX15_init_1 : List UInt8 := dkwX15_init_1 ++ []
def dkwX15_init_0 : List UInt8 := [42, 183, 0, 1, 42, 27, 181, 0, 7, 42, 28, 181, 0, 13, 42, 29, 181, 0, 16, 42, 21, 4]
abbrev dktX15_init_0 : List UInt8 := dkwX15_init_0 ++ dktX15_init_1
theorem dksX15_init_0 : cX15_init.data.toList.drop 0 = dktX15_init_0 := by decide +kernel
theorem dksX15_init_1 : cX15_init.data.toList.drop 22 = dktX15_init_1 := dk_seg dksX15_init_0 22 rfl rfl
theorem dX15_init_0 : decode cX15_init 0 = .ok (.aload_n 0, 1) := dk_42 (dk_at dksX15_init_0 0 rfl rfl)
theorem dX15_init_1 : decode cX15_init 1 = .ok (.invokespecial 1, 3) := dk_183 0 1 (dk_at dksX15_init_0 1 rfl rfl)
theorem dX15_init_4 : decode cX15_init 4 = .ok (.aload_n 0, 1) := dk_42 (dk_at dksX15_init_0 4 rfl rfl)
theorem dX15_init_5 : decode cX15_init 5 = .ok (.iload_n 1, 1) := dk_27 (dk_at dksX15_init_0 5 rfl rfl)
theorem dX15_init_6 : decode cX15_init 6 = .ok (.putfield 7, 3) := dk_181 0 7 (dk_at dksX15_init_0 6 rfl rfl)
theorem dX15_init_9 : decode cX15_init 9 = .ok (.aload_n 0, 1) := dk_42 (dk_at dksX15_init_0 9 rfl rfl)
theorem dX15_init_10 : decode cX15_init 10 = .ok (.iload_n 2, 1) := dk_28 (dk_at dksX15_init_0 10 rfl rfl)
theorem dX15_init_11 : decode cX15_init 11 = .ok (.putfield 13, 3) := dk_181 0 13 (dk_at dksX15_init_0 11 rfl rfl)
theorem dX15_init_14 : decode cX15_init 14 = .ok (.aload_n 0, 1) := dk_42 (dk_at dksX15_init_0 14 rfl rfl)
theorem dX15_init_15 : decode cX15_init 15 = .ok (.iload_n 3, 1) := dk_29 (dk_at dksX15_init_0 15 rfl rfl)
theorem dX15_init_16 : decode cX15_init 16 = .ok (.putfield 16, 3) := dk_181 0 16 (dk_at dksX15_init_0 16 rfl rfl)
theorem dX15_init_19 : decode cX15_init 19 = .ok (.aload_n 0, 1) := dk_42 (dk_at dksX15_init_0 19 rfl rfl)
theorem dX15_init_20 : decode cX15_init 20 = .ok (.iload 4, 2) := dk_21 4 (dk_at dksX15_init_0 20 rfl rfl)
theorem dX15_init_22 : decode cX15_init 22 = .ok (.putfield 19, 3) := dk_181 0 19 (dk_at dksX15_init_1 0 rfl rfl)
theorem dX15_init_25 : decode cX15_init 25 = .ok (.return_, 1) := dk_177 (dk_at dksX15_init_1 3 rfl rfl)
abbrev cX15_meets : ByteArray := prog_2_method_2_code
def yX15_meets : MethodName := ⟨RX15, "meets", "(LWarByHours$Ask;)Z"⟩
def dkwX15_meets_1 : List UInt8 := [42, 180, 0, 16, 96, 162, 0, 7, 4, 167, 0, 4, 3, 172]
abbrev dktX15_meets_1 : List UInt8 := dkwX15_meets_1 ++ []
def dkwX15_meets_0 : List UInt8 := [42, 180, 0, 13, 43, 180, 0, 13, 43, 180, 0, 16, 96, 162, 0, 23, 43, 180, 0, 13, 42, 180, 0, 13]
abbrev dktX15_meets_0 : List UInt8 := dkwX15_meets_0 ++ dktX15_meets_1
theorem dksX15_meets_0 : cX15_meets.data.toList.drop 0 = dktX15_meets_0 := by decide +kernel
theorem dksX15_meets_1 : cX15_meets.data.toList.drop 24 = dktX15_meets_1 := dk_seg dksX15_meets_0 24 rfl rfl
theorem dX15_meets_0 : decode cX15_meets 0 = .ok (.aload_n 0, 1) := dk_42 (dk_at dksX15_meets_0 0 rfl rfl)
theorem dX15_meets_1 : decode cX15_meets 1 = .ok (.getfield 13, 3) := dk_180 0 13 (dk_at dksX15_meets_0 1 rfl rfl)
theorem dX15_meets_4 : decode cX15_meets 4 = .ok (.aload_n 1, 1) := dk_43 (dk_at dksX15_meets_0 4 rfl rfl)
theorem dX15_meets_5 : decode cX15_meets 5 = .ok (.getfield 13, 3) := dk_180 0 13 (dk_at dksX15_meets_0 5 rfl rfl)
theorem dX15_meets_8 : decode cX15_meets 8 = .ok (.aload_n 1, 1) := dk_43 (dk_at dksX15_meets_0 8 rfl rfl)
theorem dX15_meets_9 : decode cX15_meets 9 = .ok (.getfield 16, 3) := dk_180 0 16 (dk_at dksX15_meets_0 9 rfl rfl)
theorem dX15_meets_12 : decode cX15_meets 12 = .ok (.iadd, 1) := dk_96 (dk_at dksX15_meets_0 12 rfl rfl)
theorem dX15_meets_13 : decode cX15_meets 13 = .ok (.if_icmp .ge 23, 3) := dk_162 0 23 (dk_at dksX15_meets_0 13 rfl rfl)
theorem dX15_meets_16 : decode cX15_meets 16 = .ok (.aload_n 1, 1) := dk_43 (dk_at dksX15_meets_0 16 rfl rfl)
theorem dX15_meets_17 : decode cX15_meets 17 = .ok (.getfield 13, 3) := dk_180 0 13 (dk_at dksX15_meets_0 17 rfl rfl)
theorem dX15_meets_20 : decode cX15_meets 20 = .ok (.aload_n 0, 1) := dk_42 (dk_at dksX15_meets_0 20 rfl rfl)
theorem dX15_meets_21 : decode cX15_meets 21 = .ok (.getfield 13, 3) := dk_180 0 13 (dk_at dksX15_meets_0 21 rfl rfl)
theorem dX15_meets_24 : decode cX15_meets 24 = .ok (.aload_n 0, 1) := dk_42 (dk_at dksX15_meets_1 0 rfl rfl)
theorem dX15_meets_25 : decode cX15_meets 25 = .ok (.getfield 16, 3) := dk_180 0 16 (dk_at dksX15_meets_1 1 rfl rfl)
theorem dX15_meets_28 : decode cX15_meets 28 = .ok (.iadd, 1) := dk_96 (dk_at dksX15_meets_1 4 rfl rfl)
theorem dX15_meets_29 : decode cX15_meets 29 = .ok (.if_icmp .ge 7, 3) := dk_162 0 7 (dk_at dksX15_meets_1 5 rfl rfl)
theorem dX15_meets_32 : decode cX15_meets 32 = .ok (.iconst 1, 1) := dk_4 (dk_at dksX15_meets_1 8 rfl rfl)
theorem dX15_meets_33 : decode cX15_meets 33 = .ok (.goto 4, 3) := dk_167 0 4 (dk_at dksX15_meets_1 9 rfl rfl)
theorem dX15_meets_36 : decode cX15_meets 36 = .ok (.iconst 0, 1) := dk_3 (dk_at dksX15_meets_1 12 rfl rfl)
theorem dX15_meets_37 : decode cX15_meets 37 = .ok (.ireturn, 1) := dk_172 (dk_at dksX15_meets_1 13 rfl rfl)
theorem q163 : (Jvm.Cond.initialized "WarByHours$Ask") ∈ lw_all := lw_g (lw_at lw_m1 30 rfl) rfl
theorem q959 : (Jvm.Cond.selects "WarByHours$Ask" ({ cls := "java/lang/Object", name := "getClass", desc := "()Ljava/lang/Class;" } : Jvm.MethodName) ({ cls := "java/lang/Object", name := "getClass", desc := "()Ljava/lang/Class;" } : Jvm.MethodName)) ∈ lw_all := lw_g (lw_at lw_m4 106 rfl) rfl
theorem q999 : (Jvm.Cond.instantiable "WarByHours$Ask" (4 : Nat)) ∈ lw_all := lw_g (lw_at lw_m4 146 rfl) rfl
theorem q1002 : (Jvm.Cond.instanceMethod ({ cls := "WarByHours$Ask", name := "<init>", desc := "(IIII)V" } : Jvm.MethodName)) ∈ lw_all := lw_g (lw_at lw_m4 149 rfl) rfl
theorem q1003 : (Jvm.Cond.code ({ cls := "WarByHours$Ask", name := "<init>", desc := "(IIII)V" } : Jvm.MethodName) prog_2_method_1_code (5 : Nat) (Option.none : Option Jvm.ClassFile.FieldType)) ∈ lw_all := lw_g (lw_at lw_m4 150 rfl) rfl
theorem q1004 : (Jvm.Cond.methodLink "WarByHours$Ask" (1 : Nat) ({ cls := "java/lang/Object", name := "<init>", desc := "()V" } : Jvm.MethodName)) ∈ lw_all := lw_g (lw_at lw_m4 151 rfl) rfl
theorem q1005 : (Jvm.Cond.fieldLink "WarByHours$Ask" (7 : Nat) "WarByHours$Ask" "side" "I") ∈ lw_all := lw_g (lw_at lw_m4 152 rfl) rfl
theorem q1007 : (Jvm.Cond.fieldLink "WarByHours$Ask" (13 : Nat) "WarByHours$Ask" "at" "I") ∈ lw_all := lw_g (lw_at lw_m4 154 rfl) rfl
theorem q1009 : (Jvm.Cond.fieldLink "WarByHours$Ask" (16 : Nat) "WarByHours$Ask" "lasts" "I") ∈ lw_all := lw_g (lw_at lw_m4 156 rfl) rfl
theorem q1011 : (Jvm.Cond.fieldLink "WarByHours$Ask" (19 : Nat) "WarByHours$Ask" "worth" "I") ∈ lw_all := lw_g (lw_at lw_m4 158 rfl) rfl
theorem q1013 : (Jvm.Cond.laysFinal "WarByHours$Ask" "WarByHours$Ask" "side" "I") ∈ lw_all := lw_g (lw_at lw_m4 160 rfl) rfl
theorem q1014 : (Jvm.Cond.soleField "WarByHours$Ask" "side") ∈ lw_all := lw_g (lw_at lw_m4 161 rfl) rfl
theorem q1015 : (Jvm.Cond.laysFinal "WarByHours$Ask" "WarByHours$Ask" "at" "I") ∈ lw_all := lw_g (lw_at lw_m4 162 rfl) rfl
theorem q1016 : (Jvm.Cond.soleField "WarByHours$Ask" "at") ∈ lw_all := lw_g (lw_at lw_m4 163 rfl) rfl
theorem q1017 : (Jvm.Cond.laysFinal "WarByHours$Ask" "WarByHours$Ask" "lasts" "I") ∈ lw_all := lw_g (lw_at lw_m4 164 rfl) rfl
theorem q1018 : (Jvm.Cond.soleField "WarByHours$Ask" "lasts") ∈ lw_all := lw_g (lw_at lw_m4 165 rfl) rfl
theorem q1019 : (Jvm.Cond.laysFinal "WarByHours$Ask" "WarByHours$Ask" "worth" "I") ∈ lw_all := lw_g (lw_at lw_m4 166 rfl) rfl
theorem q1020 : (Jvm.Cond.soleField "WarByHours$Ask" "worth") ∈ lw_all := lw_g (lw_at lw_m4 167 rfl) rfl
theorem q1021 : (Jvm.Cond.superclass "WarByHours$Ask" "java/lang/Object") ∈ lw_all := lw_g (lw_at lw_m4 168 rfl) rfl
theorem q1632 : (Jvm.Cond.instanceMethod ({ cls := "WarByHours$Ask", name := "meets", desc := "(LWarByHours$Ask;)Z" } : Jvm.MethodName)) ∈ lw_all := lw_g (lw_at lw_m7 59 rfl) rfl
theorem q1633 : (Jvm.Cond.selects "WarByHours$Ask" ({ cls := "WarByHours$Ask", name := "meets", desc := "(LWarByHours$Ask;)Z" } : Jvm.MethodName) ({ cls := "WarByHours$Ask", name := "meets", desc := "(LWarByHours$Ask;)Z" } : Jvm.MethodName)) ∈ lw_all := lw_g (lw_at lw_m7 60 rfl) rfl
theorem q1634 : (Jvm.Cond.code ({ cls := "WarByHours$Ask", name := "meets", desc := "(LWarByHours$Ask;)Z" } : Jvm.MethodName) prog_2_method_2_code (2 : Nat) (Option.some Jvm.ClassFile.FieldType.boolean)) ∈ lw_all := lw_g (lw_at lw_m7 61 rfl) rfl
theorem q2600 : (Jvm.Cond.castable "WarByHours$Ask" "java/lang/Object") ∈ lw_tbl := lw_at lw_m11 67 rfl
theorem in_X15 : ∀ w ∈ wsX150, w ∈ lw_all := lw_in wsX150 [1013, 1015, 1017, 1019] (by decide +kernel) (by decide +kernel)

/-! WarByHours$Span -/
set_option maxRecDepth 100000
def RX16 : String := "WarByHours$Span"
def TX16 : u_T := fun k => match k with
  | 0 => ("WarByHours$Span", "from", "I", true)
  | _ => ("WarByHours$Span", "to", "I", true)
def tyX16 : Nat → FieldType := fun k => match k with
  | 0 => .int
  | _ => .int
abbrev wsX160 : List Cond := u_ws RX16 TX16 2
theorem nmX16 : ∀ a, a < 2 → ∀ b, b < 2 → a ≠ b → (TX16 a).2.1 ≠ (TX16 b).2.1 := by decide +kernel
theorem tyX16_ok : ∀ k, k < 2 → parseFieldDescriptor (TX16 k).2.2.1 = some (tyX16 k) := by decide +kernel
abbrev cX16_init : ByteArray := prog_15_method_1_code
def yX16_init : MethodName := ⟨RX16, "<init>", "(II)V"⟩
def dkwX16_init_0 : List UInt8 := [42, 183, 0, 1, 42, 27, 181, 0, 7, 42, 28, 181, 0, 13, 177]
abbrev dktX16_init_0 : List UInt8 := dkwX16_init_0 ++ []
theorem dksX16_init_0 : cX16_init.data.toList.drop 0 = dktX16_init_0 := by decide +kernel
theorem dX16_init_0 : decode cX16_init 0 = .ok (.aload_n 0, 1) := dk_42 (dk_at dksX16_init_0 0 rfl rfl)
theorem dX16_init_1 : decode cX16_init 1 = .ok (.invokespecial 1, 3) := dk_183 0 1 (dk_at dksX16_init_0 1 rfl rfl)
theorem dX16_init_4 : decode cX16_init 4 = .ok (.aload_n 0, 1) := dk_42 (dk_at dksX16_init_0 4 rfl rfl)
theorem dX16_init_5 : decode cX16_init 5 = .ok (.iload_n 1, 1) := dk_27 (dk_at dksX16_init_0 5 rfl rfl)
theorem dX16_init_6 : decode cX16_init 6 = .ok (.putfield 7, 3) := dk_181 0 7 (dk_at dksX16_init_0 6 rfl rfl)
theorem dX16_init_9 : decode cX16_init 9 = .ok (.aload_n 0, 1) := dk_42 (dk_at dksX16_init_0 9 rfl rfl)
theorem dX16_init_10 : decode cX16_init 10 = .ok (.iload_n 2, 1) := dk_28 (dk_at dksX16_init_0 10 rfl rfl)
theorem dX16_init_11 : decode cX16_init 11 = .ok (.putfield 13, 3) := dk_181 0 13 (dk_at dksX16_init_0 11 rfl rfl)
theorem dX16_init_14 : decode cX16_init 14 = .ok (.return_, 1) := dk_177 (dk_at dksX16_init_0 14 rfl rfl)
abbrev cX16_has : ByteArray := prog_15_method_2_code
def yX16_has : MethodName := ⟨RX16, "has", "(I)Z"⟩
def dkwX16_has_0 : List UInt8 := [27, 42, 180, 0, 7, 161, 0, 15, 27, 42, 180, 0, 13, 163, 0, 7, 4, 167, 0, 4, 3, 172]
abbrev dktX16_has_0 : List UInt8 := dkwX16_has_0 ++ []
theorem dksX16_has_0 : cX16_has.data.toList.drop 0 = dktX16_has_0 := by decide +kernel
theorem dX16_has_0 : decode cX16_has 0 = .ok (.iload_n 1, 1) := dk_27 (dk_at dksX16_has_0 0 rfl rfl)
theorem dX16_has_1 : decode cX16_has 1 = .ok (.aload_n 0, 1) := dk_42 (dk_at dksX16_has_0 1 rfl rfl)
theorem dX16_has_2 : decode cX16_has 2 = .ok (.getfield 7, 3) := dk_180 0 7 (dk_at dksX16_has_0 2 rfl rfl)
theorem dX16_has_5 : decode cX16_has 5 = .ok (.if_icmp .lt 15, 3) := dk_161 0 15 (dk_at dksX16_has_0 5 rfl rfl)
theorem dX16_has_8 : decode cX16_has 8 = .ok (.iload_n 1, 1) := dk_27 (dk_at dksX16_has_0 8 rfl rfl)
theorem dX16_has_9 : decode cX16_has 9 = .ok (.aload_n 0, 1) := dk_42 (dk_at dksX16_has_0 9 rfl rfl)
theorem dX16_has_10 : decode cX16_has 10 = .ok (.getfield 13, 3) := dk_180 0 13 (dk_at dksX16_has_0 10 rfl rfl)
theorem dX16_has_13 : decode cX16_has 13 = .ok (.if_icmp .gt 7, 3) := dk_163 0 7 (dk_at dksX16_has_0 13 rfl rfl)
theorem dX16_has_16 : decode cX16_has 16 = .ok (.iconst 1, 1) := dk_4 (dk_at dksX16_has_0 16 rfl rfl)
theorem dX16_has_17 : decode cX16_has 17 = .ok (.goto 4, 3) := dk_167 0 4 (dk_at dksX16_has_0 17 rfl rfl)
theorem dX16_has_20 : decode cX16_has 20 = .ok (.iconst 0, 1) := dk_3 (dk_at dksX16_has_0 20 rfl rfl)
theorem dX16_has_21 : decode cX16_has 21 = .ok (.ireturn, 1) := dk_172 (dk_at dksX16_has_0 21 rfl rfl)
abbrev cX16_forbids : ByteArray := prog_15_method_3_code
def yX16_forbids : MethodName := ⟨RX16, "forbids", "(IZZ)Z"⟩
def dkwX16_forbids_2 : List UInt8 := [167, 0, 4, 3, 172]
abbrev dktX16_forbids_2 : List UInt8 := dkwX16_forbids_2 ++ []
def dkwX16_forbids_1 : List UInt8 := [153, 0, 14, 27, 42, 180, 0, 13, 163, 0, 18, 167, 0, 11, 27, 42, 180, 0, 13, 162, 0, 7, 4]
abbrev dktX16_forbids_1 : List UInt8 := dkwX16_forbids_1 ++ dktX16_forbids_2
def dkwX16_forbids_0 : List UInt8 := [28, 153, 0, 14, 27, 42, 180, 0, 7, 161, 0, 41, 167, 0, 11, 27, 42, 180, 0, 7, 164, 0, 30, 29]
abbrev dktX16_forbids_0 : List UInt8 := dkwX16_forbids_0 ++ dktX16_forbids_1
theorem dksX16_forbids_0 : cX16_forbids.data.toList.drop 0 = dktX16_forbids_0 := by decide +kernel
theorem dksX16_forbids_1 : cX16_forbids.data.toList.drop 24 = dktX16_forbids_1 := dk_seg dksX16_forbids_0 24 rfl rfl
theorem dksX16_forbids_2 : cX16_forbids.data.toList.drop 47 = dktX16_forbids_2 := dk_seg dksX16_forbids_1 23 rfl rfl
theorem dX16_forbids_0 : decode cX16_forbids 0 = .ok (.iload_n 2, 1) := dk_28 (dk_at dksX16_forbids_0 0 rfl rfl)
theorem dX16_forbids_1 : decode cX16_forbids 1 = .ok (.ifCond .eq 14, 3) := dk_153 0 14 (dk_at dksX16_forbids_0 1 rfl rfl)
theorem dX16_forbids_4 : decode cX16_forbids 4 = .ok (.iload_n 1, 1) := dk_27 (dk_at dksX16_forbids_0 4 rfl rfl)
theorem dX16_forbids_5 : decode cX16_forbids 5 = .ok (.aload_n 0, 1) := dk_42 (dk_at dksX16_forbids_0 5 rfl rfl)
theorem dX16_forbids_6 : decode cX16_forbids 6 = .ok (.getfield 7, 3) := dk_180 0 7 (dk_at dksX16_forbids_0 6 rfl rfl)
theorem dX16_forbids_9 : decode cX16_forbids 9 = .ok (.if_icmp .lt 41, 3) := dk_161 0 41 (dk_at dksX16_forbids_0 9 rfl rfl)
theorem dX16_forbids_12 : decode cX16_forbids 12 = .ok (.goto 11, 3) := dk_167 0 11 (dk_at dksX16_forbids_0 12 rfl rfl)
theorem dX16_forbids_15 : decode cX16_forbids 15 = .ok (.iload_n 1, 1) := dk_27 (dk_at dksX16_forbids_0 15 rfl rfl)
theorem dX16_forbids_16 : decode cX16_forbids 16 = .ok (.aload_n 0, 1) := dk_42 (dk_at dksX16_forbids_0 16 rfl rfl)
theorem dX16_forbids_17 : decode cX16_forbids 17 = .ok (.getfield 7, 3) := dk_180 0 7 (dk_at dksX16_forbids_0 17 rfl rfl)
theorem dX16_forbids_20 : decode cX16_forbids 20 = .ok (.if_icmp .le 30, 3) := dk_164 0 30 (dk_at dksX16_forbids_0 20 rfl rfl)
theorem dX16_forbids_23 : decode cX16_forbids 23 = .ok (.iload_n 3, 1) := dk_29 (dk_at dksX16_forbids_0 23 rfl rfl)
theorem dX16_forbids_24 : decode cX16_forbids 24 = .ok (.ifCond .eq 14, 3) := dk_153 0 14 (dk_at dksX16_forbids_1 0 rfl rfl)
theorem dX16_forbids_27 : decode cX16_forbids 27 = .ok (.iload_n 1, 1) := dk_27 (dk_at dksX16_forbids_1 3 rfl rfl)
theorem dX16_forbids_28 : decode cX16_forbids 28 = .ok (.aload_n 0, 1) := dk_42 (dk_at dksX16_forbids_1 4 rfl rfl)
theorem dX16_forbids_29 : decode cX16_forbids 29 = .ok (.getfield 13, 3) := dk_180 0 13 (dk_at dksX16_forbids_1 5 rfl rfl)
theorem dX16_forbids_32 : decode cX16_forbids 32 = .ok (.if_icmp .gt 18, 3) := dk_163 0 18 (dk_at dksX16_forbids_1 8 rfl rfl)
theorem dX16_forbids_35 : decode cX16_forbids 35 = .ok (.goto 11, 3) := dk_167 0 11 (dk_at dksX16_forbids_1 11 rfl rfl)
theorem dX16_forbids_38 : decode cX16_forbids 38 = .ok (.iload_n 1, 1) := dk_27 (dk_at dksX16_forbids_1 14 rfl rfl)
theorem dX16_forbids_39 : decode cX16_forbids 39 = .ok (.aload_n 0, 1) := dk_42 (dk_at dksX16_forbids_1 15 rfl rfl)
theorem dX16_forbids_40 : decode cX16_forbids 40 = .ok (.getfield 13, 3) := dk_180 0 13 (dk_at dksX16_forbids_1 16 rfl rfl)
theorem dX16_forbids_43 : decode cX16_forbids 43 = .ok (.if_icmp .ge 7, 3) := dk_162 0 7 (dk_at dksX16_forbids_1 19 rfl rfl)
theorem dX16_forbids_46 : decode cX16_forbids 46 = .ok (.iconst 1, 1) := dk_4 (dk_at dksX16_forbids_1 22 rfl rfl)
theorem dX16_forbids_47 : decode cX16_forbids 47 = .ok (.goto 4, 3) := dk_167 0 4 (dk_at dksX16_forbids_2 0 rfl rfl)
theorem dX16_forbids_50 : decode cX16_forbids 50 = .ok (.iconst 0, 1) := dk_3 (dk_at dksX16_forbids_2 3 rfl rfl)
theorem dX16_forbids_51 : decode cX16_forbids 51 = .ok (.ireturn, 1) := dk_172 (dk_at dksX16_forbids_2 4 rfl rfl)
theorem q167 : (Jvm.Cond.initialized "WarByHours$Span") ∈ lw_all := lw_g (lw_at lw_m1 34 rfl) rfl
theorem q971 : (Jvm.Cond.selects "WarByHours$Span" ({ cls := "java/lang/Object", name := "getClass", desc := "()Ljava/lang/Class;" } : Jvm.MethodName) ({ cls := "java/lang/Object", name := "getClass", desc := "()Ljava/lang/Class;" } : Jvm.MethodName)) ∈ lw_all := lw_g (lw_at lw_m4 118 rfl) rfl
theorem q1054 : (Jvm.Cond.instantiable "WarByHours$Span" (2 : Nat)) ∈ lw_all := lw_g (lw_at lw_m4 201 rfl) rfl
theorem q1057 : (Jvm.Cond.instanceMethod ({ cls := "WarByHours$Span", name := "<init>", desc := "(II)V" } : Jvm.MethodName)) ∈ lw_all := lw_g (lw_at lw_m4 204 rfl) rfl
theorem q1058 : (Jvm.Cond.code ({ cls := "WarByHours$Span", name := "<init>", desc := "(II)V" } : Jvm.MethodName) prog_15_method_1_code (3 : Nat) (Option.none : Option Jvm.ClassFile.FieldType)) ∈ lw_all := lw_g (lw_at lw_m4 205 rfl) rfl
theorem q1059 : (Jvm.Cond.methodLink "WarByHours$Span" (1 : Nat) ({ cls := "java/lang/Object", name := "<init>", desc := "()V" } : Jvm.MethodName)) ∈ lw_all := lw_g (lw_at lw_m4 206 rfl) rfl
theorem q1060 : (Jvm.Cond.fieldLink "WarByHours$Span" (7 : Nat) "WarByHours$Span" "from" "I") ∈ lw_all := lw_g (lw_at lw_m4 207 rfl) rfl
theorem q1062 : (Jvm.Cond.fieldLink "WarByHours$Span" (13 : Nat) "WarByHours$Span" "to" "I") ∈ lw_all := lw_g (lw_at lw_m4 209 rfl) rfl
theorem q1064 : (Jvm.Cond.laysFinal "WarByHours$Span" "WarByHours$Span" "from" "I") ∈ lw_all := lw_g (lw_at lw_m4 211 rfl) rfl
theorem q1065 : (Jvm.Cond.soleField "WarByHours$Span" "from") ∈ lw_all := lw_g (lw_at lw_m4 212 rfl) rfl
theorem q1066 : (Jvm.Cond.laysFinal "WarByHours$Span" "WarByHours$Span" "to" "I") ∈ lw_all := lw_g (lw_at lw_m4 213 rfl) rfl
theorem q1067 : (Jvm.Cond.soleField "WarByHours$Span" "to") ∈ lw_all := lw_g (lw_at lw_m4 214 rfl) rfl
theorem q1068 : (Jvm.Cond.superclass "WarByHours$Span" "java/lang/Object") ∈ lw_all := lw_g (lw_at lw_m4 215 rfl) rfl
theorem q1134 : (Jvm.Cond.instanceMethod ({ cls := "WarByHours$Span", name := "has", desc := "(I)Z" } : Jvm.MethodName)) ∈ lw_all := lw_g (lw_at lw_m5 41 rfl) rfl
theorem q1135 : (Jvm.Cond.selects "WarByHours$Span" ({ cls := "WarByHours$Span", name := "has", desc := "(I)Z" } : Jvm.MethodName) ({ cls := "WarByHours$Span", name := "has", desc := "(I)Z" } : Jvm.MethodName)) ∈ lw_all := lw_g (lw_at lw_m5 42 rfl) rfl
theorem q1136 : (Jvm.Cond.code ({ cls := "WarByHours$Span", name := "has", desc := "(I)Z" } : Jvm.MethodName) prog_15_method_2_code (2 : Nat) (Option.some Jvm.ClassFile.FieldType.boolean)) ∈ lw_all := lw_g (lw_at lw_m5 43 rfl) rfl
theorem q1552 : (Jvm.Cond.instanceMethod ({ cls := "WarByHours$Span", name := "forbids", desc := "(IZZ)Z" } : Jvm.MethodName)) ∈ lw_all := lw_g (lw_at lw_m6 219 rfl) rfl
theorem q1553 : (Jvm.Cond.selects "WarByHours$Span" ({ cls := "WarByHours$Span", name := "forbids", desc := "(IZZ)Z" } : Jvm.MethodName) ({ cls := "WarByHours$Span", name := "forbids", desc := "(IZZ)Z" } : Jvm.MethodName)) ∈ lw_all := lw_g (lw_at lw_m6 220 rfl) rfl
theorem q1554 : (Jvm.Cond.code ({ cls := "WarByHours$Span", name := "forbids", desc := "(IZZ)Z" } : Jvm.MethodName) prog_15_method_3_code (4 : Nat) (Option.some Jvm.ClassFile.FieldType.boolean)) ∈ lw_all := lw_g (lw_at lw_m6 221 rfl) rfl
theorem q2602 : (Jvm.Cond.castable "WarByHours$Span" "java/lang/Object") ∈ lw_tbl := lw_at lw_m11 69 rfl
theorem in_X16 : ∀ w ∈ wsX160, w ∈ lw_all := lw_in wsX160 [1064, 1066] (by decide +kernel) (by decide +kernel)

/-! WarByHours$Change -/
set_option maxRecDepth 100000
def RX17 : String := "WarByHours$Change"
def TX17 : u_T := fun k => match k with
  | 0 => ("WarByHours$Change", "what", "I", true)
  | 1 => ("WarByHours$Change", "of", "I", true)
  | _ => ("WarByHours$Change", "was", "I", true)
def tyX17 : Nat → FieldType := fun k => match k with
  | 0 => .int
  | 1 => .int
  | _ => .int
abbrev wsX170 : List Cond := u_ws RX17 TX17 3
theorem nmX17 : ∀ a, a < 3 → ∀ b, b < 3 → a ≠ b → (TX17 a).2.1 ≠ (TX17 b).2.1 := by decide +kernel
theorem tyX17_ok : ∀ k, k < 3 → parseFieldDescriptor (TX17 k).2.2.1 = some (tyX17 k) := by decide +kernel
abbrev cX17_init : ByteArray := prog_4_method_1_code
def yX17_init : MethodName := ⟨RX17, "<init>", "(III)V"⟩
def dkwX17_init_0 : List UInt8 := [42, 183, 0, 1, 42, 27, 181, 0, 7, 42, 28, 181, 0, 13, 42, 29, 181, 0, 16, 177]
abbrev dktX17_init_0 : List UInt8 := dkwX17_init_0 ++ []
theorem dksX17_init_0 : cX17_init.data.toList.drop 0 = dktX17_init_0 := by decide +kernel
theorem dX17_init_0 : decode cX17_init 0 = .ok (.aload_n 0, 1) := dk_42 (dk_at dksX17_init_0 0 rfl rfl)
theorem dX17_init_1 : decode cX17_init 1 = .ok (.invokespecial 1, 3) := dk_183 0 1 (dk_at dksX17_init_0 1 rfl rfl)
theorem dX17_init_4 : decode cX17_init 4 = .ok (.aload_n 0, 1) := dk_42 (dk_at dksX17_init_0 4 rfl rfl)
theorem dX17_init_5 : decode cX17_init 5 = .ok (.iload_n 1, 1) := dk_27 (dk_at dksX17_init_0 5 rfl rfl)
theorem dX17_init_6 : decode cX17_init 6 = .ok (.putfield 7, 3) := dk_181 0 7 (dk_at dksX17_init_0 6 rfl rfl)
theorem dX17_init_9 : decode cX17_init 9 = .ok (.aload_n 0, 1) := dk_42 (dk_at dksX17_init_0 9 rfl rfl)
theorem dX17_init_10 : decode cX17_init 10 = .ok (.iload_n 2, 1) := dk_28 (dk_at dksX17_init_0 10 rfl rfl)
theorem dX17_init_11 : decode cX17_init 11 = .ok (.putfield 13, 3) := dk_181 0 13 (dk_at dksX17_init_0 11 rfl rfl)
theorem dX17_init_14 : decode cX17_init 14 = .ok (.aload_n 0, 1) := dk_42 (dk_at dksX17_init_0 14 rfl rfl)
theorem dX17_init_15 : decode cX17_init 15 = .ok (.iload_n 3, 1) := dk_29 (dk_at dksX17_init_0 15 rfl rfl)
theorem dX17_init_16 : decode cX17_init 16 = .ok (.putfield 16, 3) := dk_181 0 16 (dk_at dksX17_init_0 16 rfl rfl)
theorem dX17_init_19 : decode cX17_init 19 = .ok (.return_, 1) := dk_177 (dk_at dksX17_init_0 19 rfl rfl)
theorem q169 : (Jvm.Cond.initialized "WarByHours$Change") ∈ lw_all := lw_g (lw_at lw_m1 36 rfl) rfl
theorem q961 : (Jvm.Cond.selects "WarByHours$Change" ({ cls := "java/lang/Object", name := "getClass", desc := "()Ljava/lang/Class;" } : Jvm.MethodName) ({ cls := "java/lang/Object", name := "getClass", desc := "()Ljava/lang/Class;" } : Jvm.MethodName)) ∈ lw_all := lw_g (lw_at lw_m4 108 rfl) rfl
theorem q1676 : (Jvm.Cond.instantiable "WarByHours$Change" (3 : Nat)) ∈ lw_all := lw_g (lw_at lw_m7 103 rfl) rfl
theorem q1678 : (Jvm.Cond.instanceMethod ({ cls := "WarByHours$Change", name := "<init>", desc := "(III)V" } : Jvm.MethodName)) ∈ lw_all := lw_g (lw_at lw_m7 105 rfl) rfl
theorem q1679 : (Jvm.Cond.code ({ cls := "WarByHours$Change", name := "<init>", desc := "(III)V" } : Jvm.MethodName) prog_4_method_1_code (4 : Nat) (Option.none : Option Jvm.ClassFile.FieldType)) ∈ lw_all := lw_g (lw_at lw_m7 106 rfl) rfl
theorem q1680 : (Jvm.Cond.methodLink "WarByHours$Change" (1 : Nat) ({ cls := "java/lang/Object", name := "<init>", desc := "()V" } : Jvm.MethodName)) ∈ lw_all := lw_g (lw_at lw_m7 107 rfl) rfl
theorem q1681 : (Jvm.Cond.fieldLink "WarByHours$Change" (7 : Nat) "WarByHours$Change" "what" "I") ∈ lw_all := lw_g (lw_at lw_m7 108 rfl) rfl
theorem q1683 : (Jvm.Cond.fieldLink "WarByHours$Change" (13 : Nat) "WarByHours$Change" "of" "I") ∈ lw_all := lw_g (lw_at lw_m7 110 rfl) rfl
theorem q1685 : (Jvm.Cond.fieldLink "WarByHours$Change" (16 : Nat) "WarByHours$Change" "was" "I") ∈ lw_all := lw_g (lw_at lw_m7 112 rfl) rfl
theorem q1687 : (Jvm.Cond.laysFinal "WarByHours$Change" "WarByHours$Change" "what" "I") ∈ lw_all := lw_g (lw_at lw_m7 114 rfl) rfl
theorem q1688 : (Jvm.Cond.soleField "WarByHours$Change" "what") ∈ lw_all := lw_g (lw_at lw_m7 115 rfl) rfl
theorem q1689 : (Jvm.Cond.laysFinal "WarByHours$Change" "WarByHours$Change" "of" "I") ∈ lw_all := lw_g (lw_at lw_m7 116 rfl) rfl
theorem q1690 : (Jvm.Cond.soleField "WarByHours$Change" "of") ∈ lw_all := lw_g (lw_at lw_m7 117 rfl) rfl
theorem q1691 : (Jvm.Cond.laysFinal "WarByHours$Change" "WarByHours$Change" "was" "I") ∈ lw_all := lw_g (lw_at lw_m7 118 rfl) rfl
theorem q1692 : (Jvm.Cond.soleField "WarByHours$Change" "was") ∈ lw_all := lw_g (lw_at lw_m7 119 rfl) rfl
theorem q1693 : (Jvm.Cond.superclass "WarByHours$Change" "java/lang/Object") ∈ lw_all := lw_g (lw_at lw_m7 120 rfl) rfl
theorem q2603 : (Jvm.Cond.castable "WarByHours$Change" "java/lang/Object") ∈ lw_tbl := lw_at lw_m11 70 rfl
theorem in_X17 : ∀ w ∈ wsX170, w ∈ lw_all := lw_in wsX170 [1687, 1689, 1691] (by decide +kernel) (by decide +kernel)

/-! WarByHours$War -/
set_option maxRecDepth 100000
def RX2 : String := "WarByHours$War"
def TX2 : u_T := fun k => match k with
  | 0 => ("WarByHours$War", "trains", "Ljava/util/List;", true)
  | 1 => ("WarByHours$War", "teas", "Ljava/util/List;", true)
  | 2 => ("WarByHours$War", "rules", "Ljava/util/List;", true)
  | 3 => ("WarByHours$War", "asks", "Ljava/util/List;", true)
  | 4 => ("WarByHours$War", "spies", "Ljava/util/List;", true)
  | 5 => ("WarByHours$War", "changes", "Ljava/util/List;", true)
  | 6 => ("WarByHours$War", "needs", "[I", true)
  | 7 => ("WarByHours$War", "minutes", "I", false)
  | 8 => ("WarByHours$War", "late", "I", false)
  | 9 => ("WarByHours$War", "peace", "I", false)
  | 10 => ("WarByHours$War", "rain", "I", false)
  | _ => ("WarByHours$War", "lines", "I", false)
def tyX2 : Nat → FieldType := fun k => match k with
  | 0 => .object "java/util/List"
  | 1 => .object "java/util/List"
  | 2 => .object "java/util/List"
  | 3 => .object "java/util/List"
  | 4 => .object "java/util/List"
  | 5 => .object "java/util/List"
  | 6 => .array .int
  | 7 => .int
  | 8 => .int
  | 9 => .int
  | 10 => .int
  | _ => .int
abbrev wsX20 : List Cond := u_ws RX2 TX2 12
theorem nmX2 : ∀ a, a < 12 → ∀ b, b < 12 → a ≠ b → (TX2 a).2.1 ≠ (TX2 b).2.1 := by decide +kernel
theorem tyX2_ok : ∀ k, k < 12 → parseFieldDescriptor (TX2 k).2.2.1 = some (tyX2 k) := by decide +kernel
abbrev cX2_init : ByteArray := prog_17_method_1_code
def yX2_init : MethodName := ⟨RX2, "<init>", "()V"⟩
def dkwX2_init_3 : List UInt8 := [89, 183, 0, 32, 181, 0, 33, 42, 5, 188, 10, 181, 0, 36, 177]
abbrev dktX2_init_3 : List UInt8 := dkwX2_init_3 ++ []
def dkwX2_init_2 : List UInt8 := [16, 8, 183, 0, 11, 181, 0, 26, 42, 187, 0, 9, 89, 8, 183, 0, 11, 181, 0, 29, 42, 187, 0, 9]
abbrev dktX2_init_2 : List UInt8 := dkwX2_init_2 ++ dktX2_init_3
def dkwX2_init_1 : List UInt8 := [183, 0, 11, 181, 0, 20, 42, 187, 0, 9, 89, 7, 183, 0, 11, 181, 0, 23, 42, 187, 0, 9, 89]
abbrev dktX2_init_1 : List UInt8 := dkwX2_init_1 ++ dktX2_init_2
def dkwX2_init_0 : List UInt8 := [42, 183, 0, 3, 42, 187, 0, 9, 89, 16, 9, 183, 0, 11, 181, 0, 14, 42, 187, 0, 9, 89, 7]
abbrev dktX2_init_0 : List UInt8 := dkwX2_init_0 ++ dktX2_init_1
theorem dksX2_init_0 : cX2_init.data.toList.drop 0 = dktX2_init_0 := by decide +kernel
theorem dksX2_init_1 : cX2_init.data.toList.drop 23 = dktX2_init_1 := dk_seg dksX2_init_0 23 rfl rfl
theorem dksX2_init_2 : cX2_init.data.toList.drop 46 = dktX2_init_2 := dk_seg dksX2_init_1 23 rfl rfl
theorem dksX2_init_3 : cX2_init.data.toList.drop 70 = dktX2_init_3 := dk_seg dksX2_init_2 24 rfl rfl
theorem dX2_init_0 : decode cX2_init 0 = .ok (.aload_n 0, 1) := dk_42 (dk_at dksX2_init_0 0 rfl rfl)
theorem dX2_init_1 : decode cX2_init 1 = .ok (.invokespecial 3, 3) := dk_183 0 3 (dk_at dksX2_init_0 1 rfl rfl)
theorem dX2_init_4 : decode cX2_init 4 = .ok (.aload_n 0, 1) := dk_42 (dk_at dksX2_init_0 4 rfl rfl)
theorem dX2_init_5 : decode cX2_init 5 = .ok (.new 9, 3) := dk_187 0 9 (dk_at dksX2_init_0 5 rfl rfl)
theorem dX2_init_8 : decode cX2_init 8 = .ok (.dup, 1) := dk_89 (dk_at dksX2_init_0 8 rfl rfl)
theorem dX2_init_9 : decode cX2_init 9 = .ok (.bipush 9, 2) := dk_16 9 (dk_at dksX2_init_0 9 rfl rfl)
theorem dX2_init_11 : decode cX2_init 11 = .ok (.invokespecial 11, 3) := dk_183 0 11 (dk_at dksX2_init_0 11 rfl rfl)
theorem dX2_init_14 : decode cX2_init 14 = .ok (.putfield 14, 3) := dk_181 0 14 (dk_at dksX2_init_0 14 rfl rfl)
theorem dX2_init_17 : decode cX2_init 17 = .ok (.aload_n 0, 1) := dk_42 (dk_at dksX2_init_0 17 rfl rfl)
theorem dX2_init_18 : decode cX2_init 18 = .ok (.new 9, 3) := dk_187 0 9 (dk_at dksX2_init_0 18 rfl rfl)
theorem dX2_init_21 : decode cX2_init 21 = .ok (.dup, 1) := dk_89 (dk_at dksX2_init_0 21 rfl rfl)
theorem dX2_init_22 : decode cX2_init 22 = .ok (.iconst 4, 1) := dk_7 (dk_at dksX2_init_0 22 rfl rfl)
theorem dX2_init_23 : decode cX2_init 23 = .ok (.invokespecial 11, 3) := dk_183 0 11 (dk_at dksX2_init_1 0 rfl rfl)
theorem dX2_init_26 : decode cX2_init 26 = .ok (.putfield 20, 3) := dk_181 0 20 (dk_at dksX2_init_1 3 rfl rfl)
theorem dX2_init_29 : decode cX2_init 29 = .ok (.aload_n 0, 1) := dk_42 (dk_at dksX2_init_1 6 rfl rfl)
theorem dX2_init_30 : decode cX2_init 30 = .ok (.new 9, 3) := dk_187 0 9 (dk_at dksX2_init_1 7 rfl rfl)
theorem dX2_init_33 : decode cX2_init 33 = .ok (.dup, 1) := dk_89 (dk_at dksX2_init_1 10 rfl rfl)
theorem dX2_init_34 : decode cX2_init 34 = .ok (.iconst 4, 1) := dk_7 (dk_at dksX2_init_1 11 rfl rfl)
theorem dX2_init_35 : decode cX2_init 35 = .ok (.invokespecial 11, 3) := dk_183 0 11 (dk_at dksX2_init_1 12 rfl rfl)
theorem dX2_init_38 : decode cX2_init 38 = .ok (.putfield 23, 3) := dk_181 0 23 (dk_at dksX2_init_1 15 rfl rfl)
theorem dX2_init_41 : decode cX2_init 41 = .ok (.aload_n 0, 1) := dk_42 (dk_at dksX2_init_1 18 rfl rfl)
theorem dX2_init_42 : decode cX2_init 42 = .ok (.new 9, 3) := dk_187 0 9 (dk_at dksX2_init_1 19 rfl rfl)
theorem dX2_init_45 : decode cX2_init 45 = .ok (.dup, 1) := dk_89 (dk_at dksX2_init_1 22 rfl rfl)
theorem dX2_init_46 : decode cX2_init 46 = .ok (.bipush 8, 2) := dk_16 8 (dk_at dksX2_init_2 0 rfl rfl)
theorem dX2_init_48 : decode cX2_init 48 = .ok (.invokespecial 11, 3) := dk_183 0 11 (dk_at dksX2_init_2 2 rfl rfl)
theorem dX2_init_51 : decode cX2_init 51 = .ok (.putfield 26, 3) := dk_181 0 26 (dk_at dksX2_init_2 5 rfl rfl)
theorem dX2_init_54 : decode cX2_init 54 = .ok (.aload_n 0, 1) := dk_42 (dk_at dksX2_init_2 8 rfl rfl)
theorem dX2_init_55 : decode cX2_init 55 = .ok (.new 9, 3) := dk_187 0 9 (dk_at dksX2_init_2 9 rfl rfl)
theorem dX2_init_58 : decode cX2_init 58 = .ok (.dup, 1) := dk_89 (dk_at dksX2_init_2 12 rfl rfl)
theorem dX2_init_59 : decode cX2_init 59 = .ok (.iconst 5, 1) := dk_8 (dk_at dksX2_init_2 13 rfl rfl)
theorem dX2_init_60 : decode cX2_init 60 = .ok (.invokespecial 11, 3) := dk_183 0 11 (dk_at dksX2_init_2 14 rfl rfl)
theorem dX2_init_63 : decode cX2_init 63 = .ok (.putfield 29, 3) := dk_181 0 29 (dk_at dksX2_init_2 17 rfl rfl)
theorem dX2_init_66 : decode cX2_init 66 = .ok (.aload_n 0, 1) := dk_42 (dk_at dksX2_init_2 20 rfl rfl)
theorem dX2_init_67 : decode cX2_init 67 = .ok (.new 9, 3) := dk_187 0 9 (dk_at dksX2_init_2 21 rfl rfl)
theorem dX2_init_70 : decode cX2_init 70 = .ok (.dup, 1) := dk_89 (dk_at dksX2_init_3 0 rfl rfl)
theorem dX2_init_71 : decode cX2_init 71 = .ok (.invokespecial 32, 3) := dk_183 0 32 (dk_at dksX2_init_3 1 rfl rfl)
theorem dX2_init_74 : decode cX2_init 74 = .ok (.putfield 33, 3) := dk_181 0 33 (dk_at dksX2_init_3 4 rfl rfl)
theorem dX2_init_77 : decode cX2_init 77 = .ok (.aload_n 0, 1) := dk_42 (dk_at dksX2_init_3 7 rfl rfl)
theorem dX2_init_78 : decode cX2_init 78 = .ok (.iconst 2, 1) := dk_5 (dk_at dksX2_init_3 8 rfl rfl)
theorem dX2_init_79 : decode cX2_init 79 = .ok (.newarray .int, 2) := dk_188_10 (dk_at dksX2_init_3 9 rfl rfl)
theorem dX2_init_81 : decode cX2_init 81 = .ok (.putfield 36, 3) := dk_181 0 36 (dk_at dksX2_init_3 11 rfl rfl)
theorem dX2_init_84 : decode cX2_init 84 = .ok (.return_, 1) := dk_177 (dk_at dksX2_init_3 14 rfl rfl)
abbrev cX2_is : ByteArray := prog_17_method_2_code
def yX2_is : MethodName := ⟨RX2, "is", "()Z"⟩
def dkwX2_is_0 : List UInt8 := [42, 180, 0, 40, 158, 0, 7, 4, 167, 0, 4, 3, 172]
abbrev dktX2_is_0 : List UInt8 := dkwX2_is_0 ++ []
theorem dksX2_is_0 : cX2_is.data.toList.drop 0 = dktX2_is_0 := by decide +kernel
theorem dX2_is_0 : decode cX2_is 0 = .ok (.aload_n 0, 1) := dk_42 (dk_at dksX2_is_0 0 rfl rfl)
theorem dX2_is_1 : decode cX2_is 1 = .ok (.getfield 40, 3) := dk_180 0 40 (dk_at dksX2_is_0 1 rfl rfl)
theorem dX2_is_4 : decode cX2_is 4 = .ok (.ifCond .le 7, 3) := dk_158 0 7 (dk_at dksX2_is_0 4 rfl rfl)
theorem dX2_is_7 : decode cX2_is 7 = .ok (.iconst 1, 1) := dk_4 (dk_at dksX2_is_0 7 rfl rfl)
theorem dX2_is_8 : decode cX2_is 8 = .ok (.goto 4, 3) := dk_167 0 4 (dk_at dksX2_is_0 8 rfl rfl)
theorem dX2_is_11 : decode cX2_is 11 = .ok (.iconst 0, 1) := dk_3 (dk_at dksX2_is_0 11 rfl rfl)
theorem dX2_is_12 : decode cX2_is 12 = .ok (.ireturn, 1) := dk_172 (dk_at dksX2_is_0 12 rfl rfl)
abbrev cX2_all : ByteArray := prog_17_method_3_code
def yX2_all : MethodName := ⟨RX2, "all", "()I"⟩
def dkwX2_all_0 : List UInt8 := [4, 42, 180, 0, 14, 185, 0, 44, 1, 0, 120, 4, 100, 172]
abbrev dktX2_all_0 : List UInt8 := dkwX2_all_0 ++ []
theorem dksX2_all_0 : cX2_all.data.toList.drop 0 = dktX2_all_0 := by decide +kernel
theorem dX2_all_0 : decode cX2_all 0 = .ok (.iconst 1, 1) := dk_4 (dk_at dksX2_all_0 0 rfl rfl)
theorem dX2_all_1 : decode cX2_all 1 = .ok (.aload_n 0, 1) := dk_42 (dk_at dksX2_all_0 1 rfl rfl)
theorem dX2_all_2 : decode cX2_all 2 = .ok (.getfield 14, 3) := dk_180 0 14 (dk_at dksX2_all_0 2 rfl rfl)
theorem dX2_all_5 : decode cX2_all 5 = .ok (.invokeinterface 44 1, 5) := by decide +kernel
theorem dX2_all_10 : decode cX2_all 10 = .ok (.ishl, 1) := dk_120 (dk_at dksX2_all_0 10 rfl rfl)
theorem dX2_all_11 : decode cX2_all 11 = .ok (.iconst 1, 1) := dk_4 (dk_at dksX2_all_0 11 rfl rfl)
theorem dX2_all_12 : decode cX2_all 12 = .ok (.isub, 1) := dk_100 (dk_at dksX2_all_0 12 rfl rfl)
theorem dX2_all_13 : decode cX2_all 13 = .ok (.ireturn, 1) := dk_172 (dk_at dksX2_all_0 13 rfl rfl)
abbrev cX2_same : ByteArray := prog_17_method_4_code
def yX2_same : MethodName := ⟨RX2, "same", "()LWarByHours$War;"⟩
def dkwX2_same_7 : List UInt8 := [43, 42, 180, 0, 94, 181, 0, 94, 43, 42, 180, 0, 40, 181, 0, 40, 43, 176]
abbrev dktX2_same_7 : List UInt8 := dkwX2_same_7 ++ []
def dkwX2_same_6 : List UInt8 := [43, 42, 180, 0, 85, 181, 0, 85, 43, 42, 180, 0, 88, 181, 0, 88, 43, 42, 180, 0, 91, 181, 0, 91]
abbrev dktX2_same_6 : List UInt8 := dkwX2_same_6 ++ dktX2_same_7
def dkwX2_same_5 : List UInt8 := [42, 180, 0, 33, 185, 0, 75, 2, 0, 87, 42, 180, 0, 36, 3, 43, 180, 0, 36, 3, 5, 184, 0, 79]
abbrev dktX2_same_5 : List UInt8 := dkwX2_same_5 ++ dktX2_same_6
def dkwX2_same_4 : List UInt8 := [185, 0, 75, 2, 0, 87, 43, 180, 0, 29, 42, 180, 0, 29, 185, 0, 75, 2, 0, 87, 43, 180, 0, 33]
abbrev dktX2_same_4 : List UInt8 := dkwX2_same_4 ++ dktX2_same_5
def dkwX2_same_3 : List UInt8 := [180, 0, 23, 42, 180, 0, 23, 185, 0, 75, 2, 0, 87, 43, 180, 0, 26, 42, 180, 0, 26]
abbrev dktX2_same_3 : List UInt8 := dkwX2_same_3 ++ dktX2_same_4
def dkwX2_same_2 : List UInt8 := [185, 0, 71, 2, 0, 87, 167, 255, 223, 43, 180, 0, 20, 42, 180, 0, 20, 185, 0, 75, 2, 0, 87, 43]
abbrev dktX2_same_2 : List UInt8 := dkwX2_same_2 ++ dktX2_same_3
def dkwX2_same_1 : List UInt8 := [153, 0, 30, 44, 185, 0, 61, 1, 0, 192, 0, 65, 78, 43, 180, 0, 14, 45, 182, 0, 67]
abbrev dktX2_same_1 : List UInt8 := dkwX2_same_1 ++ dktX2_same_2
def dkwX2_same_0 : List UInt8 := [187, 0, 15, 89, 183, 0, 50, 76, 42, 180, 0, 14, 185, 0, 51, 1, 0, 77, 44, 185, 0, 55, 1, 0]
abbrev dktX2_same_0 : List UInt8 := dkwX2_same_0 ++ dktX2_same_1
theorem dksX2_same_0 : cX2_same.data.toList.drop 0 = dktX2_same_0 := by decide +kernel
theorem dksX2_same_1 : cX2_same.data.toList.drop 24 = dktX2_same_1 := dk_seg dksX2_same_0 24 rfl rfl
theorem dksX2_same_2 : cX2_same.data.toList.drop 45 = dktX2_same_2 := dk_seg dksX2_same_1 21 rfl rfl
theorem dksX2_same_3 : cX2_same.data.toList.drop 69 = dktX2_same_3 := dk_seg dksX2_same_2 24 rfl rfl
theorem dksX2_same_4 : cX2_same.data.toList.drop 90 = dktX2_same_4 := dk_seg dksX2_same_3 21 rfl rfl
theorem dksX2_same_5 : cX2_same.data.toList.drop 114 = dktX2_same_5 := dk_seg dksX2_same_4 24 rfl rfl
theorem dksX2_same_6 : cX2_same.data.toList.drop 138 = dktX2_same_6 := dk_seg dksX2_same_5 24 rfl rfl
theorem dksX2_same_7 : cX2_same.data.toList.drop 162 = dktX2_same_7 := dk_seg dksX2_same_6 24 rfl rfl
theorem dX2_same_0 : decode cX2_same 0 = .ok (.new 15, 3) := dk_187 0 15 (dk_at dksX2_same_0 0 rfl rfl)
theorem dX2_same_3 : decode cX2_same 3 = .ok (.dup, 1) := dk_89 (dk_at dksX2_same_0 3 rfl rfl)
theorem dX2_same_4 : decode cX2_same 4 = .ok (.invokespecial 50, 3) := dk_183 0 50 (dk_at dksX2_same_0 4 rfl rfl)
theorem dX2_same_7 : decode cX2_same 7 = .ok (.astore_n 1, 1) := dk_76 (dk_at dksX2_same_0 7 rfl rfl)
theorem dX2_same_8 : decode cX2_same 8 = .ok (.aload_n 0, 1) := dk_42 (dk_at dksX2_same_0 8 rfl rfl)
theorem dX2_same_9 : decode cX2_same 9 = .ok (.getfield 14, 3) := dk_180 0 14 (dk_at dksX2_same_0 9 rfl rfl)
theorem dX2_same_12 : decode cX2_same 12 = .ok (.invokeinterface 51 1, 5) := by decide +kernel
theorem dX2_same_17 : decode cX2_same 17 = .ok (.astore_n 2, 1) := dk_77 (dk_at dksX2_same_0 17 rfl rfl)
theorem dX2_same_18 : decode cX2_same 18 = .ok (.aload_n 2, 1) := dk_44 (dk_at dksX2_same_0 18 rfl rfl)
theorem dX2_same_19 : decode cX2_same 19 = .ok (.invokeinterface 55 1, 5) := by decide +kernel
theorem dX2_same_24 : decode cX2_same 24 = .ok (.ifCond .eq 30, 3) := dk_153 0 30 (dk_at dksX2_same_1 0 rfl rfl)
theorem dX2_same_27 : decode cX2_same 27 = .ok (.aload_n 2, 1) := dk_44 (dk_at dksX2_same_1 3 rfl rfl)
theorem dX2_same_28 : decode cX2_same 28 = .ok (.invokeinterface 61 1, 5) := by decide +kernel
theorem dX2_same_33 : decode cX2_same 33 = .ok (.checkcast 65, 3) := dk_192 0 65 (dk_at dksX2_same_1 9 rfl rfl)
theorem dX2_same_36 : decode cX2_same 36 = .ok (.astore_n 3, 1) := dk_78 (dk_at dksX2_same_1 12 rfl rfl)
theorem dX2_same_37 : decode cX2_same 37 = .ok (.aload_n 1, 1) := dk_43 (dk_at dksX2_same_1 13 rfl rfl)
theorem dX2_same_38 : decode cX2_same 38 = .ok (.getfield 14, 3) := dk_180 0 14 (dk_at dksX2_same_1 14 rfl rfl)
theorem dX2_same_41 : decode cX2_same 41 = .ok (.aload_n 3, 1) := dk_45 (dk_at dksX2_same_1 17 rfl rfl)
theorem dX2_same_42 : decode cX2_same 42 = .ok (.invokevirtual 67, 3) := dk_182 0 67 (dk_at dksX2_same_1 18 rfl rfl)
theorem dX2_same_45 : decode cX2_same 45 = .ok (.invokeinterface 71 2, 5) := by decide +kernel
theorem dX2_same_50 : decode cX2_same 50 = .ok (.pop, 1) := dk_87 (dk_at dksX2_same_2 5 rfl rfl)
theorem dX2_same_51 : decode cX2_same 51 = .ok (.goto (-33), 3) := dk_167 255 223 (dk_at dksX2_same_2 6 rfl rfl)
theorem dX2_same_54 : decode cX2_same 54 = .ok (.aload_n 1, 1) := dk_43 (dk_at dksX2_same_2 9 rfl rfl)
theorem dX2_same_55 : decode cX2_same 55 = .ok (.getfield 20, 3) := dk_180 0 20 (dk_at dksX2_same_2 10 rfl rfl)
theorem dX2_same_58 : decode cX2_same 58 = .ok (.aload_n 0, 1) := dk_42 (dk_at dksX2_same_2 13 rfl rfl)
theorem dX2_same_59 : decode cX2_same 59 = .ok (.getfield 20, 3) := dk_180 0 20 (dk_at dksX2_same_2 14 rfl rfl)
theorem dX2_same_62 : decode cX2_same 62 = .ok (.invokeinterface 75 2, 5) := by decide +kernel
theorem dX2_same_67 : decode cX2_same 67 = .ok (.pop, 1) := dk_87 (dk_at dksX2_same_2 22 rfl rfl)
theorem dX2_same_68 : decode cX2_same 68 = .ok (.aload_n 1, 1) := dk_43 (dk_at dksX2_same_2 23 rfl rfl)
theorem dX2_same_69 : decode cX2_same 69 = .ok (.getfield 23, 3) := dk_180 0 23 (dk_at dksX2_same_3 0 rfl rfl)
theorem dX2_same_72 : decode cX2_same 72 = .ok (.aload_n 0, 1) := dk_42 (dk_at dksX2_same_3 3 rfl rfl)
theorem dX2_same_73 : decode cX2_same 73 = .ok (.getfield 23, 3) := dk_180 0 23 (dk_at dksX2_same_3 4 rfl rfl)
theorem dX2_same_76 : decode cX2_same 76 = .ok (.invokeinterface 75 2, 5) := by decide +kernel
theorem dX2_same_81 : decode cX2_same 81 = .ok (.pop, 1) := dk_87 (dk_at dksX2_same_3 12 rfl rfl)
theorem dX2_same_82 : decode cX2_same 82 = .ok (.aload_n 1, 1) := dk_43 (dk_at dksX2_same_3 13 rfl rfl)
theorem dX2_same_83 : decode cX2_same 83 = .ok (.getfield 26, 3) := dk_180 0 26 (dk_at dksX2_same_3 14 rfl rfl)
theorem dX2_same_86 : decode cX2_same 86 = .ok (.aload_n 0, 1) := dk_42 (dk_at dksX2_same_3 17 rfl rfl)
theorem dX2_same_87 : decode cX2_same 87 = .ok (.getfield 26, 3) := dk_180 0 26 (dk_at dksX2_same_3 18 rfl rfl)
theorem dX2_same_90 : decode cX2_same 90 = .ok (.invokeinterface 75 2, 5) := by decide +kernel
theorem dX2_same_95 : decode cX2_same 95 = .ok (.pop, 1) := dk_87 (dk_at dksX2_same_4 5 rfl rfl)
theorem dX2_same_96 : decode cX2_same 96 = .ok (.aload_n 1, 1) := dk_43 (dk_at dksX2_same_4 6 rfl rfl)
theorem dX2_same_97 : decode cX2_same 97 = .ok (.getfield 29, 3) := dk_180 0 29 (dk_at dksX2_same_4 7 rfl rfl)
theorem dX2_same_100 : decode cX2_same 100 = .ok (.aload_n 0, 1) := dk_42 (dk_at dksX2_same_4 10 rfl rfl)
theorem dX2_same_101 : decode cX2_same 101 = .ok (.getfield 29, 3) := dk_180 0 29 (dk_at dksX2_same_4 11 rfl rfl)
theorem dX2_same_104 : decode cX2_same 104 = .ok (.invokeinterface 75 2, 5) := by decide +kernel
theorem dX2_same_109 : decode cX2_same 109 = .ok (.pop, 1) := dk_87 (dk_at dksX2_same_4 19 rfl rfl)
theorem dX2_same_110 : decode cX2_same 110 = .ok (.aload_n 1, 1) := dk_43 (dk_at dksX2_same_4 20 rfl rfl)
theorem dX2_same_111 : decode cX2_same 111 = .ok (.getfield 33, 3) := dk_180 0 33 (dk_at dksX2_same_4 21 rfl rfl)
theorem dX2_same_114 : decode cX2_same 114 = .ok (.aload_n 0, 1) := dk_42 (dk_at dksX2_same_5 0 rfl rfl)
theorem dX2_same_115 : decode cX2_same 115 = .ok (.getfield 33, 3) := dk_180 0 33 (dk_at dksX2_same_5 1 rfl rfl)
theorem dX2_same_118 : decode cX2_same 118 = .ok (.invokeinterface 75 2, 5) := by decide +kernel
theorem dX2_same_123 : decode cX2_same 123 = .ok (.pop, 1) := dk_87 (dk_at dksX2_same_5 9 rfl rfl)
theorem dX2_same_124 : decode cX2_same 124 = .ok (.aload_n 0, 1) := dk_42 (dk_at dksX2_same_5 10 rfl rfl)
theorem dX2_same_125 : decode cX2_same 125 = .ok (.getfield 36, 3) := dk_180 0 36 (dk_at dksX2_same_5 11 rfl rfl)
theorem dX2_same_128 : decode cX2_same 128 = .ok (.iconst 0, 1) := dk_3 (dk_at dksX2_same_5 14 rfl rfl)
theorem dX2_same_129 : decode cX2_same 129 = .ok (.aload_n 1, 1) := dk_43 (dk_at dksX2_same_5 15 rfl rfl)
theorem dX2_same_130 : decode cX2_same 130 = .ok (.getfield 36, 3) := dk_180 0 36 (dk_at dksX2_same_5 16 rfl rfl)
theorem dX2_same_133 : decode cX2_same 133 = .ok (.iconst 0, 1) := dk_3 (dk_at dksX2_same_5 19 rfl rfl)
theorem dX2_same_134 : decode cX2_same 134 = .ok (.iconst 2, 1) := dk_5 (dk_at dksX2_same_5 20 rfl rfl)
theorem dX2_same_135 : decode cX2_same 135 = .ok (.invokestatic 79, 3) := dk_184 0 79 (dk_at dksX2_same_5 21 rfl rfl)
theorem dX2_same_138 : decode cX2_same 138 = .ok (.aload_n 1, 1) := dk_43 (dk_at dksX2_same_6 0 rfl rfl)
theorem dX2_same_139 : decode cX2_same 139 = .ok (.aload_n 0, 1) := dk_42 (dk_at dksX2_same_6 1 rfl rfl)
theorem dX2_same_140 : decode cX2_same 140 = .ok (.getfield 85, 3) := dk_180 0 85 (dk_at dksX2_same_6 2 rfl rfl)
theorem dX2_same_143 : decode cX2_same 143 = .ok (.putfield 85, 3) := dk_181 0 85 (dk_at dksX2_same_6 5 rfl rfl)
theorem dX2_same_146 : decode cX2_same 146 = .ok (.aload_n 1, 1) := dk_43 (dk_at dksX2_same_6 8 rfl rfl)
theorem dX2_same_147 : decode cX2_same 147 = .ok (.aload_n 0, 1) := dk_42 (dk_at dksX2_same_6 9 rfl rfl)
theorem dX2_same_148 : decode cX2_same 148 = .ok (.getfield 88, 3) := dk_180 0 88 (dk_at dksX2_same_6 10 rfl rfl)
theorem dX2_same_151 : decode cX2_same 151 = .ok (.putfield 88, 3) := dk_181 0 88 (dk_at dksX2_same_6 13 rfl rfl)
theorem dX2_same_154 : decode cX2_same 154 = .ok (.aload_n 1, 1) := dk_43 (dk_at dksX2_same_6 16 rfl rfl)
theorem dX2_same_155 : decode cX2_same 155 = .ok (.aload_n 0, 1) := dk_42 (dk_at dksX2_same_6 17 rfl rfl)
theorem dX2_same_156 : decode cX2_same 156 = .ok (.getfield 91, 3) := dk_180 0 91 (dk_at dksX2_same_6 18 rfl rfl)
theorem dX2_same_159 : decode cX2_same 159 = .ok (.putfield 91, 3) := dk_181 0 91 (dk_at dksX2_same_6 21 rfl rfl)
theorem dX2_same_162 : decode cX2_same 162 = .ok (.aload_n 1, 1) := dk_43 (dk_at dksX2_same_7 0 rfl rfl)
theorem dX2_same_163 : decode cX2_same 163 = .ok (.aload_n 0, 1) := dk_42 (dk_at dksX2_same_7 1 rfl rfl)
theorem dX2_same_164 : decode cX2_same 164 = .ok (.getfield 94, 3) := dk_180 0 94 (dk_at dksX2_same_7 2 rfl rfl)
theorem dX2_same_167 : decode cX2_same 167 = .ok (.putfield 94, 3) := dk_181 0 94 (dk_at dksX2_same_7 5 rfl rfl)
theorem dX2_same_170 : decode cX2_same 170 = .ok (.aload_n 1, 1) := dk_43 (dk_at dksX2_same_7 8 rfl rfl)
theorem dX2_same_171 : decode cX2_same 171 = .ok (.aload_n 0, 1) := dk_42 (dk_at dksX2_same_7 9 rfl rfl)
theorem dX2_same_172 : decode cX2_same 172 = .ok (.getfield 40, 3) := dk_180 0 40 (dk_at dksX2_same_7 10 rfl rfl)
theorem dX2_same_175 : decode cX2_same 175 = .ok (.putfield 40, 3) := dk_181 0 40 (dk_at dksX2_same_7 13 rfl rfl)
theorem dX2_same_178 : decode cX2_same 178 = .ok (.aload_n 1, 1) := dk_43 (dk_at dksX2_same_7 16 rfl rfl)
theorem dX2_same_179 : decode cX2_same 179 = .ok (.areturn, 1) := dk_176 (dk_at dksX2_same_7 17 rfl rfl)
theorem q136 : (Jvm.Cond.initialized "WarByHours$War") ∈ lw_all := lw_g (lw_at lw_m1 3 rfl) rfl
theorem q395 : (Jvm.Cond.instantiable "WarByHours$War" (12 : Nat)) ∈ lw_all := lw_g (lw_at lw_m2 22 rfl) rfl
theorem q397 : (Jvm.Cond.instanceMethod ({ cls := "WarByHours$War", name := "<init>", desc := "()V" } : Jvm.MethodName)) ∈ lw_all := lw_g (lw_at lw_m2 24 rfl) rfl
theorem q398 : (Jvm.Cond.code ({ cls := "WarByHours$War", name := "<init>", desc := "()V" } : Jvm.MethodName) prog_17_method_1_code (1 : Nat) (Option.none : Option Jvm.ClassFile.FieldType)) ∈ lw_all := lw_g (lw_at lw_m2 25 rfl) rfl
theorem q399 : (Jvm.Cond.methodLink "WarByHours$War" (3 : Nat) ({ cls := "java/lang/Object", name := "<init>", desc := "()V" } : Jvm.MethodName)) ∈ lw_all := lw_g (lw_at lw_m2 26 rfl) rfl
theorem q400 : (Jvm.Cond.classLink "WarByHours$War" (9 : Nat) "java/util/ArrayList") ∈ lw_all := lw_g (lw_at lw_m2 27 rfl) rfl
theorem q402 : (Jvm.Cond.methodLink "WarByHours$War" (11 : Nat) ({ cls := "java/util/ArrayList", name := "<init>", desc := "(I)V" } : Jvm.MethodName)) ∈ lw_all := lw_g (lw_at lw_m2 29 rfl) rfl
theorem q431 : (Jvm.Cond.methodLink "WarByHours$War" (32 : Nat) ({ cls := "java/util/ArrayList", name := "<init>", desc := "()V" } : Jvm.MethodName)) ∈ lw_all := lw_g (lw_at lw_m2 58 rfl) rfl
theorem q436 : (Jvm.Cond.fieldLink "WarByHours$War" (14 : Nat) "WarByHours$War" "trains" "Ljava/util/List;") ∈ lw_all := lw_g (lw_at lw_m2 63 rfl) rfl
theorem q439 : (Jvm.Cond.fieldLink "WarByHours$War" (20 : Nat) "WarByHours$War" "teas" "Ljava/util/List;") ∈ lw_all := lw_g (lw_at lw_m2 66 rfl) rfl
theorem q442 : (Jvm.Cond.fieldLink "WarByHours$War" (23 : Nat) "WarByHours$War" "rules" "Ljava/util/List;") ∈ lw_all := lw_g (lw_at lw_m2 69 rfl) rfl
theorem q445 : (Jvm.Cond.fieldLink "WarByHours$War" (26 : Nat) "WarByHours$War" "asks" "Ljava/util/List;") ∈ lw_all := lw_g (lw_at lw_m2 72 rfl) rfl
theorem q448 : (Jvm.Cond.fieldLink "WarByHours$War" (29 : Nat) "WarByHours$War" "spies" "Ljava/util/List;") ∈ lw_all := lw_g (lw_at lw_m2 75 rfl) rfl
theorem q451 : (Jvm.Cond.fieldLink "WarByHours$War" (33 : Nat) "WarByHours$War" "changes" "Ljava/util/List;") ∈ lw_all := lw_g (lw_at lw_m2 78 rfl) rfl
theorem q453 : (Jvm.Cond.fieldLink "WarByHours$War" (36 : Nat) "WarByHours$War" "needs" "[I") ∈ lw_all := lw_g (lw_at lw_m2 80 rfl) rfl
theorem q459 : (Jvm.Cond.fieldLink "WarByHours$War" (85 : Nat) "WarByHours$War" "minutes" "I") ∈ lw_all := lw_g (lw_at lw_m2 86 rfl) rfl
theorem q464 : (Jvm.Cond.fieldLink "WarByHours$War" (88 : Nat) "WarByHours$War" "late" "I") ∈ lw_all := lw_g (lw_at lw_m2 91 rfl) rfl
theorem q467 : (Jvm.Cond.fieldLink "WarByHours$War" (91 : Nat) "WarByHours$War" "peace" "I") ∈ lw_all := lw_g (lw_at lw_m2 94 rfl) rfl
theorem q470 : (Jvm.Cond.fieldLink "WarByHours$War" (94 : Nat) "WarByHours$War" "rain" "I") ∈ lw_all := lw_g (lw_at lw_m2 97 rfl) rfl
theorem q473 : (Jvm.Cond.fieldLink "WarByHours$War" (40 : Nat) "WarByHours$War" "lines" "I") ∈ lw_all := lw_g (lw_at lw_m2 100 rfl) rfl
theorem q476 : (Jvm.Cond.laysFinal "WarByHours$War" "WarByHours$War" "trains" "Ljava/util/List;") ∈ lw_all := lw_g (lw_at lw_m2 103 rfl) rfl
theorem q477 : (Jvm.Cond.soleField "WarByHours$War" "trains") ∈ lw_all := lw_g (lw_at lw_m2 104 rfl) rfl
theorem q478 : (Jvm.Cond.laysFinal "WarByHours$War" "WarByHours$War" "teas" "Ljava/util/List;") ∈ lw_all := lw_g (lw_at lw_m2 105 rfl) rfl
theorem q479 : (Jvm.Cond.soleField "WarByHours$War" "teas") ∈ lw_all := lw_g (lw_at lw_m2 106 rfl) rfl
theorem q480 : (Jvm.Cond.laysFinal "WarByHours$War" "WarByHours$War" "rules" "Ljava/util/List;") ∈ lw_all := lw_g (lw_at lw_m2 107 rfl) rfl
theorem q481 : (Jvm.Cond.soleField "WarByHours$War" "rules") ∈ lw_all := lw_g (lw_at lw_m2 108 rfl) rfl
theorem q482 : (Jvm.Cond.laysFinal "WarByHours$War" "WarByHours$War" "asks" "Ljava/util/List;") ∈ lw_all := lw_g (lw_at lw_m2 109 rfl) rfl
theorem q483 : (Jvm.Cond.soleField "WarByHours$War" "asks") ∈ lw_all := lw_g (lw_at lw_m2 110 rfl) rfl
theorem q484 : (Jvm.Cond.laysFinal "WarByHours$War" "WarByHours$War" "spies" "Ljava/util/List;") ∈ lw_all := lw_g (lw_at lw_m2 111 rfl) rfl
theorem q485 : (Jvm.Cond.soleField "WarByHours$War" "spies") ∈ lw_all := lw_g (lw_at lw_m2 112 rfl) rfl
theorem q486 : (Jvm.Cond.laysFinal "WarByHours$War" "WarByHours$War" "changes" "Ljava/util/List;") ∈ lw_all := lw_g (lw_at lw_m2 113 rfl) rfl
theorem q487 : (Jvm.Cond.soleField "WarByHours$War" "changes") ∈ lw_all := lw_g (lw_at lw_m2 114 rfl) rfl
theorem q488 : (Jvm.Cond.laysFinal "WarByHours$War" "WarByHours$War" "needs" "[I") ∈ lw_all := lw_g (lw_at lw_m2 115 rfl) rfl
theorem q489 : (Jvm.Cond.soleField "WarByHours$War" "needs") ∈ lw_all := lw_g (lw_at lw_m2 116 rfl) rfl
theorem q490 : (Jvm.Cond.lays "WarByHours$War" "WarByHours$War" "minutes" "I") ∈ lw_all := lw_g (lw_at lw_m2 117 rfl) rfl
theorem q491 : (Jvm.Cond.soleField "WarByHours$War" "minutes") ∈ lw_all := lw_g (lw_at lw_m2 118 rfl) rfl
theorem q492 : (Jvm.Cond.lays "WarByHours$War" "WarByHours$War" "late" "I") ∈ lw_all := lw_g (lw_at lw_m2 119 rfl) rfl
theorem q493 : (Jvm.Cond.soleField "WarByHours$War" "late") ∈ lw_all := lw_g (lw_at lw_m2 120 rfl) rfl
theorem q494 : (Jvm.Cond.lays "WarByHours$War" "WarByHours$War" "peace" "I") ∈ lw_all := lw_g (lw_at lw_m2 121 rfl) rfl
theorem q495 : (Jvm.Cond.soleField "WarByHours$War" "peace") ∈ lw_all := lw_g (lw_at lw_m2 122 rfl) rfl
theorem q496 : (Jvm.Cond.lays "WarByHours$War" "WarByHours$War" "rain" "I") ∈ lw_all := lw_g (lw_at lw_m2 123 rfl) rfl
theorem q497 : (Jvm.Cond.soleField "WarByHours$War" "rain") ∈ lw_all := lw_g (lw_at lw_m2 124 rfl) rfl
theorem q498 : (Jvm.Cond.lays "WarByHours$War" "WarByHours$War" "lines" "I") ∈ lw_all := lw_g (lw_at lw_m2 125 rfl) rfl
theorem q499 : (Jvm.Cond.soleField "WarByHours$War" "lines") ∈ lw_all := lw_g (lw_at lw_m2 126 rfl) rfl
theorem q500 : (Jvm.Cond.superclass "WarByHours$War" "java/lang/Object") ∈ lw_all := lw_g (lw_at lw_m2 127 rfl) rfl
theorem q973 : (Jvm.Cond.selects "WarByHours$War" ({ cls := "java/lang/Object", name := "getClass", desc := "()Ljava/lang/Class;" } : Jvm.MethodName) ({ cls := "java/lang/Object", name := "getClass", desc := "()Ljava/lang/Class;" } : Jvm.MethodName)) ∈ lw_all := lw_g (lw_at lw_m4 120 rfl) rfl
theorem q1072 : (Jvm.Cond.instanceMethod ({ cls := "WarByHours$War", name := "is", desc := "()Z" } : Jvm.MethodName)) ∈ lw_all := lw_g (lw_at lw_m4 219 rfl) rfl
theorem q1073 : (Jvm.Cond.selects "WarByHours$War" ({ cls := "WarByHours$War", name := "is", desc := "()Z" } : Jvm.MethodName) ({ cls := "WarByHours$War", name := "is", desc := "()Z" } : Jvm.MethodName)) ∈ lw_all := lw_g (lw_at lw_m4 220 rfl) rfl
theorem q1074 : (Jvm.Cond.code ({ cls := "WarByHours$War", name := "is", desc := "()Z" } : Jvm.MethodName) prog_17_method_2_code (1 : Nat) (Option.some Jvm.ClassFile.FieldType.boolean)) ∈ lw_all := lw_g (lw_at lw_m4 221 rfl) rfl
theorem q1167 : (Jvm.Cond.instanceMethod ({ cls := "WarByHours$War", name := "all", desc := "()I" } : Jvm.MethodName)) ∈ lw_all := lw_g (lw_at lw_m5 74 rfl) rfl
theorem q1168 : (Jvm.Cond.selects "WarByHours$War" ({ cls := "WarByHours$War", name := "all", desc := "()I" } : Jvm.MethodName) ({ cls := "WarByHours$War", name := "all", desc := "()I" } : Jvm.MethodName)) ∈ lw_all := lw_g (lw_at lw_m5 75 rfl) rfl
theorem q1169 : (Jvm.Cond.code ({ cls := "WarByHours$War", name := "all", desc := "()I" } : Jvm.MethodName) prog_17_method_3_code (1 : Nat) (Option.some Jvm.ClassFile.FieldType.int)) ∈ lw_all := lw_g (lw_at lw_m5 76 rfl) rfl
theorem q1170 : (Jvm.Cond.interfaceEntry "WarByHours$War" (44 : Nat)) ∈ lw_tbl := lw_at lw_m5 77 rfl
theorem q1171 : (Jvm.Cond.methodLink "WarByHours$War" (44 : Nat) ({ cls := "java/util/List", name := "size", desc := "()I" } : Jvm.MethodName)) ∈ lw_all := lw_g (lw_at lw_m5 78 rfl) rfl
theorem q1753 : (Jvm.Cond.instanceMethod ({ cls := "WarByHours$War", name := "same", desc := "()LWarByHours$War;" } : Jvm.MethodName)) ∈ lw_all := lw_g (lw_at lw_m7 180 rfl) rfl
theorem q1754 : (Jvm.Cond.selects "WarByHours$War" ({ cls := "WarByHours$War", name := "same", desc := "()LWarByHours$War;" } : Jvm.MethodName) ({ cls := "WarByHours$War", name := "same", desc := "()LWarByHours$War;" } : Jvm.MethodName)) ∈ lw_all := lw_g (lw_at lw_m7 181 rfl) rfl
theorem q1755 : (Jvm.Cond.code ({ cls := "WarByHours$War", name := "same", desc := "()LWarByHours$War;" } : Jvm.MethodName) prog_17_method_4_code (4 : Nat) (Option.some (Jvm.ClassFile.FieldType.object "WarByHours$War"))) ∈ lw_all := lw_g (lw_at lw_m7 182 rfl) rfl
theorem q1756 : (Jvm.Cond.classLink "WarByHours$War" (15 : Nat) "WarByHours$War") ∈ lw_all := lw_g (lw_at lw_m7 183 rfl) rfl
theorem q1757 : (Jvm.Cond.methodLink "WarByHours$War" (50 : Nat) ({ cls := "WarByHours$War", name := "<init>", desc := "()V" } : Jvm.MethodName)) ∈ lw_all := lw_g (lw_at lw_m7 184 rfl) rfl
theorem q1758 : (Jvm.Cond.interfaceEntry "WarByHours$War" (51 : Nat)) ∈ lw_tbl := lw_at lw_m7 185 rfl
theorem q1759 : (Jvm.Cond.methodLink "WarByHours$War" (51 : Nat) ({ cls := "java/util/List", name := "iterator", desc := "()Ljava/util/Iterator;" } : Jvm.MethodName)) ∈ lw_all := lw_g (lw_at lw_m7 186 rfl) rfl
theorem q1786 : (Jvm.Cond.interfaceEntry "WarByHours$War" (55 : Nat)) ∈ lw_tbl := lw_at lw_m7 213 rfl
theorem q1787 : (Jvm.Cond.methodLink "WarByHours$War" (55 : Nat) ({ cls := "java/util/Iterator", name := "hasNext", desc := "()Z" } : Jvm.MethodName)) ∈ lw_all := lw_g (lw_at lw_m7 214 rfl) rfl
theorem q1796 : (Jvm.Cond.interfaceEntry "WarByHours$War" (61 : Nat)) ∈ lw_tbl := lw_at lw_m7 223 rfl
theorem q1797 : (Jvm.Cond.methodLink "WarByHours$War" (61 : Nat) ({ cls := "java/util/Iterator", name := "next", desc := "()Ljava/lang/Object;" } : Jvm.MethodName)) ∈ lw_all := lw_g (lw_at lw_m7 224 rfl) rfl
theorem q1809 : (Jvm.Cond.classLink "WarByHours$War" (65 : Nat) "WarByHours$Train") ∈ lw_all := lw_g (lw_at lw_m7 236 rfl) rfl
theorem q1810 : (Jvm.Cond.methodLink "WarByHours$War" (67 : Nat) ({ cls := "WarByHours$Train", name := "same", desc := "()LWarByHours$Train;" } : Jvm.MethodName)) ∈ lw_all := lw_g (lw_at lw_m7 237 rfl) rfl
theorem q1816 : (Jvm.Cond.interfaceEntry "WarByHours$War" (71 : Nat)) ∈ lw_tbl := lw_at lw_m8 3 rfl
theorem q1817 : (Jvm.Cond.methodLink "WarByHours$War" (71 : Nat) ({ cls := "java/util/List", name := "add", desc := "(Ljava/lang/Object;)Z" } : Jvm.MethodName)) ∈ lw_all := lw_g (lw_at lw_m8 4 rfl) rfl
theorem q1818 : (Jvm.Cond.interfaceEntry "WarByHours$War" (75 : Nat)) ∈ lw_tbl := lw_at lw_m8 5 rfl
theorem q1819 : (Jvm.Cond.methodLink "WarByHours$War" (75 : Nat) ({ cls := "java/util/List", name := "addAll", desc := "(Ljava/util/Collection;)Z" } : Jvm.MethodName)) ∈ lw_all := lw_g (lw_at lw_m8 6 rfl) rfl
theorem q1837 : (Jvm.Cond.methodLink "WarByHours$War" (79 : Nat) ({ cls := "java/lang/System", name := "arraycopy", desc := "(Ljava/lang/Object;ILjava/lang/Object;II)V" } : Jvm.MethodName)) ∈ lw_all := lw_g (lw_at lw_m8 24 rfl) rfl
theorem q2586 : (Jvm.Cond.castable "WarByHours$War" "java/lang/Object") ∈ lw_tbl := lw_at lw_m11 53 rfl
theorem in_X2 : ∀ w ∈ wsX20, w ∈ lw_all := lw_in wsX20 [476, 478, 480, 482, 484, 486, 488, 490, 492, 494, 496, 498] (by decide +kernel) (by decide +kernel)

/-! WarByHours$Front -/
set_option maxRecDepth 100000
def RX3 : String := "WarByHours$Front"
def TX3 : u_T := fun k => match k with
  | 0 => ("WarByHours$Front", "at", "[I", true)
  | _ => ("WarByHours$Front", "this$0", "LWarByHours;", true)
def tyX3 : Nat → FieldType := fun k => match k with
  | 0 => .array .int
  | _ => .object "WarByHours"
abbrev wsX30 : List Cond := u_ws RX3 TX3 2
theorem nmX3 : ∀ a, a < 2 → ∀ b, b < 2 → a ≠ b → (TX3 a).2.1 ≠ (TX3 b).2.1 := by decide +kernel
theorem tyX3_ok : ∀ k, k < 2 → parseFieldDescriptor (TX3 k).2.2.1 = some (tyX3 k) := by decide +kernel
abbrev cX3_init : ByteArray := prog_8_method_1_code
def yX3_init : MethodName := ⟨RX3, "<init>", "(LWarByHours;)V"⟩
def dkwX3_init_0 : List UInt8 := [42, 43, 181, 0, 3, 42, 183, 0, 9, 42, 16, 61, 188, 10, 181, 0, 15, 177]
abbrev dktX3_init_0 : List UInt8 := dkwX3_init_0 ++ []
theorem dksX3_init_0 : cX3_init.data.toList.drop 0 = dktX3_init_0 := by decide +kernel
theorem dX3_init_0 : decode cX3_init 0 = .ok (.aload_n 0, 1) := dk_42 (dk_at dksX3_init_0 0 rfl rfl)
theorem dX3_init_1 : decode cX3_init 1 = .ok (.aload_n 1, 1) := dk_43 (dk_at dksX3_init_0 1 rfl rfl)
theorem dX3_init_2 : decode cX3_init 2 = .ok (.putfield 3, 3) := dk_181 0 3 (dk_at dksX3_init_0 2 rfl rfl)
theorem dX3_init_5 : decode cX3_init 5 = .ok (.aload_n 0, 1) := dk_42 (dk_at dksX3_init_0 5 rfl rfl)
theorem dX3_init_6 : decode cX3_init 6 = .ok (.invokespecial 9, 3) := dk_183 0 9 (dk_at dksX3_init_0 6 rfl rfl)
theorem dX3_init_9 : decode cX3_init 9 = .ok (.aload_n 0, 1) := dk_42 (dk_at dksX3_init_0 9 rfl rfl)
theorem dX3_init_10 : decode cX3_init 10 = .ok (.bipush 61, 2) := dk_16 61 (dk_at dksX3_init_0 10 rfl rfl)
theorem dX3_init_12 : decode cX3_init 12 = .ok (.newarray .int, 2) := dk_188_10 (dk_at dksX3_init_0 12 rfl rfl)
theorem dX3_init_14 : decode cX3_init 14 = .ok (.putfield 15, 3) := dk_181 0 15 (dk_at dksX3_init_0 14 rfl rfl)
theorem dX3_init_17 : decode cX3_init 17 = .ok (.return_, 1) := dk_177 (dk_at dksX3_init_0 17 rfl rfl)
abbrev cX3_goes : ByteArray := prog_8_method_2_code
def yX3_goes : MethodName := ⟨RX3, "goes", "(I)LWarByHours$Front;"⟩
def dkwX3_goes_3 : List UInt8 := [167, 255, 186, 42, 176]
abbrev dktX3_goes_3 : List UInt8 := dkwX3_goes_3 ++ []
def dkwX3_goes_2 : List UInt8 := [3, 28, 27, 182, 0, 33, 42, 180, 0, 3, 4, 28, 27, 182, 0, 33, 184, 0, 37, 96, 79, 132, 2, 1]
abbrev dktX3_goes_2 : List UInt8 := dkwX3_goes_2 ++ dktX3_goes_3
def dkwX3_goes_1 : List UInt8 := [180, 0, 15, 28, 46, 42, 180, 0, 3, 28, 182, 0, 29, 153, 0, 7, 3, 167, 0, 26, 42, 180, 0, 3]
abbrev dktX3_goes_1 : List UInt8 := dkwX3_goes_1 ++ dktX3_goes_2
def dkwX3_goes_0 : List UInt8 := [3, 61, 28, 42, 180, 0, 3, 180, 0, 19, 180, 0, 23, 162, 0, 62, 42, 180, 0, 15, 28, 4, 96, 42]
abbrev dktX3_goes_0 : List UInt8 := dkwX3_goes_0 ++ dktX3_goes_1
theorem dksX3_goes_0 : cX3_goes.data.toList.drop 0 = dktX3_goes_0 := by decide +kernel
theorem dksX3_goes_1 : cX3_goes.data.toList.drop 24 = dktX3_goes_1 := dk_seg dksX3_goes_0 24 rfl rfl
theorem dksX3_goes_2 : cX3_goes.data.toList.drop 48 = dktX3_goes_2 := dk_seg dksX3_goes_1 24 rfl rfl
theorem dksX3_goes_3 : cX3_goes.data.toList.drop 72 = dktX3_goes_3 := dk_seg dksX3_goes_2 24 rfl rfl
theorem dX3_goes_0 : decode cX3_goes 0 = .ok (.iconst 0, 1) := dk_3 (dk_at dksX3_goes_0 0 rfl rfl)
theorem dX3_goes_1 : decode cX3_goes 1 = .ok (.istore_n 2, 1) := dk_61 (dk_at dksX3_goes_0 1 rfl rfl)
theorem dX3_goes_2 : decode cX3_goes 2 = .ok (.iload_n 2, 1) := dk_28 (dk_at dksX3_goes_0 2 rfl rfl)
theorem dX3_goes_3 : decode cX3_goes 3 = .ok (.aload_n 0, 1) := dk_42 (dk_at dksX3_goes_0 3 rfl rfl)
theorem dX3_goes_4 : decode cX3_goes 4 = .ok (.getfield 3, 3) := dk_180 0 3 (dk_at dksX3_goes_0 4 rfl rfl)
theorem dX3_goes_7 : decode cX3_goes 7 = .ok (.getfield 19, 3) := dk_180 0 19 (dk_at dksX3_goes_0 7 rfl rfl)
theorem dX3_goes_10 : decode cX3_goes 10 = .ok (.getfield 23, 3) := dk_180 0 23 (dk_at dksX3_goes_0 10 rfl rfl)
theorem dX3_goes_13 : decode cX3_goes 13 = .ok (.if_icmp .ge 62, 3) := dk_162 0 62 (dk_at dksX3_goes_0 13 rfl rfl)
theorem dX3_goes_16 : decode cX3_goes 16 = .ok (.aload_n 0, 1) := dk_42 (dk_at dksX3_goes_0 16 rfl rfl)
theorem dX3_goes_17 : decode cX3_goes 17 = .ok (.getfield 15, 3) := dk_180 0 15 (dk_at dksX3_goes_0 17 rfl rfl)
theorem dX3_goes_20 : decode cX3_goes 20 = .ok (.iload_n 2, 1) := dk_28 (dk_at dksX3_goes_0 20 rfl rfl)
theorem dX3_goes_21 : decode cX3_goes 21 = .ok (.iconst 1, 1) := dk_4 (dk_at dksX3_goes_0 21 rfl rfl)
theorem dX3_goes_22 : decode cX3_goes 22 = .ok (.iadd, 1) := dk_96 (dk_at dksX3_goes_0 22 rfl rfl)
theorem dX3_goes_23 : decode cX3_goes 23 = .ok (.aload_n 0, 1) := dk_42 (dk_at dksX3_goes_0 23 rfl rfl)
theorem dX3_goes_24 : decode cX3_goes 24 = .ok (.getfield 15, 3) := dk_180 0 15 (dk_at dksX3_goes_1 0 rfl rfl)
theorem dX3_goes_27 : decode cX3_goes 27 = .ok (.iload_n 2, 1) := dk_28 (dk_at dksX3_goes_1 3 rfl rfl)
theorem dX3_goes_28 : decode cX3_goes 28 = .ok (.iaload, 1) := dk_46 (dk_at dksX3_goes_1 4 rfl rfl)
theorem dX3_goes_29 : decode cX3_goes 29 = .ok (.aload_n 0, 1) := dk_42 (dk_at dksX3_goes_1 5 rfl rfl)
theorem dX3_goes_30 : decode cX3_goes 30 = .ok (.getfield 3, 3) := dk_180 0 3 (dk_at dksX3_goes_1 6 rfl rfl)
theorem dX3_goes_33 : decode cX3_goes 33 = .ok (.iload_n 2, 1) := dk_28 (dk_at dksX3_goes_1 9 rfl rfl)
theorem dX3_goes_34 : decode cX3_goes 34 = .ok (.invokevirtual 29, 3) := dk_182 0 29 (dk_at dksX3_goes_1 10 rfl rfl)
theorem dX3_goes_37 : decode cX3_goes 37 = .ok (.ifCond .eq 7, 3) := dk_153 0 7 (dk_at dksX3_goes_1 13 rfl rfl)
theorem dX3_goes_40 : decode cX3_goes 40 = .ok (.iconst 0, 1) := dk_3 (dk_at dksX3_goes_1 16 rfl rfl)
theorem dX3_goes_41 : decode cX3_goes 41 = .ok (.goto 26, 3) := dk_167 0 26 (dk_at dksX3_goes_1 17 rfl rfl)
theorem dX3_goes_44 : decode cX3_goes 44 = .ok (.aload_n 0, 1) := dk_42 (dk_at dksX3_goes_1 20 rfl rfl)
theorem dX3_goes_45 : decode cX3_goes 45 = .ok (.getfield 3, 3) := dk_180 0 3 (dk_at dksX3_goes_1 21 rfl rfl)
theorem dX3_goes_48 : decode cX3_goes 48 = .ok (.iconst 0, 1) := dk_3 (dk_at dksX3_goes_2 0 rfl rfl)
theorem dX3_goes_49 : decode cX3_goes 49 = .ok (.iload_n 2, 1) := dk_28 (dk_at dksX3_goes_2 1 rfl rfl)
theorem dX3_goes_50 : decode cX3_goes 50 = .ok (.iload_n 1, 1) := dk_27 (dk_at dksX3_goes_2 2 rfl rfl)
theorem dX3_goes_51 : decode cX3_goes 51 = .ok (.invokevirtual 33, 3) := dk_182 0 33 (dk_at dksX3_goes_2 3 rfl rfl)
theorem dX3_goes_54 : decode cX3_goes 54 = .ok (.aload_n 0, 1) := dk_42 (dk_at dksX3_goes_2 6 rfl rfl)
theorem dX3_goes_55 : decode cX3_goes 55 = .ok (.getfield 3, 3) := dk_180 0 3 (dk_at dksX3_goes_2 7 rfl rfl)
theorem dX3_goes_58 : decode cX3_goes 58 = .ok (.iconst 1, 1) := dk_4 (dk_at dksX3_goes_2 10 rfl rfl)
theorem dX3_goes_59 : decode cX3_goes 59 = .ok (.iload_n 2, 1) := dk_28 (dk_at dksX3_goes_2 11 rfl rfl)
theorem dX3_goes_60 : decode cX3_goes 60 = .ok (.iload_n 1, 1) := dk_27 (dk_at dksX3_goes_2 12 rfl rfl)
theorem dX3_goes_61 : decode cX3_goes 61 = .ok (.invokevirtual 33, 3) := dk_182 0 33 (dk_at dksX3_goes_2 13 rfl rfl)
theorem dX3_goes_64 : decode cX3_goes 64 = .ok (.invokestatic 37, 3) := dk_184 0 37 (dk_at dksX3_goes_2 16 rfl rfl)
theorem dX3_goes_67 : decode cX3_goes 67 = .ok (.iadd, 1) := dk_96 (dk_at dksX3_goes_2 19 rfl rfl)
theorem dX3_goes_68 : decode cX3_goes 68 = .ok (.iastore, 1) := dk_79 (dk_at dksX3_goes_2 20 rfl rfl)
theorem dX3_goes_69 : decode cX3_goes 69 = .ok (.iinc 2 1, 3) := dk_132 2 1 (dk_at dksX3_goes_2 21 rfl rfl)
theorem dX3_goes_72 : decode cX3_goes 72 = .ok (.goto (-70), 3) := dk_167 255 186 (dk_at dksX3_goes_3 0 rfl rfl)
theorem dX3_goes_75 : decode cX3_goes 75 = .ok (.aload_n 0, 1) := dk_42 (dk_at dksX3_goes_3 3 rfl rfl)
theorem dX3_goes_76 : decode cX3_goes 76 = .ok (.areturn, 1) := dk_176 (dk_at dksX3_goes_3 4 rfl rfl)
abbrev cX3_last : ByteArray := prog_8_method_4_code
def yX3_last : MethodName := ⟨RX3, "last", "()I"⟩
def dkwX3_last_0 : List UInt8 := [42, 180, 0, 15, 42, 180, 0, 3, 180, 0, 19, 180, 0, 23, 46, 172]
abbrev dktX3_last_0 : List UInt8 := dkwX3_last_0 ++ []
theorem dksX3_last_0 : cX3_last.data.toList.drop 0 = dktX3_last_0 := by decide +kernel
theorem dX3_last_0 : decode cX3_last 0 = .ok (.aload_n 0, 1) := dk_42 (dk_at dksX3_last_0 0 rfl rfl)
theorem dX3_last_1 : decode cX3_last 1 = .ok (.getfield 15, 3) := dk_180 0 15 (dk_at dksX3_last_0 1 rfl rfl)
theorem dX3_last_4 : decode cX3_last 4 = .ok (.aload_n 0, 1) := dk_42 (dk_at dksX3_last_0 4 rfl rfl)
theorem dX3_last_5 : decode cX3_last 5 = .ok (.getfield 3, 3) := dk_180 0 3 (dk_at dksX3_last_0 5 rfl rfl)
theorem dX3_last_8 : decode cX3_last 8 = .ok (.getfield 19, 3) := dk_180 0 19 (dk_at dksX3_last_0 8 rfl rfl)
theorem dX3_last_11 : decode cX3_last 11 = .ok (.getfield 23, 3) := dk_180 0 23 (dk_at dksX3_last_0 11 rfl rfl)
theorem dX3_last_14 : decode cX3_last 14 = .ok (.iaload, 1) := dk_46 (dk_at dksX3_last_0 14 rfl rfl)
theorem dX3_last_15 : decode cX3_last 15 = .ok (.ireturn, 1) := dk_172 (dk_at dksX3_last_0 15 rfl rfl)
abbrev cX3_good : ByteArray := prog_8_method_3_code
def yX3_good : MethodName := ⟨RX3, "good", "(II)I"⟩
def dkwX3_good_0 : List UInt8 := [27, 154, 0, 12, 42, 180, 0, 15, 28, 46, 167, 0, 10, 42, 180, 0, 15, 28, 46, 116, 172]
abbrev dktX3_good_0 : List UInt8 := dkwX3_good_0 ++ []
theorem dksX3_good_0 : cX3_good.data.toList.drop 0 = dktX3_good_0 := by decide +kernel
theorem dX3_good_0 : decode cX3_good 0 = .ok (.iload_n 1, 1) := dk_27 (dk_at dksX3_good_0 0 rfl rfl)
theorem dX3_good_1 : decode cX3_good 1 = .ok (.ifCond .ne 12, 3) := dk_154 0 12 (dk_at dksX3_good_0 1 rfl rfl)
theorem dX3_good_4 : decode cX3_good 4 = .ok (.aload_n 0, 1) := dk_42 (dk_at dksX3_good_0 4 rfl rfl)
theorem dX3_good_5 : decode cX3_good 5 = .ok (.getfield 15, 3) := dk_180 0 15 (dk_at dksX3_good_0 5 rfl rfl)
theorem dX3_good_8 : decode cX3_good 8 = .ok (.iload_n 2, 1) := dk_28 (dk_at dksX3_good_0 8 rfl rfl)
theorem dX3_good_9 : decode cX3_good 9 = .ok (.iaload, 1) := dk_46 (dk_at dksX3_good_0 9 rfl rfl)
theorem dX3_good_10 : decode cX3_good 10 = .ok (.goto 10, 3) := dk_167 0 10 (dk_at dksX3_good_0 10 rfl rfl)
theorem dX3_good_13 : decode cX3_good 13 = .ok (.aload_n 0, 1) := dk_42 (dk_at dksX3_good_0 13 rfl rfl)
theorem dX3_good_14 : decode cX3_good 14 = .ok (.getfield 15, 3) := dk_180 0 15 (dk_at dksX3_good_0 14 rfl rfl)
theorem dX3_good_17 : decode cX3_good 17 = .ok (.iload_n 2, 1) := dk_28 (dk_at dksX3_good_0 17 rfl rfl)
theorem dX3_good_18 : decode cX3_good 18 = .ok (.iaload, 1) := dk_46 (dk_at dksX3_good_0 18 rfl rfl)
theorem dX3_good_19 : decode cX3_good 19 = .ok (.ineg, 1) := dk_116 (dk_at dksX3_good_0 19 rfl rfl)
theorem dX3_good_20 : decode cX3_good 20 = .ok (.ireturn, 1) := dk_172 (dk_at dksX3_good_0 20 rfl rfl)
theorem q140 : (Jvm.Cond.initialized "WarByHours$Front") ∈ lw_all := lw_g (lw_at lw_m1 7 rfl) rfl
theorem q458 : (Jvm.Cond.fieldLinkNest "WarByHours$Front" (23 : Nat) "WarByHours$War" "minutes" "I" "WarByHours") ∈ lw_tbl := lw_at lw_m2 85 rfl
theorem q503 : (Jvm.Cond.instantiable "WarByHours$Front" (2 : Nat)) ∈ lw_all := lw_g (lw_at lw_m2 130 rfl) rfl
theorem q505 : (Jvm.Cond.instanceMethod ({ cls := "WarByHours$Front", name := "<init>", desc := "(LWarByHours;)V" } : Jvm.MethodName)) ∈ lw_all := lw_g (lw_at lw_m2 132 rfl) rfl
theorem q506 : (Jvm.Cond.code ({ cls := "WarByHours$Front", name := "<init>", desc := "(LWarByHours;)V" } : Jvm.MethodName) prog_8_method_1_code (2 : Nat) (Option.none : Option Jvm.ClassFile.FieldType)) ∈ lw_all := lw_g (lw_at lw_m2 133 rfl) rfl
theorem q507 : (Jvm.Cond.methodLink "WarByHours$Front" (9 : Nat) ({ cls := "java/lang/Object", name := "<init>", desc := "()V" } : Jvm.MethodName)) ∈ lw_all := lw_g (lw_at lw_m2 134 rfl) rfl
theorem q508 : (Jvm.Cond.fieldLink "WarByHours$Front" (15 : Nat) "WarByHours$Front" "at" "[I") ∈ lw_all := lw_g (lw_at lw_m2 135 rfl) rfl
theorem q510 : (Jvm.Cond.fieldLink "WarByHours$Front" (3 : Nat) "WarByHours$Front" "this$0" "LWarByHours;") ∈ lw_all := lw_g (lw_at lw_m2 137 rfl) rfl
theorem q511 : (Jvm.Cond.laysFinal "WarByHours$Front" "WarByHours$Front" "at" "[I") ∈ lw_all := lw_g (lw_at lw_m2 138 rfl) rfl
theorem q512 : (Jvm.Cond.soleField "WarByHours$Front" "at") ∈ lw_all := lw_g (lw_at lw_m2 139 rfl) rfl
theorem q513 : (Jvm.Cond.laysFinal "WarByHours$Front" "WarByHours$Front" "this$0" "LWarByHours;") ∈ lw_all := lw_g (lw_at lw_m2 140 rfl) rfl
theorem q514 : (Jvm.Cond.soleField "WarByHours$Front" "this$0") ∈ lw_all := lw_g (lw_at lw_m2 141 rfl) rfl
theorem q515 : (Jvm.Cond.superclass "WarByHours$Front" "java/lang/Object") ∈ lw_all := lw_g (lw_at lw_m2 142 rfl) rfl
theorem q621 : (Jvm.Cond.fieldLinkNest "WarByHours$Front" (19 : Nat) "WarByHours" "now" "LWarByHours$War;" "WarByHours") ∈ lw_tbl := lw_at lw_m3 8 rfl
theorem q965 : (Jvm.Cond.selects "WarByHours$Front" ({ cls := "java/lang/Object", name := "getClass", desc := "()Ljava/lang/Class;" } : Jvm.MethodName) ({ cls := "java/lang/Object", name := "getClass", desc := "()Ljava/lang/Class;" } : Jvm.MethodName)) ∈ lw_all := lw_g (lw_at lw_m4 112 rfl) rfl
theorem q1193 : (Jvm.Cond.instanceMethod ({ cls := "WarByHours$Front", name := "goes", desc := "(I)LWarByHours$Front;" } : Jvm.MethodName)) ∈ lw_all := lw_g (lw_at lw_m5 100 rfl) rfl
theorem q1194 : (Jvm.Cond.selects "WarByHours$Front" ({ cls := "WarByHours$Front", name := "goes", desc := "(I)LWarByHours$Front;" } : Jvm.MethodName) ({ cls := "WarByHours$Front", name := "goes", desc := "(I)LWarByHours$Front;" } : Jvm.MethodName)) ∈ lw_all := lw_g (lw_at lw_m5 101 rfl) rfl
theorem q1195 : (Jvm.Cond.code ({ cls := "WarByHours$Front", name := "goes", desc := "(I)LWarByHours$Front;" } : Jvm.MethodName) prog_8_method_2_code (3 : Nat) (Option.some (Jvm.ClassFile.FieldType.object "WarByHours$Front"))) ∈ lw_all := lw_g (lw_at lw_m5 102 rfl) rfl
theorem q1196 : (Jvm.Cond.methodLinkNest "WarByHours$Front" (29 : Nat) ({ cls := "WarByHours", name := "isTea", desc := "(I)Z" } : Jvm.MethodName) "WarByHours") ∈ lw_tbl := lw_at lw_m5 103 rfl
theorem q1197 : (Jvm.Cond.methodLinkNest "WarByHours$Front" (33 : Nat) ({ cls := "WarByHours", name := "menAt", desc := "(III)I" } : Jvm.MethodName) "WarByHours") ∈ lw_tbl := lw_at lw_m5 104 rfl
theorem q1198 : (Jvm.Cond.methodLink "WarByHours$Front" (37 : Nat) ({ cls := "java/lang/Integer", name := "compare", desc := "(II)I" } : Jvm.MethodName)) ∈ lw_all := lw_g (lw_at lw_m5 105 rfl) rfl
theorem q1218 : (Jvm.Cond.instanceMethod ({ cls := "WarByHours$Front", name := "last", desc := "()I" } : Jvm.MethodName)) ∈ lw_all := lw_g (lw_at lw_m5 125 rfl) rfl
theorem q1219 : (Jvm.Cond.selects "WarByHours$Front" ({ cls := "WarByHours$Front", name := "last", desc := "()I" } : Jvm.MethodName) ({ cls := "WarByHours$Front", name := "last", desc := "()I" } : Jvm.MethodName)) ∈ lw_all := lw_g (lw_at lw_m5 126 rfl) rfl
theorem q1220 : (Jvm.Cond.code ({ cls := "WarByHours$Front", name := "last", desc := "()I" } : Jvm.MethodName) prog_8_method_4_code (1 : Nat) (Option.some Jvm.ClassFile.FieldType.int)) ∈ lw_all := lw_g (lw_at lw_m5 127 rfl) rfl
theorem q1226 : (Jvm.Cond.instanceMethod ({ cls := "WarByHours$Front", name := "good", desc := "(II)I" } : Jvm.MethodName)) ∈ lw_all := lw_g (lw_at lw_m5 133 rfl) rfl
theorem q1227 : (Jvm.Cond.selects "WarByHours$Front" ({ cls := "WarByHours$Front", name := "good", desc := "(II)I" } : Jvm.MethodName) ({ cls := "WarByHours$Front", name := "good", desc := "(II)I" } : Jvm.MethodName)) ∈ lw_all := lw_g (lw_at lw_m5 134 rfl) rfl
theorem q1228 : (Jvm.Cond.code ({ cls := "WarByHours$Front", name := "good", desc := "(II)I" } : Jvm.MethodName) prog_8_method_3_code (3 : Nat) (Option.some Jvm.ClassFile.FieldType.int)) ∈ lw_all := lw_g (lw_at lw_m5 135 rfl) rfl
theorem q2589 : (Jvm.Cond.castable "WarByHours$Front" "java/lang/Object") ∈ lw_tbl := lw_at lw_m11 56 rfl
theorem in_X3 : ∀ w ∈ wsX30, w ∈ lw_all := lw_in wsX30 [511, 513] (by decide +kernel) (by decide +kernel)

/-! WarByHours$Sets -/
set_option maxRecDepth 100000
def RX4 : String := "WarByHours$Sets"
abbrev cX4_init : ByteArray := prog_13_method_1_code
def yX4_init : MethodName := ⟨RX4, "<init>", "(LWarByHours;)V"⟩
def dkwX4_init_0 : List UInt8 := [42, 43, 181, 0, 3, 42, 183, 0, 9, 177]
abbrev dktX4_init_0 : List UInt8 := dkwX4_init_0 ++ []
theorem dksX4_init_0 : cX4_init.data.toList.drop 0 = dktX4_init_0 := by decide +kernel
theorem dX4_init_0 : decode cX4_init 0 = .ok (.aload_n 0, 1) := dk_42 (dk_at dksX4_init_0 0 rfl rfl)
theorem dX4_init_1 : decode cX4_init 1 = .ok (.aload_n 1, 1) := dk_43 (dk_at dksX4_init_0 1 rfl rfl)
theorem dX4_init_2 : decode cX4_init 2 = .ok (.putfield 3, 3) := dk_181 0 3 (dk_at dksX4_init_0 2 rfl rfl)
theorem dX4_init_5 : decode cX4_init 5 = .ok (.aload_n 0, 1) := dk_42 (dk_at dksX4_init_0 5 rfl rfl)
theorem dX4_init_6 : decode cX4_init 6 = .ok (.invokespecial 9, 3) := dk_183 0 9 (dk_at dksX4_init_0 6 rfl rfl)
theorem dX4_init_9 : decode cX4_init 9 = .ok (.return_, 1) := dk_177 (dk_at dksX4_init_0 9 rfl rfl)
abbrev cX4_cost : ByteArray := prog_13_method_5_code
def yX4_cost : MethodName := ⟨RX4, "cost", "(I)I"⟩
def dkwX4_cost_0 : List UInt8 := [42, 27, 182, 0, 43, 61, 28, 2, 160, 0, 7, 2, 167, 0, 8, 42, 28, 182, 0, 36, 172]
abbrev dktX4_cost_0 : List UInt8 := dkwX4_cost_0 ++ []
theorem dksX4_cost_0 : cX4_cost.data.toList.drop 0 = dktX4_cost_0 := by decide +kernel
theorem dX4_cost_0 : decode cX4_cost 0 = .ok (.aload_n 0, 1) := dk_42 (dk_at dksX4_cost_0 0 rfl rfl)
theorem dX4_cost_1 : decode cX4_cost 1 = .ok (.iload_n 1, 1) := dk_27 (dk_at dksX4_cost_0 1 rfl rfl)
theorem dX4_cost_2 : decode cX4_cost 2 = .ok (.invokevirtual 43, 3) := dk_182 0 43 (dk_at dksX4_cost_0 2 rfl rfl)
theorem dX4_cost_5 : decode cX4_cost 5 = .ok (.istore_n 2, 1) := dk_61 (dk_at dksX4_cost_0 5 rfl rfl)
theorem dX4_cost_6 : decode cX4_cost 6 = .ok (.iload_n 2, 1) := dk_28 (dk_at dksX4_cost_0 6 rfl rfl)
theorem dX4_cost_7 : decode cX4_cost 7 = .ok (.iconst (-1), 1) := dk_2 (dk_at dksX4_cost_0 7 rfl rfl)
theorem dX4_cost_8 : decode cX4_cost 8 = .ok (.if_icmp .ne 7, 3) := dk_160 0 7 (dk_at dksX4_cost_0 8 rfl rfl)
theorem dX4_cost_11 : decode cX4_cost 11 = .ok (.iconst (-1), 1) := dk_2 (dk_at dksX4_cost_0 11 rfl rfl)
theorem dX4_cost_12 : decode cX4_cost 12 = .ok (.goto 8, 3) := dk_167 0 8 (dk_at dksX4_cost_0 12 rfl rfl)
theorem dX4_cost_15 : decode cX4_cost 15 = .ok (.aload_n 0, 1) := dk_42 (dk_at dksX4_cost_0 15 rfl rfl)
theorem dX4_cost_16 : decode cX4_cost 16 = .ok (.iload_n 2, 1) := dk_28 (dk_at dksX4_cost_0 16 rfl rfl)
theorem dX4_cost_17 : decode cX4_cost 17 = .ok (.invokevirtual 36, 3) := dk_182 0 36 (dk_at dksX4_cost_0 17 rfl rfl)
theorem dX4_cost_20 : decode cX4_cost 20 = .ok (.ireturn, 1) := dk_172 (dk_at dksX4_cost_0 20 rfl rfl)
abbrev cX4_seeks : ByteArray := prog_13_method_4_code
def yX4_seeks : MethodName := ⟨RX4, "seeks", "(I)I"⟩
def dkwX4_seeks_3 : List UInt8 := [153, 0, 8, 42, 28, 181, 0, 19, 132, 2, 1, 167, 255, 183, 42, 180, 0, 19, 172]
abbrev dktX4_seeks_3 : List UInt8 := dkwX4_seeks_3 ++ []
def dkwX4_seeks_2 : List UInt8 := [182, 0, 36, 42, 42, 180, 0, 19, 182, 0, 36, 161, 0, 6, 167, 0, 17, 42, 27, 28, 182, 0, 39]
abbrev dktX4_seeks_2 : List UInt8 := dkwX4_seeks_2 ++ dktX4_seeks_3
def dkwX4_seeks_1 : List UInt8 := [180, 0, 3, 27, 182, 0, 33, 2, 130, 126, 154, 0, 44, 42, 180, 0, 19, 2, 159, 0, 22, 42, 28]
abbrev dktX4_seeks_1 : List UInt8 := dkwX4_seeks_1 ++ dktX4_seeks_2
def dkwX4_seeks_0 : List UInt8 := [42, 2, 181, 0, 19, 3, 61, 28, 42, 180, 0, 3, 180, 0, 23, 182, 0, 27, 163, 0, 65, 28, 42]
abbrev dktX4_seeks_0 : List UInt8 := dkwX4_seeks_0 ++ dktX4_seeks_1
theorem dksX4_seeks_0 : cX4_seeks.data.toList.drop 0 = dktX4_seeks_0 := by decide +kernel
theorem dksX4_seeks_1 : cX4_seeks.data.toList.drop 23 = dktX4_seeks_1 := dk_seg dksX4_seeks_0 23 rfl rfl
theorem dksX4_seeks_2 : cX4_seeks.data.toList.drop 46 = dktX4_seeks_2 := dk_seg dksX4_seeks_1 23 rfl rfl
theorem dksX4_seeks_3 : cX4_seeks.data.toList.drop 69 = dktX4_seeks_3 := dk_seg dksX4_seeks_2 23 rfl rfl
theorem dX4_seeks_0 : decode cX4_seeks 0 = .ok (.aload_n 0, 1) := dk_42 (dk_at dksX4_seeks_0 0 rfl rfl)
theorem dX4_seeks_1 : decode cX4_seeks 1 = .ok (.iconst (-1), 1) := dk_2 (dk_at dksX4_seeks_0 1 rfl rfl)
theorem dX4_seeks_2 : decode cX4_seeks 2 = .ok (.putfield 19, 3) := dk_181 0 19 (dk_at dksX4_seeks_0 2 rfl rfl)
theorem dX4_seeks_5 : decode cX4_seeks 5 = .ok (.iconst 0, 1) := dk_3 (dk_at dksX4_seeks_0 5 rfl rfl)
theorem dX4_seeks_6 : decode cX4_seeks 6 = .ok (.istore_n 2, 1) := dk_61 (dk_at dksX4_seeks_0 6 rfl rfl)
theorem dX4_seeks_7 : decode cX4_seeks 7 = .ok (.iload_n 2, 1) := dk_28 (dk_at dksX4_seeks_0 7 rfl rfl)
theorem dX4_seeks_8 : decode cX4_seeks 8 = .ok (.aload_n 0, 1) := dk_42 (dk_at dksX4_seeks_0 8 rfl rfl)
theorem dX4_seeks_9 : decode cX4_seeks 9 = .ok (.getfield 3, 3) := dk_180 0 3 (dk_at dksX4_seeks_0 9 rfl rfl)
theorem dX4_seeks_12 : decode cX4_seeks 12 = .ok (.getfield 23, 3) := dk_180 0 23 (dk_at dksX4_seeks_0 12 rfl rfl)
theorem dX4_seeks_15 : decode cX4_seeks 15 = .ok (.invokevirtual 27, 3) := dk_182 0 27 (dk_at dksX4_seeks_0 15 rfl rfl)
theorem dX4_seeks_18 : decode cX4_seeks 18 = .ok (.if_icmp .gt 65, 3) := dk_163 0 65 (dk_at dksX4_seeks_0 18 rfl rfl)
theorem dX4_seeks_21 : decode cX4_seeks 21 = .ok (.iload_n 2, 1) := dk_28 (dk_at dksX4_seeks_0 21 rfl rfl)
theorem dX4_seeks_22 : decode cX4_seeks 22 = .ok (.aload_n 0, 1) := dk_42 (dk_at dksX4_seeks_0 22 rfl rfl)
theorem dX4_seeks_23 : decode cX4_seeks 23 = .ok (.getfield 3, 3) := dk_180 0 3 (dk_at dksX4_seeks_1 0 rfl rfl)
theorem dX4_seeks_26 : decode cX4_seeks 26 = .ok (.iload_n 1, 1) := dk_27 (dk_at dksX4_seeks_1 3 rfl rfl)
theorem dX4_seeks_27 : decode cX4_seeks 27 = .ok (.invokevirtual 33, 3) := dk_182 0 33 (dk_at dksX4_seeks_1 4 rfl rfl)
theorem dX4_seeks_30 : decode cX4_seeks 30 = .ok (.iconst (-1), 1) := dk_2 (dk_at dksX4_seeks_1 7 rfl rfl)
theorem dX4_seeks_31 : decode cX4_seeks 31 = .ok (.ixor, 1) := dk_130 (dk_at dksX4_seeks_1 8 rfl rfl)
theorem dX4_seeks_32 : decode cX4_seeks 32 = .ok (.iand, 1) := dk_126 (dk_at dksX4_seeks_1 9 rfl rfl)
theorem dX4_seeks_33 : decode cX4_seeks 33 = .ok (.ifCond .ne 44, 3) := dk_154 0 44 (dk_at dksX4_seeks_1 10 rfl rfl)
theorem dX4_seeks_36 : decode cX4_seeks 36 = .ok (.aload_n 0, 1) := dk_42 (dk_at dksX4_seeks_1 13 rfl rfl)
theorem dX4_seeks_37 : decode cX4_seeks 37 = .ok (.getfield 19, 3) := dk_180 0 19 (dk_at dksX4_seeks_1 14 rfl rfl)
theorem dX4_seeks_40 : decode cX4_seeks 40 = .ok (.iconst (-1), 1) := dk_2 (dk_at dksX4_seeks_1 17 rfl rfl)
theorem dX4_seeks_41 : decode cX4_seeks 41 = .ok (.if_icmp .eq 22, 3) := dk_159 0 22 (dk_at dksX4_seeks_1 18 rfl rfl)
theorem dX4_seeks_44 : decode cX4_seeks 44 = .ok (.aload_n 0, 1) := dk_42 (dk_at dksX4_seeks_1 21 rfl rfl)
theorem dX4_seeks_45 : decode cX4_seeks 45 = .ok (.iload_n 2, 1) := dk_28 (dk_at dksX4_seeks_1 22 rfl rfl)
theorem dX4_seeks_46 : decode cX4_seeks 46 = .ok (.invokevirtual 36, 3) := dk_182 0 36 (dk_at dksX4_seeks_2 0 rfl rfl)
theorem dX4_seeks_49 : decode cX4_seeks 49 = .ok (.aload_n 0, 1) := dk_42 (dk_at dksX4_seeks_2 3 rfl rfl)
theorem dX4_seeks_50 : decode cX4_seeks 50 = .ok (.aload_n 0, 1) := dk_42 (dk_at dksX4_seeks_2 4 rfl rfl)
theorem dX4_seeks_51 : decode cX4_seeks 51 = .ok (.getfield 19, 3) := dk_180 0 19 (dk_at dksX4_seeks_2 5 rfl rfl)
theorem dX4_seeks_54 : decode cX4_seeks 54 = .ok (.invokevirtual 36, 3) := dk_182 0 36 (dk_at dksX4_seeks_2 8 rfl rfl)
theorem dX4_seeks_57 : decode cX4_seeks 57 = .ok (.if_icmp .lt 6, 3) := dk_161 0 6 (dk_at dksX4_seeks_2 11 rfl rfl)
theorem dX4_seeks_60 : decode cX4_seeks 60 = .ok (.goto 17, 3) := dk_167 0 17 (dk_at dksX4_seeks_2 14 rfl rfl)
theorem dX4_seeks_63 : decode cX4_seeks 63 = .ok (.aload_n 0, 1) := dk_42 (dk_at dksX4_seeks_2 17 rfl rfl)
theorem dX4_seeks_64 : decode cX4_seeks 64 = .ok (.iload_n 1, 1) := dk_27 (dk_at dksX4_seeks_2 18 rfl rfl)
theorem dX4_seeks_65 : decode cX4_seeks 65 = .ok (.iload_n 2, 1) := dk_28 (dk_at dksX4_seeks_2 19 rfl rfl)
theorem dX4_seeks_66 : decode cX4_seeks 66 = .ok (.invokevirtual 39, 3) := dk_182 0 39 (dk_at dksX4_seeks_2 20 rfl rfl)
theorem dX4_seeks_69 : decode cX4_seeks 69 = .ok (.ifCond .eq 8, 3) := dk_153 0 8 (dk_at dksX4_seeks_3 0 rfl rfl)
theorem dX4_seeks_72 : decode cX4_seeks 72 = .ok (.aload_n 0, 1) := dk_42 (dk_at dksX4_seeks_3 3 rfl rfl)
theorem dX4_seeks_73 : decode cX4_seeks 73 = .ok (.iload_n 2, 1) := dk_28 (dk_at dksX4_seeks_3 4 rfl rfl)
theorem dX4_seeks_74 : decode cX4_seeks 74 = .ok (.putfield 19, 3) := dk_181 0 19 (dk_at dksX4_seeks_3 5 rfl rfl)
theorem dX4_seeks_77 : decode cX4_seeks 77 = .ok (.iinc 2 1, 3) := dk_132 2 1 (dk_at dksX4_seeks_3 8 rfl rfl)
theorem dX4_seeks_80 : decode cX4_seeks 80 = .ok (.goto (-73), 3) := dk_167 255 183 (dk_at dksX4_seeks_3 11 rfl rfl)
theorem dX4_seeks_83 : decode cX4_seeks 83 = .ok (.aload_n 0, 1) := dk_42 (dk_at dksX4_seeks_3 14 rfl rfl)
theorem dX4_seeks_84 : decode cX4_seeks 84 = .ok (.getfield 19, 3) := dk_180 0 19 (dk_at dksX4_seeks_3 15 rfl rfl)
theorem dX4_seeks_87 : decode cX4_seeks 87 = .ok (.ireturn, 1) := dk_172 (dk_at dksX4_seeks_3 18 rfl rfl)
abbrev cX4_costOf : ByteArray := prog_13_method_3_code
def yX4_costOf : MethodName := ⟨RX4, "costOf", "(I)I"⟩
def dkwX4_costOf_0 : List UInt8 := [42, 180, 0, 3, 27, 182, 0, 15, 172]
abbrev dktX4_costOf_0 : List UInt8 := dkwX4_costOf_0 ++ []
theorem dksX4_costOf_0 : cX4_costOf.data.toList.drop 0 = dktX4_costOf_0 := by decide +kernel
theorem dX4_costOf_0 : decode cX4_costOf 0 = .ok (.aload_n 0, 1) := dk_42 (dk_at dksX4_costOf_0 0 rfl rfl)
theorem dX4_costOf_1 : decode cX4_costOf 1 = .ok (.getfield 3, 3) := dk_180 0 3 (dk_at dksX4_costOf_0 1 rfl rfl)
theorem dX4_costOf_4 : decode cX4_costOf 4 = .ok (.iload_n 1, 1) := dk_27 (dk_at dksX4_costOf_0 4 rfl rfl)
theorem dX4_costOf_5 : decode cX4_costOf 5 = .ok (.invokevirtual 15, 3) := dk_182 0 15 (dk_at dksX4_costOf_0 5 rfl rfl)
theorem dX4_costOf_8 : decode cX4_costOf 8 = .ok (.ireturn, 1) := dk_172 (dk_at dksX4_costOf_0 8 rfl rfl)
theorem q141 : (Jvm.Cond.initialized "WarByHours$Sets") ∈ lw_all := lw_g (lw_at lw_m1 8 rfl) rfl
theorem q522 : (Jvm.Cond.instanceMethod ({ cls := "WarByHours$Sets", name := "<init>", desc := "(LWarByHours;)V" } : Jvm.MethodName)) ∈ lw_all := lw_g (lw_at lw_m2 149 rfl) rfl
theorem q523 : (Jvm.Cond.code ({ cls := "WarByHours$Sets", name := "<init>", desc := "(LWarByHours;)V" } : Jvm.MethodName) prog_13_method_1_code (2 : Nat) (Option.none : Option Jvm.ClassFile.FieldType)) ∈ lw_all := lw_g (lw_at lw_m2 150 rfl) rfl
theorem q524 : (Jvm.Cond.methodLink "WarByHours$Sets" (9 : Nat) ({ cls := "java/lang/Object", name := "<init>", desc := "()V" } : Jvm.MethodName)) ∈ lw_all := lw_g (lw_at lw_m2 151 rfl) rfl
theorem q526 : (Jvm.Cond.fieldLink "WarByHours$Sets" (19 : Nat) "WarByHours$Sets" "best" "I") ∈ lw_all := lw_g (lw_at lw_m2 153 rfl) rfl
theorem q527 : (Jvm.Cond.fieldLink "WarByHours$Sets" (3 : Nat) "WarByHours$Sets" "this$0" "LWarByHours;") ∈ lw_all := lw_g (lw_at lw_m2 154 rfl) rfl
theorem q531 : (Jvm.Cond.soleField "WarByHours$Sets" "best") ∈ lw_all := lw_g (lw_at lw_m2 158 rfl) rfl
theorem q533 : (Jvm.Cond.soleField "WarByHours$Sets" "this$0") ∈ lw_all := lw_g (lw_at lw_m2 160 rfl) rfl
theorem q625 : (Jvm.Cond.fieldLinkNest "WarByHours$Sets" (23 : Nat) "WarByHours" "now" "LWarByHours$War;" "WarByHours") ∈ lw_tbl := lw_at lw_m3 12 rfl
theorem q1302 : (Jvm.Cond.declares ({ cls := "WarByHours$Sets", name := "cost", desc := "(I)I" } : Jvm.MethodName)) ∈ lw_tbl := lw_at lw_m5 209 rfl
theorem q1305 : (Jvm.Cond.instanceMethod ({ cls := "WarByHours$Sets", name := "cost", desc := "(I)I" } : Jvm.MethodName)) ∈ lw_all := lw_g (lw_at lw_m5 212 rfl) rfl
theorem q1306 : (Jvm.Cond.code ({ cls := "WarByHours$Sets", name := "cost", desc := "(I)I" } : Jvm.MethodName) prog_13_method_5_code (3 : Nat) (Option.some Jvm.ClassFile.FieldType.int)) ∈ lw_all := lw_g (lw_at lw_m5 213 rfl) rfl
theorem q1307 : (Jvm.Cond.methodLink "WarByHours$Sets" (43 : Nat) ({ cls := "WarByHours$Sets", name := "seeks", desc := "(I)I" } : Jvm.MethodName)) ∈ lw_all := lw_g (lw_at lw_m5 214 rfl) rfl
theorem q1308 : (Jvm.Cond.instanceMethod ({ cls := "WarByHours$Sets", name := "seeks", desc := "(I)I" } : Jvm.MethodName)) ∈ lw_all := lw_g (lw_at lw_m5 215 rfl) rfl
theorem q1309 : (Jvm.Cond.sameMethod "WarByHours$Sets" "WarByHours$Sets" "seeks" "(I)I") ∈ lw_all := lw_g (lw_at lw_m5 216 rfl) rfl
theorem q1314 : (Jvm.Cond.code ({ cls := "WarByHours$Sets", name := "seeks", desc := "(I)I" } : Jvm.MethodName) prog_13_method_4_code (3 : Nat) (Option.some Jvm.ClassFile.FieldType.int)) ∈ lw_all := lw_g (lw_at lw_m5 221 rfl) rfl
theorem q1315 : (Jvm.Cond.methodLink "WarByHours$Sets" (27 : Nat) ({ cls := "WarByHours$War", name := "all", desc := "()I" } : Jvm.MethodName)) ∈ lw_all := lw_g (lw_at lw_m5 222 rfl) rfl
theorem q1316 : (Jvm.Cond.methodLinkNest "WarByHours$Sets" (33 : Nat) ({ cls := "WarByHours", name := "ofSide", desc := "(I)I" } : Jvm.MethodName) "WarByHours") ∈ lw_tbl := lw_at lw_m5 223 rfl
theorem q1317 : (Jvm.Cond.methodLink "WarByHours$Sets" (36 : Nat) ({ cls := "WarByHours$Sets", name := "costOf", desc := "(I)I" } : Jvm.MethodName)) ∈ lw_all := lw_g (lw_at lw_m5 224 rfl) rfl
theorem q1318 : (Jvm.Cond.instanceMethod ({ cls := "WarByHours$Sets", name := "costOf", desc := "(I)I" } : Jvm.MethodName)) ∈ lw_all := lw_g (lw_at lw_m5 225 rfl) rfl
theorem q1319 : (Jvm.Cond.sameMethod "WarByHours$Sets" "WarByHours$Sets" "costOf" "(I)I") ∈ lw_all := lw_g (lw_at lw_m5 226 rfl) rfl
theorem q1327 : (Jvm.Cond.code ({ cls := "WarByHours$Sets", name := "costOf", desc := "(I)I" } : Jvm.MethodName) prog_13_method_3_code (2 : Nat) (Option.some Jvm.ClassFile.FieldType.int)) ∈ lw_all := lw_g (lw_at lw_m5 234 rfl) rfl
theorem q1328 : (Jvm.Cond.methodLinkNest "WarByHours$Sets" (15 : Nat) ({ cls := "WarByHours", name := "priceOf", desc := "(I)I" } : Jvm.MethodName) "WarByHours") ∈ lw_tbl := lw_at lw_m5 235 rfl
theorem q1332 : (Jvm.Cond.methodLink "WarByHours$Sets" (39 : Nat) ({ cls := "WarByHours$Sets", name := "may", desc := "(II)Z" } : Jvm.MethodName)) ∈ lw_all := lw_g (lw_at lw_m5 239 rfl) rfl
theorem q1333 : (Jvm.Cond.declares ({ cls := "WarByHours$Sets", name := "may", desc := "(II)Z" } : Jvm.MethodName)) ∈ lw_tbl := lw_at lw_m6 0 rfl
theorem q1334 : (Jvm.Cond.sameMethod "WarByHours$Sets" "WarByHours$Sets" "may" "(II)Z") ∈ lw_all := lw_g (lw_at lw_m6 1 rfl) rfl
theorem q1358 : (Jvm.Cond.declares ({ cls := "WarByHours$Sets", name := "seeks", desc := "(I)I" } : Jvm.MethodName)) ∈ lw_tbl := lw_at lw_m6 25 rfl

/-! WarByHours$Send -/
set_option maxRecDepth 100000
def RX5 : String := "WarByHours$Send"
def TX5 : u_T := fun k => match k with
  | 0 => ("WarByHours$Sets", "best", "I", false)
  | 1 => ("WarByHours$Sets", "this$0", "LWarByHours;", true)
  | _ => ("WarByHours$Send", "this$0", "LWarByHours;", true)
def tyX5 : Nat → FieldType := fun k => match k with
  | 0 => .int
  | 1 => .object "WarByHours"
  | _ => .object "WarByHours"
abbrev wsX50 : List Cond := u_ws RX5 TX5 3
-- two fields of one name: no nmX5
theorem tyX5_ok : ∀ k, k < 3 → parseFieldDescriptor (TX5 k).2.2.1 = some (tyX5 k) := by decide +kernel
abbrev cX5_init : ByteArray := prog_12_method_1_code
def yX5_init : MethodName := ⟨RX5, "<init>", "(LWarByHours;)V"⟩
def dkwX5_init_0 : List UInt8 := [42, 43, 181, 0, 1, 42, 43, 183, 0, 7, 177]
abbrev dktX5_init_0 : List UInt8 := dkwX5_init_0 ++ []
theorem dksX5_init_0 : cX5_init.data.toList.drop 0 = dktX5_init_0 := by decide +kernel
theorem dX5_init_0 : decode cX5_init 0 = .ok (.aload_n 0, 1) := dk_42 (dk_at dksX5_init_0 0 rfl rfl)
theorem dX5_init_1 : decode cX5_init 1 = .ok (.aload_n 1, 1) := dk_43 (dk_at dksX5_init_0 1 rfl rfl)
theorem dX5_init_2 : decode cX5_init 2 = .ok (.putfield 1, 3) := dk_181 0 1 (dk_at dksX5_init_0 2 rfl rfl)
theorem dX5_init_5 : decode cX5_init 5 = .ok (.aload_n 0, 1) := dk_42 (dk_at dksX5_init_0 5 rfl rfl)
theorem dX5_init_6 : decode cX5_init 6 = .ok (.aload_n 1, 1) := dk_43 (dk_at dksX5_init_0 6 rfl rfl)
theorem dX5_init_7 : decode cX5_init 7 = .ok (.invokespecial 7, 3) := dk_183 0 7 (dk_at dksX5_init_0 7 rfl rfl)
theorem dX5_init_10 : decode cX5_init 10 = .ok (.return_, 1) := dk_177 (dk_at dksX5_init_0 10 rfl rfl)
abbrev cX5_may : ByteArray := prog_12_method_2_code
def yX5_may : MethodName := ⟨RX5, "may", "(II)Z"⟩
def dkwX5_may_1 : List UInt8 := [180, 0, 13, 180, 0, 29, 27, 46, 161, 0, 7, 4, 167, 0, 4, 3, 172]
abbrev dktX5_may_1 : List UInt8 := dkwX5_may_1 ++ []
def dkwX5_may_0 : List UInt8 := [42, 180, 0, 1, 27, 42, 180, 0, 1, 180, 0, 13, 180, 0, 19, 28, 28, 182, 0, 25, 42, 180, 0, 1]
abbrev dktX5_may_0 : List UInt8 := dkwX5_may_0 ++ dktX5_may_1
theorem dksX5_may_0 : cX5_may.data.toList.drop 0 = dktX5_may_0 := by decide +kernel
theorem dksX5_may_1 : cX5_may.data.toList.drop 24 = dktX5_may_1 := dk_seg dksX5_may_0 24 rfl rfl
theorem dX5_may_0 : decode cX5_may 0 = .ok (.aload_n 0, 1) := dk_42 (dk_at dksX5_may_0 0 rfl rfl)
theorem dX5_may_1 : decode cX5_may 1 = .ok (.getfield 1, 3) := dk_180 0 1 (dk_at dksX5_may_0 1 rfl rfl)
theorem dX5_may_4 : decode cX5_may 4 = .ok (.iload_n 1, 1) := dk_27 (dk_at dksX5_may_0 4 rfl rfl)
theorem dX5_may_5 : decode cX5_may 5 = .ok (.aload_n 0, 1) := dk_42 (dk_at dksX5_may_0 5 rfl rfl)
theorem dX5_may_6 : decode cX5_may 6 = .ok (.getfield 1, 3) := dk_180 0 1 (dk_at dksX5_may_0 6 rfl rfl)
theorem dX5_may_9 : decode cX5_may 9 = .ok (.getfield 13, 3) := dk_180 0 13 (dk_at dksX5_may_0 9 rfl rfl)
theorem dX5_may_12 : decode cX5_may 12 = .ok (.getfield 19, 3) := dk_180 0 19 (dk_at dksX5_may_0 12 rfl rfl)
theorem dX5_may_15 : decode cX5_may 15 = .ok (.iload_n 2, 1) := dk_28 (dk_at dksX5_may_0 15 rfl rfl)
theorem dX5_may_16 : decode cX5_may 16 = .ok (.iload_n 2, 1) := dk_28 (dk_at dksX5_may_0 16 rfl rfl)
theorem dX5_may_17 : decode cX5_may 17 = .ok (.invokevirtual 25, 3) := dk_182 0 25 (dk_at dksX5_may_0 17 rfl rfl)
theorem dX5_may_20 : decode cX5_may 20 = .ok (.aload_n 0, 1) := dk_42 (dk_at dksX5_may_0 20 rfl rfl)
theorem dX5_may_21 : decode cX5_may 21 = .ok (.getfield 1, 3) := dk_180 0 1 (dk_at dksX5_may_0 21 rfl rfl)
theorem dX5_may_24 : decode cX5_may 24 = .ok (.getfield 13, 3) := dk_180 0 13 (dk_at dksX5_may_1 0 rfl rfl)
theorem dX5_may_27 : decode cX5_may 27 = .ok (.getfield 29, 3) := dk_180 0 29 (dk_at dksX5_may_1 3 rfl rfl)
theorem dX5_may_30 : decode cX5_may 30 = .ok (.iload_n 1, 1) := dk_27 (dk_at dksX5_may_1 6 rfl rfl)
theorem dX5_may_31 : decode cX5_may 31 = .ok (.iaload, 1) := dk_46 (dk_at dksX5_may_1 7 rfl rfl)
theorem dX5_may_32 : decode cX5_may 32 = .ok (.if_icmp .lt 7, 3) := dk_161 0 7 (dk_at dksX5_may_1 8 rfl rfl)
theorem dX5_may_35 : decode cX5_may 35 = .ok (.iconst 1, 1) := dk_4 (dk_at dksX5_may_1 11 rfl rfl)
theorem dX5_may_36 : decode cX5_may 36 = .ok (.goto 4, 3) := dk_167 0 4 (dk_at dksX5_may_1 12 rfl rfl)
theorem dX5_may_39 : decode cX5_may 39 = .ok (.iconst 0, 1) := dk_3 (dk_at dksX5_may_1 15 rfl rfl)
theorem dX5_may_40 : decode cX5_may 40 = .ok (.ireturn, 1) := dk_172 (dk_at dksX5_may_1 16 rfl rfl)
theorem q142 : (Jvm.Cond.initialized "WarByHours$Send") ∈ lw_all := lw_g (lw_at lw_m1 9 rfl) rfl
theorem q454 : (Jvm.Cond.fieldLinkNest "WarByHours$Send" (29 : Nat) "WarByHours$War" "needs" "[I" "WarByHours") ∈ lw_tbl := lw_at lw_m2 81 rfl
theorem q462 : (Jvm.Cond.fieldLinkNest "WarByHours$Send" (19 : Nat) "WarByHours$War" "late" "I" "WarByHours") ∈ lw_tbl := lw_at lw_m2 89 rfl
theorem q517 : (Jvm.Cond.instantiable "WarByHours$Send" (3 : Nat)) ∈ lw_all := lw_g (lw_at lw_m2 144 rfl) rfl
theorem q519 : (Jvm.Cond.instanceMethod ({ cls := "WarByHours$Send", name := "<init>", desc := "(LWarByHours;)V" } : Jvm.MethodName)) ∈ lw_all := lw_g (lw_at lw_m2 146 rfl) rfl
theorem q520 : (Jvm.Cond.code ({ cls := "WarByHours$Send", name := "<init>", desc := "(LWarByHours;)V" } : Jvm.MethodName) prog_12_method_1_code (2 : Nat) (Option.none : Option Jvm.ClassFile.FieldType)) ∈ lw_all := lw_g (lw_at lw_m2 147 rfl) rfl
theorem q521 : (Jvm.Cond.methodLinkNest "WarByHours$Send" (7 : Nat) ({ cls := "WarByHours$Sets", name := "<init>", desc := "(LWarByHours;)V" } : Jvm.MethodName) "WarByHours") ∈ lw_tbl := lw_at lw_m2 148 rfl
theorem q525 : (Jvm.Cond.fieldLink "WarByHours$Send" (1 : Nat) "WarByHours$Send" "this$0" "LWarByHours;") ∈ lw_all := lw_g (lw_at lw_m2 152 rfl) rfl
theorem q528 : (Jvm.Cond.laysFinal "WarByHours$Send" "WarByHours$Send" "this$0" "LWarByHours;") ∈ lw_all := lw_g (lw_at lw_m2 155 rfl) rfl
theorem q529 : (Jvm.Cond.soleField "WarByHours$Send" "this$0") ∈ lw_all := lw_g (lw_at lw_m2 156 rfl) rfl
theorem q530 : (Jvm.Cond.lays "WarByHours$Send" "WarByHours$Sets" "best" "I") ∈ lw_all := lw_g (lw_at lw_m2 157 rfl) rfl
theorem q532 : (Jvm.Cond.laysFinal "WarByHours$Send" "WarByHours$Sets" "this$0" "LWarByHours;") ∈ lw_all := lw_g (lw_at lw_m2 159 rfl) rfl
theorem q534 : (Jvm.Cond.superclass "WarByHours$Send" "WarByHours$Sets") ∈ lw_all := lw_g (lw_at lw_m2 161 rfl) rfl
theorem q623 : (Jvm.Cond.fieldLinkNest "WarByHours$Send" (13 : Nat) "WarByHours" "now" "LWarByHours$War;" "WarByHours") ∈ lw_tbl := lw_at lw_m3 10 rfl
theorem q969 : (Jvm.Cond.selects "WarByHours$Send" ({ cls := "java/lang/Object", name := "getClass", desc := "()Ljava/lang/Class;" } : Jvm.MethodName) ({ cls := "java/lang/Object", name := "getClass", desc := "()Ljava/lang/Class;" } : Jvm.MethodName)) ∈ lw_all := lw_g (lw_at lw_m4 116 rfl) rfl
theorem q1301 : (Jvm.Cond.sameMethod "WarByHours$Send" "WarByHours$Sets" "cost" "(I)I") ∈ lw_all := lw_g (lw_at lw_m5 208 rfl) rfl
theorem q1304 : (Jvm.Cond.selects "WarByHours$Send" ({ cls := "WarByHours$Send", name := "cost", desc := "(I)I" } : Jvm.MethodName) ({ cls := "WarByHours$Sets", name := "cost", desc := "(I)I" } : Jvm.MethodName)) ∈ lw_all := lw_g (lw_at lw_m5 211 rfl) rfl
theorem q1313 : (Jvm.Cond.selects "WarByHours$Send" ({ cls := "WarByHours$Sets", name := "seeks", desc := "(I)I" } : Jvm.MethodName) ({ cls := "WarByHours$Sets", name := "seeks", desc := "(I)I" } : Jvm.MethodName)) ∈ lw_all := lw_g (lw_at lw_m5 220 rfl) rfl
theorem q1326 : (Jvm.Cond.selects "WarByHours$Send" ({ cls := "WarByHours$Sets", name := "costOf", desc := "(I)I" } : Jvm.MethodName) ({ cls := "WarByHours$Sets", name := "costOf", desc := "(I)I" } : Jvm.MethodName)) ∈ lw_all := lw_g (lw_at lw_m5 233 rfl) rfl
theorem q1341 : (Jvm.Cond.instanceMethod ({ cls := "WarByHours$Send", name := "may", desc := "(II)Z" } : Jvm.MethodName)) ∈ lw_all := lw_g (lw_at lw_m6 8 rfl) rfl
theorem q1342 : (Jvm.Cond.code ({ cls := "WarByHours$Send", name := "may", desc := "(II)Z" } : Jvm.MethodName) prog_12_method_2_code (3 : Nat) (Option.some Jvm.ClassFile.FieldType.boolean)) ∈ lw_all := lw_g (lw_at lw_m6 9 rfl) rfl
theorem q1343 : (Jvm.Cond.methodLinkNest "WarByHours$Send" (25 : Nat) ({ cls := "WarByHours", name := "menOf", desc := "(IIII)I" } : Jvm.MethodName) "WarByHours") ∈ lw_tbl := lw_at lw_m6 10 rfl
theorem q1351 : (Jvm.Cond.selects "WarByHours$Send" ({ cls := "WarByHours$Sets", name := "may", desc := "(II)Z" } : Jvm.MethodName) ({ cls := "WarByHours$Send", name := "may", desc := "(II)Z" } : Jvm.MethodName)) ∈ lw_all := lw_g (lw_at lw_m6 18 rfl) rfl
theorem q1357 : (Jvm.Cond.sameMethod "WarByHours$Send" "WarByHours$Sets" "seeks" "(I)I") ∈ lw_all := lw_g (lw_at lw_m6 24 rfl) rfl
theorem q1360 : (Jvm.Cond.selects "WarByHours$Send" ({ cls := "WarByHours$Send", name := "seeks", desc := "(I)I" } : Jvm.MethodName) ({ cls := "WarByHours$Sets", name := "seeks", desc := "(I)I" } : Jvm.MethodName)) ∈ lw_all := lw_g (lw_at lw_m6 27 rfl) rfl
theorem q2590 : (Jvm.Cond.castable "WarByHours$Send" "java/lang/Object") ∈ lw_tbl := lw_at lw_m11 57 rfl
theorem in_X5 : ∀ w ∈ wsX50, w ∈ lw_all := lw_in wsX50 [530, 532, 528] (by decide +kernel) (by decide +kernel)

/-! WarByHours$Fewest -/
set_option maxRecDepth 100000
def RX6 : String := "WarByHours$Fewest"
def TX6 : u_T := fun k => match k with
  | 0 => ("WarByHours$Sets", "best", "I", false)
  | 1 => ("WarByHours$Sets", "this$0", "LWarByHours;", true)
  | 2 => ("WarByHours$Send", "this$0", "LWarByHours;", true)
  | _ => ("WarByHours$Fewest", "this$0", "LWarByHours;", true)
def tyX6 : Nat → FieldType := fun k => match k with
  | 0 => .int
  | 1 => .object "WarByHours"
  | 2 => .object "WarByHours"
  | _ => .object "WarByHours"
abbrev wsX60 : List Cond := u_ws RX6 TX6 4
-- two fields of one name: no nmX6
theorem tyX6_ok : ∀ k, k < 4 → parseFieldDescriptor (TX6 k).2.2.1 = some (tyX6 k) := by decide +kernel
abbrev cX6_init : ByteArray := prog_7_method_1_code
def yX6_init : MethodName := ⟨RX6, "<init>", "(LWarByHours;)V"⟩
def dkwX6_init_0 : List UInt8 := [42, 43, 181, 0, 1, 42, 43, 183, 0, 7, 177]
abbrev dktX6_init_0 : List UInt8 := dkwX6_init_0 ++ []
theorem dksX6_init_0 : cX6_init.data.toList.drop 0 = dktX6_init_0 := by decide +kernel
theorem dX6_init_0 : decode cX6_init 0 = .ok (.aload_n 0, 1) := dk_42 (dk_at dksX6_init_0 0 rfl rfl)
theorem dX6_init_1 : decode cX6_init 1 = .ok (.aload_n 1, 1) := dk_43 (dk_at dksX6_init_0 1 rfl rfl)
theorem dX6_init_2 : decode cX6_init 2 = .ok (.putfield 1, 3) := dk_181 0 1 (dk_at dksX6_init_0 2 rfl rfl)
theorem dX6_init_5 : decode cX6_init 5 = .ok (.aload_n 0, 1) := dk_42 (dk_at dksX6_init_0 5 rfl rfl)
theorem dX6_init_6 : decode cX6_init 6 = .ok (.aload_n 1, 1) := dk_43 (dk_at dksX6_init_0 6 rfl rfl)
theorem dX6_init_7 : decode cX6_init 7 = .ok (.invokespecial 7, 3) := dk_183 0 7 (dk_at dksX6_init_0 7 rfl rfl)
theorem dX6_init_10 : decode cX6_init 10 = .ok (.return_, 1) := dk_177 (dk_at dksX6_init_0 10 rfl rfl)
abbrev cX6_costOf : ByteArray := prog_7_method_2_code
def yX6_costOf : MethodName := ⟨RX6, "costOf", "(I)I"⟩
theorem dX6_costOf_0 : decode cX6_costOf 0 = .ok (.iload_n 1, 1) := by decide +kernel
theorem dX6_costOf_1 : decode cX6_costOf 1 = .ok (.invokestatic 13, 3) := by decide +kernel
theorem dX6_costOf_4 : decode cX6_costOf 4 = .ok (.ireturn, 1) := by decide +kernel
theorem q143 : (Jvm.Cond.initialized "WarByHours$Fewest") ∈ lw_all := lw_g (lw_at lw_m1 10 rfl) rfl
theorem q536 : (Jvm.Cond.instantiable "WarByHours$Fewest" (4 : Nat)) ∈ lw_all := lw_g (lw_at lw_m2 163 rfl) rfl
theorem q538 : (Jvm.Cond.instanceMethod ({ cls := "WarByHours$Fewest", name := "<init>", desc := "(LWarByHours;)V" } : Jvm.MethodName)) ∈ lw_all := lw_g (lw_at lw_m2 165 rfl) rfl
theorem q539 : (Jvm.Cond.code ({ cls := "WarByHours$Fewest", name := "<init>", desc := "(LWarByHours;)V" } : Jvm.MethodName) prog_7_method_1_code (2 : Nat) (Option.none : Option Jvm.ClassFile.FieldType)) ∈ lw_all := lw_g (lw_at lw_m2 166 rfl) rfl
theorem q540 : (Jvm.Cond.methodLinkNest "WarByHours$Fewest" (7 : Nat) ({ cls := "WarByHours$Send", name := "<init>", desc := "(LWarByHours;)V" } : Jvm.MethodName) "WarByHours") ∈ lw_tbl := lw_at lw_m2 167 rfl
theorem q541 : (Jvm.Cond.fieldLink "WarByHours$Fewest" (1 : Nat) "WarByHours$Fewest" "this$0" "LWarByHours;") ∈ lw_all := lw_g (lw_at lw_m2 168 rfl) rfl
theorem q542 : (Jvm.Cond.laysFinal "WarByHours$Fewest" "WarByHours$Fewest" "this$0" "LWarByHours;") ∈ lw_all := lw_g (lw_at lw_m2 169 rfl) rfl
theorem q543 : (Jvm.Cond.soleField "WarByHours$Fewest" "this$0") ∈ lw_all := lw_g (lw_at lw_m2 170 rfl) rfl
theorem q544 : (Jvm.Cond.laysFinal "WarByHours$Fewest" "WarByHours$Send" "this$0" "LWarByHours;") ∈ lw_all := lw_g (lw_at lw_m2 171 rfl) rfl
theorem q545 : (Jvm.Cond.lays "WarByHours$Fewest" "WarByHours$Sets" "best" "I") ∈ lw_all := lw_g (lw_at lw_m2 172 rfl) rfl
theorem q546 : (Jvm.Cond.laysFinal "WarByHours$Fewest" "WarByHours$Sets" "this$0" "LWarByHours;") ∈ lw_all := lw_g (lw_at lw_m2 173 rfl) rfl
theorem q547 : (Jvm.Cond.superclass "WarByHours$Fewest" "WarByHours$Send") ∈ lw_all := lw_g (lw_at lw_m2 174 rfl) rfl
theorem q964 : (Jvm.Cond.selects "WarByHours$Fewest" ({ cls := "java/lang/Object", name := "getClass", desc := "()Ljava/lang/Class;" } : Jvm.MethodName) ({ cls := "java/lang/Object", name := "getClass", desc := "()Ljava/lang/Class;" } : Jvm.MethodName)) ∈ lw_all := lw_g (lw_at lw_m4 111 rfl) rfl
theorem q1303 : (Jvm.Cond.selects "WarByHours$Fewest" ({ cls := "WarByHours$Send", name := "cost", desc := "(I)I" } : Jvm.MethodName) ({ cls := "WarByHours$Sets", name := "cost", desc := "(I)I" } : Jvm.MethodName)) ∈ lw_all := lw_g (lw_at lw_m5 210 rfl) rfl
theorem q1311 : (Jvm.Cond.selects "WarByHours$Fewest" ({ cls := "WarByHours$Sets", name := "seeks", desc := "(I)I" } : Jvm.MethodName) ({ cls := "WarByHours$Sets", name := "seeks", desc := "(I)I" } : Jvm.MethodName)) ∈ lw_all := lw_g (lw_at lw_m5 218 rfl) rfl
theorem q1321 : (Jvm.Cond.selects "WarByHours$Fewest" ({ cls := "WarByHours$Sets", name := "costOf", desc := "(I)I" } : Jvm.MethodName) ({ cls := "WarByHours$Fewest", name := "costOf", desc := "(I)I" } : Jvm.MethodName)) ∈ lw_all := lw_g (lw_at lw_m5 228 rfl) rfl
theorem q1322 : (Jvm.Cond.instanceMethod ({ cls := "WarByHours$Fewest", name := "costOf", desc := "(I)I" } : Jvm.MethodName)) ∈ lw_all := lw_g (lw_at lw_m5 229 rfl) rfl
theorem q1323 : (Jvm.Cond.code ({ cls := "WarByHours$Fewest", name := "costOf", desc := "(I)I" } : Jvm.MethodName) prog_7_method_2_code (2 : Nat) (Option.some Jvm.ClassFile.FieldType.int)) ∈ lw_all := lw_g (lw_at lw_m5 230 rfl) rfl
theorem q1324 : (Jvm.Cond.methodLinkNest "WarByHours$Fewest" (13 : Nat) ({ cls := "WarByHours", name := "size", desc := "(I)I" } : Jvm.MethodName) "WarByHours") ∈ lw_tbl := lw_at lw_m5 231 rfl
theorem q1340 : (Jvm.Cond.selects "WarByHours$Fewest" ({ cls := "WarByHours$Sets", name := "may", desc := "(II)Z" } : Jvm.MethodName) ({ cls := "WarByHours$Send", name := "may", desc := "(II)Z" } : Jvm.MethodName)) ∈ lw_all := lw_g (lw_at lw_m6 7 rfl) rfl
theorem q1359 : (Jvm.Cond.selects "WarByHours$Fewest" ({ cls := "WarByHours$Send", name := "seeks", desc := "(I)I" } : Jvm.MethodName) ({ cls := "WarByHours$Sets", name := "seeks", desc := "(I)I" } : Jvm.MethodName)) ∈ lw_all := lw_g (lw_at lw_m6 26 rfl) rfl
theorem q1366 : (Jvm.Cond.sameMethod "WarByHours$Fewest" "WarByHours$Sets" "cost" "(I)I") ∈ lw_all := lw_g (lw_at lw_m6 33 rfl) rfl
theorem q1367 : (Jvm.Cond.selects "WarByHours$Fewest" ({ cls := "WarByHours$Fewest", name := "cost", desc := "(I)I" } : Jvm.MethodName) ({ cls := "WarByHours$Sets", name := "cost", desc := "(I)I" } : Jvm.MethodName)) ∈ lw_all := lw_g (lw_at lw_m6 34 rfl) rfl
theorem q2591 : (Jvm.Cond.castable "WarByHours$Fewest" "java/lang/Object") ∈ lw_tbl := lw_at lw_m11 58 rfl
theorem in_X6 : ∀ w ∈ wsX60, w ∈ lw_all := lw_in wsX60 [545, 546, 544, 542] (by decide +kernel) (by decide +kernel)

/-! WarByHours$Risk -/
set_option maxRecDepth 100000
def RX7 : String := "WarByHours$Risk"
def TX7 : u_T := fun k => match k with
  | 0 => ("WarByHours$Sets", "best", "I", false)
  | 1 => ("WarByHours$Sets", "this$0", "LWarByHours;", true)
  | 2 => ("WarByHours$Risk", "odds", "I", false)
  | _ => ("WarByHours$Risk", "this$0", "LWarByHours;", true)
def tyX7 : Nat → FieldType := fun k => match k with
  | 0 => .int
  | 1 => .object "WarByHours"
  | 2 => .int
  | _ => .object "WarByHours"
abbrev wsX70 : List Cond := u_ws RX7 TX7 4
-- two fields of one name: no nmX7
theorem tyX7_ok : ∀ k, k < 4 → parseFieldDescriptor (TX7 k).2.2.1 = some (tyX7 k) := by decide +kernel
abbrev cX7_init : ByteArray := prog_11_method_1_code
def yX7_init : MethodName := ⟨RX7, "<init>", "(LWarByHours;)V"⟩
def dkwX7_init_0 : List UInt8 := [42, 43, 181, 0, 3, 42, 43, 183, 0, 9, 177]
abbrev dktX7_init_0 : List UInt8 := dkwX7_init_0 ++ []
theorem dksX7_init_0 : cX7_init.data.toList.drop 0 = dktX7_init_0 := by decide +kernel
theorem dX7_init_0 : decode cX7_init 0 = .ok (.aload_n 0, 1) := dk_42 (dk_at dksX7_init_0 0 rfl rfl)
theorem dX7_init_1 : decode cX7_init 1 = .ok (.aload_n 1, 1) := dk_43 (dk_at dksX7_init_0 1 rfl rfl)
theorem dX7_init_2 : decode cX7_init 2 = .ok (.putfield 3, 3) := dk_181 0 3 (dk_at dksX7_init_0 2 rfl rfl)
theorem dX7_init_5 : decode cX7_init 5 = .ok (.aload_n 0, 1) := dk_42 (dk_at dksX7_init_0 5 rfl rfl)
theorem dX7_init_6 : decode cX7_init 6 = .ok (.aload_n 1, 1) := dk_43 (dk_at dksX7_init_0 6 rfl rfl)
theorem dX7_init_7 : decode cX7_init 7 = .ok (.invokespecial 9, 3) := dk_183 0 9 (dk_at dksX7_init_0 7 rfl rfl)
theorem dX7_init_10 : decode cX7_init 10 = .ok (.return_, 1) := dk_177 (dk_at dksX7_init_0 10 rfl rfl)
abbrev cX7_may : ByteArray := prog_11_method_3_code
def yX7_may : MethodName := ⟨RX7, "may", "(II)Z"⟩
def dkwX7_may_2 : List UInt8 := [184, 0, 29, 105, 148, 155, 0, 7, 4, 167, 0, 4, 3, 172]
abbrev dktX7_may_2 : List UInt8 := dkwX7_may_2 ++ []
def dkwX7_may_1 : List UInt8 := [148, 155, 0, 7, 4, 167, 0, 32, 3, 167, 0, 28, 33, 42, 180, 0, 15, 133, 28, 184, 0, 25, 4, 100]
abbrev dktX7_may_1 : List UInt8 := dkwX7_may_1 ++ dktX7_may_2
def dkwX7_may_0 : List UInt8 := [42, 180, 0, 3, 27, 28, 182, 0, 19, 66, 28, 154, 0, 25, 33, 20, 0, 23, 105, 42, 180, 0, 15, 133]
abbrev dktX7_may_0 : List UInt8 := dkwX7_may_0 ++ dktX7_may_1
theorem dksX7_may_0 : cX7_may.data.toList.drop 0 = dktX7_may_0 := by decide +kernel
theorem dksX7_may_1 : cX7_may.data.toList.drop 24 = dktX7_may_1 := dk_seg dksX7_may_0 24 rfl rfl
theorem dksX7_may_2 : cX7_may.data.toList.drop 48 = dktX7_may_2 := dk_seg dksX7_may_1 24 rfl rfl
theorem dX7_may_0 : decode cX7_may 0 = .ok (.aload_n 0, 1) := dk_42 (dk_at dksX7_may_0 0 rfl rfl)
theorem dX7_may_1 : decode cX7_may 1 = .ok (.getfield 3, 3) := dk_180 0 3 (dk_at dksX7_may_0 1 rfl rfl)
theorem dX7_may_4 : decode cX7_may 4 = .ok (.iload_n 1, 1) := dk_27 (dk_at dksX7_may_0 4 rfl rfl)
theorem dX7_may_5 : decode cX7_may 5 = .ok (.iload_n 2, 1) := dk_28 (dk_at dksX7_may_0 5 rfl rfl)
theorem dX7_may_6 : decode cX7_may 6 = .ok (.invokevirtual 19, 3) := dk_182 0 19 (dk_at dksX7_may_0 6 rfl rfl)
theorem dX7_may_9 : decode cX7_may 9 = .ok (.lstore_n 3, 1) := dk_66 (dk_at dksX7_may_0 9 rfl rfl)
theorem dX7_may_10 : decode cX7_may 10 = .ok (.iload_n 2, 1) := dk_28 (dk_at dksX7_may_0 10 rfl rfl)
theorem dX7_may_11 : decode cX7_may 11 = .ok (.ifCond .ne 25, 3) := dk_154 0 25 (dk_at dksX7_may_0 11 rfl rfl)
theorem dX7_may_14 : decode cX7_may 14 = .ok (.lload_n 3, 1) := dk_33 (dk_at dksX7_may_0 14 rfl rfl)
theorem dX7_may_15 : decode cX7_may 15 = .ok (.ldc2_w 23, 3) := dk_20 0 23 (dk_at dksX7_may_0 15 rfl rfl)
theorem dX7_may_18 : decode cX7_may 18 = .ok (.lmul, 1) := dk_105 (dk_at dksX7_may_0 18 rfl rfl)
theorem dX7_may_19 : decode cX7_may 19 = .ok (.aload_n 0, 1) := dk_42 (dk_at dksX7_may_0 19 rfl rfl)
theorem dX7_may_20 : decode cX7_may 20 = .ok (.getfield 15, 3) := dk_180 0 15 (dk_at dksX7_may_0 20 rfl rfl)
theorem dX7_may_23 : decode cX7_may 23 = .ok (.i2l, 1) := dk_133 (dk_at dksX7_may_0 23 rfl rfl)
theorem dX7_may_24 : decode cX7_may 24 = .ok (.lcmp, 1) := dk_148 (dk_at dksX7_may_1 0 rfl rfl)
theorem dX7_may_25 : decode cX7_may 25 = .ok (.ifCond .lt 7, 3) := dk_155 0 7 (dk_at dksX7_may_1 1 rfl rfl)
theorem dX7_may_28 : decode cX7_may 28 = .ok (.iconst 1, 1) := dk_4 (dk_at dksX7_may_1 4 rfl rfl)
theorem dX7_may_29 : decode cX7_may 29 = .ok (.goto 32, 3) := dk_167 0 32 (dk_at dksX7_may_1 5 rfl rfl)
theorem dX7_may_32 : decode cX7_may 32 = .ok (.iconst 0, 1) := dk_3 (dk_at dksX7_may_1 8 rfl rfl)
theorem dX7_may_33 : decode cX7_may 33 = .ok (.goto 28, 3) := dk_167 0 28 (dk_at dksX7_may_1 9 rfl rfl)
theorem dX7_may_36 : decode cX7_may 36 = .ok (.lload_n 3, 1) := dk_33 (dk_at dksX7_may_1 12 rfl rfl)
theorem dX7_may_37 : decode cX7_may 37 = .ok (.aload_n 0, 1) := dk_42 (dk_at dksX7_may_1 13 rfl rfl)
theorem dX7_may_38 : decode cX7_may 38 = .ok (.getfield 15, 3) := dk_180 0 15 (dk_at dksX7_may_1 14 rfl rfl)
theorem dX7_may_41 : decode cX7_may 41 = .ok (.i2l, 1) := dk_133 (dk_at dksX7_may_1 17 rfl rfl)
theorem dX7_may_42 : decode cX7_may 42 = .ok (.iload_n 2, 1) := dk_28 (dk_at dksX7_may_1 18 rfl rfl)
theorem dX7_may_43 : decode cX7_may 43 = .ok (.invokestatic 25, 3) := dk_184 0 25 (dk_at dksX7_may_1 19 rfl rfl)
theorem dX7_may_46 : decode cX7_may 46 = .ok (.iconst 1, 1) := dk_4 (dk_at dksX7_may_1 22 rfl rfl)
theorem dX7_may_47 : decode cX7_may 47 = .ok (.isub, 1) := dk_100 (dk_at dksX7_may_1 23 rfl rfl)
theorem dX7_may_48 : decode cX7_may 48 = .ok (.invokestatic 29, 3) := dk_184 0 29 (dk_at dksX7_may_2 0 rfl rfl)
theorem dX7_may_51 : decode cX7_may 51 = .ok (.lmul, 1) := dk_105 (dk_at dksX7_may_2 3 rfl rfl)
theorem dX7_may_52 : decode cX7_may 52 = .ok (.lcmp, 1) := dk_148 (dk_at dksX7_may_2 4 rfl rfl)
theorem dX7_may_53 : decode cX7_may 53 = .ok (.ifCond .lt 7, 3) := dk_155 0 7 (dk_at dksX7_may_2 5 rfl rfl)
theorem dX7_may_56 : decode cX7_may 56 = .ok (.iconst 1, 1) := dk_4 (dk_at dksX7_may_2 8 rfl rfl)
theorem dX7_may_57 : decode cX7_may 57 = .ok (.goto 4, 3) := dk_167 0 4 (dk_at dksX7_may_2 9 rfl rfl)
theorem dX7_may_60 : decode cX7_may 60 = .ok (.iconst 0, 1) := dk_3 (dk_at dksX7_may_2 12 rfl rfl)
theorem dX7_may_61 : decode cX7_may 61 = .ok (.ireturn, 1) := dk_172 (dk_at dksX7_may_2 13 rfl rfl)
abbrev cX7_of : ByteArray := prog_11_method_2_code
def yX7_of : MethodName := ⟨RX7, "of", "(I)LWarByHours$Risk;"⟩
def dkwX7_of_0 : List UInt8 := [42, 27, 181, 0, 15, 42, 176]
abbrev dktX7_of_0 : List UInt8 := dkwX7_of_0 ++ []
theorem dksX7_of_0 : cX7_of.data.toList.drop 0 = dktX7_of_0 := by decide +kernel
theorem dX7_of_0 : decode cX7_of 0 = .ok (.aload_n 0, 1) := dk_42 (dk_at dksX7_of_0 0 rfl rfl)
theorem dX7_of_1 : decode cX7_of 1 = .ok (.iload_n 1, 1) := dk_27 (dk_at dksX7_of_0 1 rfl rfl)
theorem dX7_of_2 : decode cX7_of 2 = .ok (.putfield 15, 3) := dk_181 0 15 (dk_at dksX7_of_0 2 rfl rfl)
theorem dX7_of_5 : decode cX7_of 5 = .ok (.aload_n 0, 1) := dk_42 (dk_at dksX7_of_0 5 rfl rfl)
theorem dX7_of_6 : decode cX7_of 6 = .ok (.areturn, 1) := dk_176 (dk_at dksX7_of_0 6 rfl rfl)
theorem q144 : (Jvm.Cond.initialized "WarByHours$Risk") ∈ lw_all := lw_g (lw_at lw_m1 11 rfl) rfl
theorem q549 : (Jvm.Cond.instantiable "WarByHours$Risk" (4 : Nat)) ∈ lw_all := lw_g (lw_at lw_m2 176 rfl) rfl
theorem q551 : (Jvm.Cond.instanceMethod ({ cls := "WarByHours$Risk", name := "<init>", desc := "(LWarByHours;)V" } : Jvm.MethodName)) ∈ lw_all := lw_g (lw_at lw_m2 178 rfl) rfl
theorem q552 : (Jvm.Cond.code ({ cls := "WarByHours$Risk", name := "<init>", desc := "(LWarByHours;)V" } : Jvm.MethodName) prog_11_method_1_code (2 : Nat) (Option.none : Option Jvm.ClassFile.FieldType)) ∈ lw_all := lw_g (lw_at lw_m2 179 rfl) rfl
theorem q553 : (Jvm.Cond.methodLinkNest "WarByHours$Risk" (9 : Nat) ({ cls := "WarByHours$Sets", name := "<init>", desc := "(LWarByHours;)V" } : Jvm.MethodName) "WarByHours") ∈ lw_tbl := lw_at lw_m2 180 rfl
theorem q554 : (Jvm.Cond.fieldLink "WarByHours$Risk" (15 : Nat) "WarByHours$Risk" "odds" "I") ∈ lw_all := lw_g (lw_at lw_m2 181 rfl) rfl
theorem q555 : (Jvm.Cond.fieldLink "WarByHours$Risk" (3 : Nat) "WarByHours$Risk" "this$0" "LWarByHours;") ∈ lw_all := lw_g (lw_at lw_m2 182 rfl) rfl
theorem q556 : (Jvm.Cond.lays "WarByHours$Risk" "WarByHours$Risk" "odds" "I") ∈ lw_all := lw_g (lw_at lw_m2 183 rfl) rfl
theorem q557 : (Jvm.Cond.soleField "WarByHours$Risk" "odds") ∈ lw_all := lw_g (lw_at lw_m2 184 rfl) rfl
theorem q558 : (Jvm.Cond.laysFinal "WarByHours$Risk" "WarByHours$Risk" "this$0" "LWarByHours;") ∈ lw_all := lw_g (lw_at lw_m2 185 rfl) rfl
theorem q559 : (Jvm.Cond.soleField "WarByHours$Risk" "this$0") ∈ lw_all := lw_g (lw_at lw_m2 186 rfl) rfl
theorem q560 : (Jvm.Cond.lays "WarByHours$Risk" "WarByHours$Sets" "best" "I") ∈ lw_all := lw_g (lw_at lw_m2 187 rfl) rfl
theorem q561 : (Jvm.Cond.laysFinal "WarByHours$Risk" "WarByHours$Sets" "this$0" "LWarByHours;") ∈ lw_all := lw_g (lw_at lw_m2 188 rfl) rfl
theorem q562 : (Jvm.Cond.superclass "WarByHours$Risk" "WarByHours$Sets") ∈ lw_all := lw_g (lw_at lw_m2 189 rfl) rfl
theorem q968 : (Jvm.Cond.selects "WarByHours$Risk" ({ cls := "java/lang/Object", name := "getClass", desc := "()Ljava/lang/Class;" } : Jvm.MethodName) ({ cls := "java/lang/Object", name := "getClass", desc := "()Ljava/lang/Class;" } : Jvm.MethodName)) ∈ lw_all := lw_g (lw_at lw_m4 115 rfl) rfl
theorem q1312 : (Jvm.Cond.selects "WarByHours$Risk" ({ cls := "WarByHours$Sets", name := "seeks", desc := "(I)I" } : Jvm.MethodName) ({ cls := "WarByHours$Sets", name := "seeks", desc := "(I)I" } : Jvm.MethodName)) ∈ lw_all := lw_g (lw_at lw_m5 219 rfl) rfl
theorem q1325 : (Jvm.Cond.selects "WarByHours$Risk" ({ cls := "WarByHours$Sets", name := "costOf", desc := "(I)I" } : Jvm.MethodName) ({ cls := "WarByHours$Sets", name := "costOf", desc := "(I)I" } : Jvm.MethodName)) ∈ lw_all := lw_g (lw_at lw_m5 232 rfl) rfl
theorem q1344 : (Jvm.Cond.selects "WarByHours$Risk" ({ cls := "WarByHours$Sets", name := "may", desc := "(II)Z" } : Jvm.MethodName) ({ cls := "WarByHours$Risk", name := "may", desc := "(II)Z" } : Jvm.MethodName)) ∈ lw_all := lw_g (lw_at lw_m6 11 rfl) rfl
theorem q1345 : (Jvm.Cond.instanceMethod ({ cls := "WarByHours$Risk", name := "may", desc := "(II)Z" } : Jvm.MethodName)) ∈ lw_all := lw_g (lw_at lw_m6 12 rfl) rfl
theorem q1346 : (Jvm.Cond.code ({ cls := "WarByHours$Risk", name := "may", desc := "(II)Z" } : Jvm.MethodName) prog_11_method_3_code (5 : Nat) (Option.some Jvm.ClassFile.FieldType.boolean)) ∈ lw_all := lw_g (lw_at lw_m6 13 rfl) rfl
theorem q1347 : (Jvm.Cond.methodLinkNest "WarByHours$Risk" (19 : Nat) ({ cls := "WarByHours", name := "enoughOf", desc := "(II)J" } : Jvm.MethodName) "WarByHours") ∈ lw_tbl := lw_at lw_m6 14 rfl
theorem q1348 : (Jvm.Cond.constantLong "WarByHours$Risk" (23 : Nat) (100 : Int64)) ∈ lw_all := lw_g (lw_at lw_m6 15 rfl) rfl
theorem q1349 : (Jvm.Cond.methodLinkNest "WarByHours$Risk" (25 : Nat) ({ cls := "WarByHours", name := "size", desc := "(I)I" } : Jvm.MethodName) "WarByHours") ∈ lw_tbl := lw_at lw_m6 16 rfl
theorem q1350 : (Jvm.Cond.methodLinkNest "WarByHours$Risk" (29 : Nat) ({ cls := "WarByHours", name := "power", desc := "(I)J" } : Jvm.MethodName) "WarByHours") ∈ lw_tbl := lw_at lw_m6 17 rfl
theorem q1377 : (Jvm.Cond.instanceMethod ({ cls := "WarByHours$Risk", name := "of", desc := "(I)LWarByHours$Risk;" } : Jvm.MethodName)) ∈ lw_all := lw_g (lw_at lw_m6 44 rfl) rfl
theorem q1378 : (Jvm.Cond.selects "WarByHours$Risk" ({ cls := "WarByHours$Risk", name := "of", desc := "(I)LWarByHours$Risk;" } : Jvm.MethodName) ({ cls := "WarByHours$Risk", name := "of", desc := "(I)LWarByHours$Risk;" } : Jvm.MethodName)) ∈ lw_all := lw_g (lw_at lw_m6 45 rfl) rfl
theorem q1379 : (Jvm.Cond.code ({ cls := "WarByHours$Risk", name := "of", desc := "(I)LWarByHours$Risk;" } : Jvm.MethodName) prog_11_method_2_code (2 : Nat) (Option.some (Jvm.ClassFile.FieldType.object "WarByHours$Risk"))) ∈ lw_all := lw_g (lw_at lw_m6 46 rfl) rfl
theorem q1381 : (Jvm.Cond.sameMethod "WarByHours$Risk" "WarByHours$Sets" "cost" "(I)I") ∈ lw_all := lw_g (lw_at lw_m6 48 rfl) rfl
theorem q1382 : (Jvm.Cond.selects "WarByHours$Risk" ({ cls := "WarByHours$Risk", name := "cost", desc := "(I)I" } : Jvm.MethodName) ({ cls := "WarByHours$Sets", name := "cost", desc := "(I)I" } : Jvm.MethodName)) ∈ lw_all := lw_g (lw_at lw_m6 49 rfl) rfl
theorem q1388 : (Jvm.Cond.sameMethod "WarByHours$Risk" "WarByHours$Sets" "seeks" "(I)I") ∈ lw_all := lw_g (lw_at lw_m6 55 rfl) rfl
theorem q1389 : (Jvm.Cond.selects "WarByHours$Risk" ({ cls := "WarByHours$Risk", name := "seeks", desc := "(I)I" } : Jvm.MethodName) ({ cls := "WarByHours$Sets", name := "seeks", desc := "(I)I" } : Jvm.MethodName)) ∈ lw_all := lw_g (lw_at lw_m6 56 rfl) rfl
theorem q2592 : (Jvm.Cond.castable "WarByHours$Risk" "java/lang/Object") ∈ lw_tbl := lw_at lw_m11 59 rfl
theorem in_X7 : ∀ w ∈ wsX70, w ∈ lw_all := lw_in wsX70 [560, 561, 556, 558] (by decide +kernel) (by decide +kernel)

/-! WarByHours$Bribe -/
set_option maxRecDepth 100000
def RX8 : String := "WarByHours$Bribe"
def TX8 : u_T := fun k => match k with
  | 0 => ("WarByHours$Sets", "best", "I", false)
  | 1 => ("WarByHours$Sets", "this$0", "LWarByHours;", true)
  | 2 => ("WarByHours$Bribe", "keeps", "I", false)
  | _ => ("WarByHours$Bribe", "this$0", "LWarByHours;", true)
def tyX8 : Nat → FieldType := fun k => match k with
  | 0 => .int
  | 1 => .object "WarByHours"
  | 2 => .int
  | _ => .object "WarByHours"
abbrev wsX80 : List Cond := u_ws RX8 TX8 4
-- two fields of one name: no nmX8
theorem tyX8_ok : ∀ k, k < 4 → parseFieldDescriptor (TX8 k).2.2.1 = some (tyX8 k) := by decide +kernel
abbrev cX8_init : ByteArray := prog_3_method_1_code
def yX8_init : MethodName := ⟨RX8, "<init>", "(LWarByHours;)V"⟩
def dkwX8_init_0 : List UInt8 := [42, 43, 181, 0, 3, 42, 43, 183, 0, 9, 42, 2, 181, 0, 15, 177]
abbrev dktX8_init_0 : List UInt8 := dkwX8_init_0 ++ []
theorem dksX8_init_0 : cX8_init.data.toList.drop 0 = dktX8_init_0 := by decide +kernel
theorem dX8_init_0 : decode cX8_init 0 = .ok (.aload_n 0, 1) := dk_42 (dk_at dksX8_init_0 0 rfl rfl)
theorem dX8_init_1 : decode cX8_init 1 = .ok (.aload_n 1, 1) := dk_43 (dk_at dksX8_init_0 1 rfl rfl)
theorem dX8_init_2 : decode cX8_init 2 = .ok (.putfield 3, 3) := dk_181 0 3 (dk_at dksX8_init_0 2 rfl rfl)
theorem dX8_init_5 : decode cX8_init 5 = .ok (.aload_n 0, 1) := dk_42 (dk_at dksX8_init_0 5 rfl rfl)
theorem dX8_init_6 : decode cX8_init 6 = .ok (.aload_n 1, 1) := dk_43 (dk_at dksX8_init_0 6 rfl rfl)
theorem dX8_init_7 : decode cX8_init 7 = .ok (.invokespecial 9, 3) := dk_183 0 9 (dk_at dksX8_init_0 7 rfl rfl)
theorem dX8_init_10 : decode cX8_init 10 = .ok (.aload_n 0, 1) := dk_42 (dk_at dksX8_init_0 10 rfl rfl)
theorem dX8_init_11 : decode cX8_init 11 = .ok (.iconst (-1), 1) := dk_2 (dk_at dksX8_init_0 11 rfl rfl)
theorem dX8_init_12 : decode cX8_init 12 = .ok (.putfield 15, 3) := dk_181 0 15 (dk_at dksX8_init_0 12 rfl rfl)
theorem dX8_init_15 : decode cX8_init 15 = .ok (.return_, 1) := dk_177 (dk_at dksX8_init_0 15 rfl rfl)
abbrev cX8_may : ByteArray := prog_3_method_3_code
def yX8_may : MethodName := ⟨RX8, "may", "(II)Z"⟩
def dkwX8_may_2 : List UInt8 := [27, 46, 162, 0, 7, 4, 167, 0, 4, 3, 172]
abbrev dktX8_may_2 : List UInt8 := dkwX8_may_2 ++ []
def dkwX8_may_1 : List UInt8 := [42, 180, 0, 3, 180, 0, 23, 180, 0, 27, 28, 182, 0, 32, 42, 180, 0, 3, 180, 0, 23, 180, 0, 36]
abbrev dktX8_may_1 : List UInt8 := dkwX8_may_1 ++ dktX8_may_2
def dkwX8_may_0 : List UInt8 := [42, 180, 0, 15, 2, 159, 0, 14, 28, 42, 180, 0, 15, 184, 0, 19, 154, 0, 41, 42, 180, 0, 3, 27]
abbrev dktX8_may_0 : List UInt8 := dkwX8_may_0 ++ dktX8_may_1
theorem dksX8_may_0 : cX8_may.data.toList.drop 0 = dktX8_may_0 := by decide +kernel
theorem dksX8_may_1 : cX8_may.data.toList.drop 24 = dktX8_may_1 := dk_seg dksX8_may_0 24 rfl rfl
theorem dksX8_may_2 : cX8_may.data.toList.drop 48 = dktX8_may_2 := dk_seg dksX8_may_1 24 rfl rfl
theorem dX8_may_0 : decode cX8_may 0 = .ok (.aload_n 0, 1) := dk_42 (dk_at dksX8_may_0 0 rfl rfl)
theorem dX8_may_1 : decode cX8_may 1 = .ok (.getfield 15, 3) := dk_180 0 15 (dk_at dksX8_may_0 1 rfl rfl)
theorem dX8_may_4 : decode cX8_may 4 = .ok (.iconst (-1), 1) := dk_2 (dk_at dksX8_may_0 4 rfl rfl)
theorem dX8_may_5 : decode cX8_may 5 = .ok (.if_icmp .eq 14, 3) := dk_159 0 14 (dk_at dksX8_may_0 5 rfl rfl)
theorem dX8_may_8 : decode cX8_may 8 = .ok (.iload_n 2, 1) := dk_28 (dk_at dksX8_may_0 8 rfl rfl)
theorem dX8_may_9 : decode cX8_may 9 = .ok (.aload_n 0, 1) := dk_42 (dk_at dksX8_may_0 9 rfl rfl)
theorem dX8_may_10 : decode cX8_may 10 = .ok (.getfield 15, 3) := dk_180 0 15 (dk_at dksX8_may_0 10 rfl rfl)
theorem dX8_may_13 : decode cX8_may 13 = .ok (.invokestatic 19, 3) := dk_184 0 19 (dk_at dksX8_may_0 13 rfl rfl)
theorem dX8_may_16 : decode cX8_may 16 = .ok (.ifCond .ne 41, 3) := dk_154 0 41 (dk_at dksX8_may_0 16 rfl rfl)
theorem dX8_may_19 : decode cX8_may 19 = .ok (.aload_n 0, 1) := dk_42 (dk_at dksX8_may_0 19 rfl rfl)
theorem dX8_may_20 : decode cX8_may 20 = .ok (.getfield 3, 3) := dk_180 0 3 (dk_at dksX8_may_0 20 rfl rfl)
theorem dX8_may_23 : decode cX8_may 23 = .ok (.iload_n 1, 1) := dk_27 (dk_at dksX8_may_0 23 rfl rfl)
theorem dX8_may_24 : decode cX8_may 24 = .ok (.aload_n 0, 1) := dk_42 (dk_at dksX8_may_1 0 rfl rfl)
theorem dX8_may_25 : decode cX8_may 25 = .ok (.getfield 3, 3) := dk_180 0 3 (dk_at dksX8_may_1 1 rfl rfl)
theorem dX8_may_28 : decode cX8_may 28 = .ok (.getfield 23, 3) := dk_180 0 23 (dk_at dksX8_may_1 4 rfl rfl)
theorem dX8_may_31 : decode cX8_may 31 = .ok (.getfield 27, 3) := dk_180 0 27 (dk_at dksX8_may_1 7 rfl rfl)
theorem dX8_may_34 : decode cX8_may 34 = .ok (.iload_n 2, 1) := dk_28 (dk_at dksX8_may_1 10 rfl rfl)
theorem dX8_may_35 : decode cX8_may 35 = .ok (.invokevirtual 32, 3) := dk_182 0 32 (dk_at dksX8_may_1 11 rfl rfl)
theorem dX8_may_38 : decode cX8_may 38 = .ok (.aload_n 0, 1) := dk_42 (dk_at dksX8_may_1 14 rfl rfl)
theorem dX8_may_39 : decode cX8_may 39 = .ok (.getfield 3, 3) := dk_180 0 3 (dk_at dksX8_may_1 15 rfl rfl)
theorem dX8_may_42 : decode cX8_may 42 = .ok (.getfield 23, 3) := dk_180 0 23 (dk_at dksX8_may_1 18 rfl rfl)
theorem dX8_may_45 : decode cX8_may 45 = .ok (.getfield 36, 3) := dk_180 0 36 (dk_at dksX8_may_1 21 rfl rfl)
theorem dX8_may_48 : decode cX8_may 48 = .ok (.iload_n 1, 1) := dk_27 (dk_at dksX8_may_2 0 rfl rfl)
theorem dX8_may_49 : decode cX8_may 49 = .ok (.iaload, 1) := dk_46 (dk_at dksX8_may_2 1 rfl rfl)
theorem dX8_may_50 : decode cX8_may 50 = .ok (.if_icmp .ge 7, 3) := dk_162 0 7 (dk_at dksX8_may_2 2 rfl rfl)
theorem dX8_may_53 : decode cX8_may 53 = .ok (.iconst 1, 1) := dk_4 (dk_at dksX8_may_2 5 rfl rfl)
theorem dX8_may_54 : decode cX8_may 54 = .ok (.goto 4, 3) := dk_167 0 4 (dk_at dksX8_may_2 6 rfl rfl)
theorem dX8_may_57 : decode cX8_may 57 = .ok (.iconst 0, 1) := dk_3 (dk_at dksX8_may_2 9 rfl rfl)
theorem dX8_may_58 : decode cX8_may 58 = .ok (.ireturn, 1) := dk_172 (dk_at dksX8_may_2 10 rfl rfl)
abbrev cX8_but : ByteArray := prog_3_method_2_code
def yX8_but : MethodName := ⟨RX8, "but", "(I)LWarByHours$Bribe;"⟩
def dkwX8_but_0 : List UInt8 := [42, 27, 181, 0, 15, 42, 176]
abbrev dktX8_but_0 : List UInt8 := dkwX8_but_0 ++ []
theorem dksX8_but_0 : cX8_but.data.toList.drop 0 = dktX8_but_0 := by decide +kernel
theorem dX8_but_0 : decode cX8_but 0 = .ok (.aload_n 0, 1) := dk_42 (dk_at dksX8_but_0 0 rfl rfl)
theorem dX8_but_1 : decode cX8_but 1 = .ok (.iload_n 1, 1) := dk_27 (dk_at dksX8_but_0 1 rfl rfl)
theorem dX8_but_2 : decode cX8_but 2 = .ok (.putfield 15, 3) := dk_181 0 15 (dk_at dksX8_but_0 2 rfl rfl)
theorem dX8_but_5 : decode cX8_but 5 = .ok (.aload_n 0, 1) := dk_42 (dk_at dksX8_but_0 5 rfl rfl)
theorem dX8_but_6 : decode cX8_but 6 = .ok (.areturn, 1) := dk_176 (dk_at dksX8_but_0 6 rfl rfl)
theorem q145 : (Jvm.Cond.initialized "WarByHours$Bribe") ∈ lw_all := lw_g (lw_at lw_m1 12 rfl) rfl
theorem q455 : (Jvm.Cond.fieldLinkNest "WarByHours$Bribe" (36 : Nat) "WarByHours$War" "needs" "[I" "WarByHours") ∈ lw_tbl := lw_at lw_m2 82 rfl
theorem q463 : (Jvm.Cond.fieldLinkNest "WarByHours$Bribe" (27 : Nat) "WarByHours$War" "late" "I" "WarByHours") ∈ lw_tbl := lw_at lw_m2 90 rfl
theorem q564 : (Jvm.Cond.instantiable "WarByHours$Bribe" (4 : Nat)) ∈ lw_all := lw_g (lw_at lw_m2 191 rfl) rfl
theorem q566 : (Jvm.Cond.instanceMethod ({ cls := "WarByHours$Bribe", name := "<init>", desc := "(LWarByHours;)V" } : Jvm.MethodName)) ∈ lw_all := lw_g (lw_at lw_m2 193 rfl) rfl
theorem q567 : (Jvm.Cond.code ({ cls := "WarByHours$Bribe", name := "<init>", desc := "(LWarByHours;)V" } : Jvm.MethodName) prog_3_method_1_code (2 : Nat) (Option.none : Option Jvm.ClassFile.FieldType)) ∈ lw_all := lw_g (lw_at lw_m2 194 rfl) rfl
theorem q568 : (Jvm.Cond.methodLinkNest "WarByHours$Bribe" (9 : Nat) ({ cls := "WarByHours$Sets", name := "<init>", desc := "(LWarByHours;)V" } : Jvm.MethodName) "WarByHours") ∈ lw_tbl := lw_at lw_m2 195 rfl
theorem q569 : (Jvm.Cond.fieldLink "WarByHours$Bribe" (15 : Nat) "WarByHours$Bribe" "keeps" "I") ∈ lw_all := lw_g (lw_at lw_m2 196 rfl) rfl
theorem q570 : (Jvm.Cond.fieldLink "WarByHours$Bribe" (3 : Nat) "WarByHours$Bribe" "this$0" "LWarByHours;") ∈ lw_all := lw_g (lw_at lw_m2 197 rfl) rfl
theorem q571 : (Jvm.Cond.lays "WarByHours$Bribe" "WarByHours$Bribe" "keeps" "I") ∈ lw_all := lw_g (lw_at lw_m2 198 rfl) rfl
theorem q572 : (Jvm.Cond.soleField "WarByHours$Bribe" "keeps") ∈ lw_all := lw_g (lw_at lw_m2 199 rfl) rfl
theorem q573 : (Jvm.Cond.laysFinal "WarByHours$Bribe" "WarByHours$Bribe" "this$0" "LWarByHours;") ∈ lw_all := lw_g (lw_at lw_m2 200 rfl) rfl
theorem q574 : (Jvm.Cond.soleField "WarByHours$Bribe" "this$0") ∈ lw_all := lw_g (lw_at lw_m2 201 rfl) rfl
theorem q575 : (Jvm.Cond.lays "WarByHours$Bribe" "WarByHours$Sets" "best" "I") ∈ lw_all := lw_g (lw_at lw_m2 202 rfl) rfl
theorem q576 : (Jvm.Cond.laysFinal "WarByHours$Bribe" "WarByHours$Sets" "this$0" "LWarByHours;") ∈ lw_all := lw_g (lw_at lw_m2 203 rfl) rfl
theorem q577 : (Jvm.Cond.superclass "WarByHours$Bribe" "WarByHours$Sets") ∈ lw_all := lw_g (lw_at lw_m2 204 rfl) rfl
theorem q624 : (Jvm.Cond.fieldLinkNest "WarByHours$Bribe" (23 : Nat) "WarByHours" "now" "LWarByHours$War;" "WarByHours") ∈ lw_tbl := lw_at lw_m3 11 rfl
theorem q960 : (Jvm.Cond.selects "WarByHours$Bribe" ({ cls := "java/lang/Object", name := "getClass", desc := "()Ljava/lang/Class;" } : Jvm.MethodName) ({ cls := "java/lang/Object", name := "getClass", desc := "()Ljava/lang/Class;" } : Jvm.MethodName)) ∈ lw_all := lw_g (lw_at lw_m4 107 rfl) rfl
theorem q1310 : (Jvm.Cond.selects "WarByHours$Bribe" ({ cls := "WarByHours$Sets", name := "seeks", desc := "(I)I" } : Jvm.MethodName) ({ cls := "WarByHours$Sets", name := "seeks", desc := "(I)I" } : Jvm.MethodName)) ∈ lw_all := lw_g (lw_at lw_m5 217 rfl) rfl
theorem q1320 : (Jvm.Cond.selects "WarByHours$Bribe" ({ cls := "WarByHours$Sets", name := "costOf", desc := "(I)I" } : Jvm.MethodName) ({ cls := "WarByHours$Sets", name := "costOf", desc := "(I)I" } : Jvm.MethodName)) ∈ lw_all := lw_g (lw_at lw_m5 227 rfl) rfl
theorem q1335 : (Jvm.Cond.selects "WarByHours$Bribe" ({ cls := "WarByHours$Sets", name := "may", desc := "(II)Z" } : Jvm.MethodName) ({ cls := "WarByHours$Bribe", name := "may", desc := "(II)Z" } : Jvm.MethodName)) ∈ lw_all := lw_g (lw_at lw_m6 2 rfl) rfl
theorem q1336 : (Jvm.Cond.instanceMethod ({ cls := "WarByHours$Bribe", name := "may", desc := "(II)Z" } : Jvm.MethodName)) ∈ lw_all := lw_g (lw_at lw_m6 3 rfl) rfl
theorem q1337 : (Jvm.Cond.code ({ cls := "WarByHours$Bribe", name := "may", desc := "(II)Z" } : Jvm.MethodName) prog_3_method_3_code (3 : Nat) (Option.some Jvm.ClassFile.FieldType.boolean)) ∈ lw_all := lw_g (lw_at lw_m6 4 rfl) rfl
theorem q1338 : (Jvm.Cond.methodLinkNest "WarByHours$Bribe" (19 : Nat) ({ cls := "WarByHours", name := "isOn", desc := "(II)Z" } : Jvm.MethodName) "WarByHours") ∈ lw_tbl := lw_at lw_m6 5 rfl
theorem q1339 : (Jvm.Cond.methodLinkNest "WarByHours$Bribe" (32 : Nat) ({ cls := "WarByHours", name := "menAt", desc := "(III)I" } : Jvm.MethodName) "WarByHours") ∈ lw_tbl := lw_at lw_m6 6 rfl
theorem q1395 : (Jvm.Cond.instanceMethod ({ cls := "WarByHours$Bribe", name := "but", desc := "(I)LWarByHours$Bribe;" } : Jvm.MethodName)) ∈ lw_all := lw_g (lw_at lw_m6 62 rfl) rfl
theorem q1396 : (Jvm.Cond.selects "WarByHours$Bribe" ({ cls := "WarByHours$Bribe", name := "but", desc := "(I)LWarByHours$Bribe;" } : Jvm.MethodName) ({ cls := "WarByHours$Bribe", name := "but", desc := "(I)LWarByHours$Bribe;" } : Jvm.MethodName)) ∈ lw_all := lw_g (lw_at lw_m6 63 rfl) rfl
theorem q1397 : (Jvm.Cond.code ({ cls := "WarByHours$Bribe", name := "but", desc := "(I)LWarByHours$Bribe;" } : Jvm.MethodName) prog_3_method_2_code (2 : Nat) (Option.some (Jvm.ClassFile.FieldType.object "WarByHours$Bribe"))) ∈ lw_all := lw_g (lw_at lw_m6 64 rfl) rfl
theorem q1399 : (Jvm.Cond.sameMethod "WarByHours$Bribe" "WarByHours$Sets" "cost" "(I)I") ∈ lw_all := lw_g (lw_at lw_m6 66 rfl) rfl
theorem q1400 : (Jvm.Cond.selects "WarByHours$Bribe" ({ cls := "WarByHours$Bribe", name := "cost", desc := "(I)I" } : Jvm.MethodName) ({ cls := "WarByHours$Sets", name := "cost", desc := "(I)I" } : Jvm.MethodName)) ∈ lw_all := lw_g (lw_at lw_m6 67 rfl) rfl
theorem q1406 : (Jvm.Cond.sameMethod "WarByHours$Bribe" "WarByHours$Sets" "seeks" "(I)I") ∈ lw_all := lw_g (lw_at lw_m6 73 rfl) rfl
theorem q1407 : (Jvm.Cond.selects "WarByHours$Bribe" ({ cls := "WarByHours$Bribe", name := "seeks", desc := "(I)I" } : Jvm.MethodName) ({ cls := "WarByHours$Sets", name := "seeks", desc := "(I)I" } : Jvm.MethodName)) ∈ lw_all := lw_g (lw_at lw_m6 74 rfl) rfl
theorem q2593 : (Jvm.Cond.castable "WarByHours$Bribe" "java/lang/Object") ∈ lw_tbl := lw_at lw_m11 60 rfl
theorem in_X8 : ∀ w ∈ wsX80, w ∈ lw_all := lw_in wsX80 [575, 576, 571, 573] (by decide +kernel) (by decide +kernel)

/-! WarByHours$Duel -/
set_option maxRecDepth 100000
def RX9 : String := "WarByHours$Duel"
def TX9 : u_T := fun k => match k with
  | 0 => ("WarByHours$Duel", "sets", "[I", true)
  | 1 => ("WarByHours$Duel", "last", "[I", true)
  | 2 => ("WarByHours$Duel", "many", "[I", true)
  | _ => ("WarByHours$Duel", "this$0", "LWarByHours;", true)
def tyX9 : Nat → FieldType := fun k => match k with
  | 0 => .array .int
  | 1 => .array .int
  | 2 => .array .int
  | _ => .object "WarByHours"
abbrev wsX90 : List Cond := u_ws RX9 TX9 4
theorem nmX9 : ∀ a, a < 4 → ∀ b, b < 4 → a ≠ b → (TX9 a).2.1 ≠ (TX9 b).2.1 := by decide +kernel
theorem tyX9_ok : ∀ k, k < 4 → parseFieldDescriptor (TX9 k).2.2.1 = some (tyX9 k) := by decide +kernel
abbrev cX9_init : ByteArray := prog_5_method_1_code
def yX9_init : MethodName := ⟨RX9, "<init>", "(LWarByHours;)V"⟩
def dkwX9_init_1 : List UInt8 := [181, 0, 19, 42, 5, 188, 10, 181, 0, 22, 177]
abbrev dktX9_init_1 : List UInt8 := dkwX9_init_1 ++ []
def dkwX9_init_0 : List UInt8 := [42, 43, 181, 0, 3, 42, 183, 0, 9, 42, 17, 2, 1, 188, 10, 181, 0, 15, 42, 17, 2, 0, 188, 10]
abbrev dktX9_init_0 : List UInt8 := dkwX9_init_0 ++ dktX9_init_1
theorem dksX9_init_0 : cX9_init.data.toList.drop 0 = dktX9_init_0 := by decide +kernel
theorem dksX9_init_1 : cX9_init.data.toList.drop 24 = dktX9_init_1 := dk_seg dksX9_init_0 24 rfl rfl
theorem dX9_init_0 : decode cX9_init 0 = .ok (.aload_n 0, 1) := dk_42 (dk_at dksX9_init_0 0 rfl rfl)
theorem dX9_init_1 : decode cX9_init 1 = .ok (.aload_n 1, 1) := dk_43 (dk_at dksX9_init_0 1 rfl rfl)
theorem dX9_init_2 : decode cX9_init 2 = .ok (.putfield 3, 3) := dk_181 0 3 (dk_at dksX9_init_0 2 rfl rfl)
theorem dX9_init_5 : decode cX9_init 5 = .ok (.aload_n 0, 1) := dk_42 (dk_at dksX9_init_0 5 rfl rfl)
theorem dX9_init_6 : decode cX9_init 6 = .ok (.invokespecial 9, 3) := dk_183 0 9 (dk_at dksX9_init_0 6 rfl rfl)
theorem dX9_init_9 : decode cX9_init 9 = .ok (.aload_n 0, 1) := dk_42 (dk_at dksX9_init_0 9 rfl rfl)
theorem dX9_init_10 : decode cX9_init 10 = .ok (.sipush 513, 3) := dk_17 2 1 (dk_at dksX9_init_0 10 rfl rfl)
theorem dX9_init_13 : decode cX9_init 13 = .ok (.newarray .int, 2) := dk_188_10 (dk_at dksX9_init_0 13 rfl rfl)
theorem dX9_init_15 : decode cX9_init 15 = .ok (.putfield 15, 3) := dk_181 0 15 (dk_at dksX9_init_0 15 rfl rfl)
theorem dX9_init_18 : decode cX9_init 18 = .ok (.aload_n 0, 1) := dk_42 (dk_at dksX9_init_0 18 rfl rfl)
theorem dX9_init_19 : decode cX9_init 19 = .ok (.sipush 512, 3) := dk_17 2 0 (dk_at dksX9_init_0 19 rfl rfl)
theorem dX9_init_22 : decode cX9_init 22 = .ok (.newarray .int, 2) := dk_188_10 (dk_at dksX9_init_0 22 rfl rfl)
theorem dX9_init_24 : decode cX9_init 24 = .ok (.putfield 19, 3) := dk_181 0 19 (dk_at dksX9_init_1 0 rfl rfl)
theorem dX9_init_27 : decode cX9_init 27 = .ok (.aload_n 0, 1) := dk_42 (dk_at dksX9_init_1 3 rfl rfl)
theorem dX9_init_28 : decode cX9_init 28 = .ok (.iconst 2, 1) := dk_5 (dk_at dksX9_init_1 4 rfl rfl)
theorem dX9_init_29 : decode cX9_init 29 = .ok (.newarray .int, 2) := dk_188_10 (dk_at dksX9_init_1 5 rfl rfl)
theorem dX9_init_31 : decode cX9_init 31 = .ok (.putfield 22, 3) := dk_181 0 22 (dk_at dksX9_init_1 7 rfl rfl)
theorem dX9_init_34 : decode cX9_init 34 = .ok (.return_, 1) := dk_177 (dk_at dksX9_init_1 10 rfl rfl)
abbrev cX9_lays : ByteArray := prog_5_method_2_code
def yX9_lays : MethodName := ⟨RX9, "lays", "(I)LWarByHours$Duel;"⟩
def dkwX9_lays_5 : List UInt8 := [132, 5, 1, 167, 255, 195, 42, 180, 0, 22, 29, 28, 21, 4, 100, 79, 132, 3, 1, 167, 255, 168, 42, 176]
abbrev dktX9_lays_5 : List UInt8 := dkwX9_lays_5 ++ []
def dkwX9_lays_4 : List UInt8 := [21, 5, 182, 0, 51, 27, 164, 0, 6, 167, 0, 14, 42, 180, 0, 15, 28, 21, 5, 79, 132, 2, 1]
abbrev dktX9_lays_4 : List UInt8 := dkwX9_lays_4 ++ dktX9_lays_5
def dkwX9_lays_3 : List UInt8 := [163, 0, 52, 21, 5, 42, 180, 0, 3, 29, 182, 0, 47, 2, 130, 126, 154, 0, 30, 42, 180, 0, 3]
abbrev dktX9_lays_3 : List UInt8 := dkwX9_lays_3 ++ dktX9_lays_4
def dkwX9_lays_2 : List UInt8 := [29, 5, 162, 0, 89, 28, 54, 4, 3, 54, 5, 21, 5, 42, 180, 0, 3, 180, 0, 25, 182, 0, 29]
abbrev dktX9_lays_2 : List UInt8 := dkwX9_lays_2 ++ dktX9_lays_3
def dkwX9_lays_1 : List UInt8 := [180, 0, 3, 180, 0, 35, 28, 182, 0, 39, 182, 0, 45, 79, 132, 2, 1, 167, 255, 219, 3, 61, 3, 62]
abbrev dktX9_lays_1 : List UInt8 := dkwX9_lays_1 ++ dktX9_lays_2
def dkwX9_lays_0 : List UInt8 := [3, 61, 28, 42, 180, 0, 3, 180, 0, 25, 182, 0, 29, 163, 0, 29, 42, 180, 0, 19, 28, 42]
abbrev dktX9_lays_0 : List UInt8 := dkwX9_lays_0 ++ dktX9_lays_1
theorem dksX9_lays_0 : cX9_lays.data.toList.drop 0 = dktX9_lays_0 := by decide +kernel
theorem dksX9_lays_1 : cX9_lays.data.toList.drop 22 = dktX9_lays_1 := dk_seg dksX9_lays_0 22 rfl rfl
theorem dksX9_lays_2 : cX9_lays.data.toList.drop 46 = dktX9_lays_2 := dk_seg dksX9_lays_1 24 rfl rfl
theorem dksX9_lays_3 : cX9_lays.data.toList.drop 69 = dktX9_lays_3 := dk_seg dksX9_lays_2 23 rfl rfl
theorem dksX9_lays_4 : cX9_lays.data.toList.drop 92 = dktX9_lays_4 := dk_seg dksX9_lays_3 23 rfl rfl
theorem dksX9_lays_5 : cX9_lays.data.toList.drop 115 = dktX9_lays_5 := dk_seg dksX9_lays_4 23 rfl rfl
theorem dX9_lays_0 : decode cX9_lays 0 = .ok (.iconst 0, 1) := dk_3 (dk_at dksX9_lays_0 0 rfl rfl)
theorem dX9_lays_1 : decode cX9_lays 1 = .ok (.istore_n 2, 1) := dk_61 (dk_at dksX9_lays_0 1 rfl rfl)
theorem dX9_lays_2 : decode cX9_lays 2 = .ok (.iload_n 2, 1) := dk_28 (dk_at dksX9_lays_0 2 rfl rfl)
theorem dX9_lays_3 : decode cX9_lays 3 = .ok (.aload_n 0, 1) := dk_42 (dk_at dksX9_lays_0 3 rfl rfl)
theorem dX9_lays_4 : decode cX9_lays 4 = .ok (.getfield 3, 3) := dk_180 0 3 (dk_at dksX9_lays_0 4 rfl rfl)
theorem dX9_lays_7 : decode cX9_lays 7 = .ok (.getfield 25, 3) := dk_180 0 25 (dk_at dksX9_lays_0 7 rfl rfl)
theorem dX9_lays_10 : decode cX9_lays 10 = .ok (.invokevirtual 29, 3) := dk_182 0 29 (dk_at dksX9_lays_0 10 rfl rfl)
theorem dX9_lays_13 : decode cX9_lays 13 = .ok (.if_icmp .gt 29, 3) := dk_163 0 29 (dk_at dksX9_lays_0 13 rfl rfl)
theorem dX9_lays_16 : decode cX9_lays 16 = .ok (.aload_n 0, 1) := dk_42 (dk_at dksX9_lays_0 16 rfl rfl)
theorem dX9_lays_17 : decode cX9_lays 17 = .ok (.getfield 19, 3) := dk_180 0 19 (dk_at dksX9_lays_0 17 rfl rfl)
theorem dX9_lays_20 : decode cX9_lays 20 = .ok (.iload_n 2, 1) := dk_28 (dk_at dksX9_lays_0 20 rfl rfl)
theorem dX9_lays_21 : decode cX9_lays 21 = .ok (.aload_n 0, 1) := dk_42 (dk_at dksX9_lays_0 21 rfl rfl)
theorem dX9_lays_22 : decode cX9_lays 22 = .ok (.getfield 3, 3) := dk_180 0 3 (dk_at dksX9_lays_1 0 rfl rfl)
theorem dX9_lays_25 : decode cX9_lays 25 = .ok (.getfield 35, 3) := dk_180 0 35 (dk_at dksX9_lays_1 3 rfl rfl)
theorem dX9_lays_28 : decode cX9_lays 28 = .ok (.iload_n 2, 1) := dk_28 (dk_at dksX9_lays_1 6 rfl rfl)
theorem dX9_lays_29 : decode cX9_lays 29 = .ok (.invokevirtual 39, 3) := dk_182 0 39 (dk_at dksX9_lays_1 7 rfl rfl)
theorem dX9_lays_32 : decode cX9_lays 32 = .ok (.invokevirtual 45, 3) := dk_182 0 45 (dk_at dksX9_lays_1 10 rfl rfl)
theorem dX9_lays_35 : decode cX9_lays 35 = .ok (.iastore, 1) := dk_79 (dk_at dksX9_lays_1 13 rfl rfl)
theorem dX9_lays_36 : decode cX9_lays 36 = .ok (.iinc 2 1, 3) := dk_132 2 1 (dk_at dksX9_lays_1 14 rfl rfl)
theorem dX9_lays_39 : decode cX9_lays 39 = .ok (.goto (-37), 3) := dk_167 255 219 (dk_at dksX9_lays_1 17 rfl rfl)
theorem dX9_lays_42 : decode cX9_lays 42 = .ok (.iconst 0, 1) := dk_3 (dk_at dksX9_lays_1 20 rfl rfl)
theorem dX9_lays_43 : decode cX9_lays 43 = .ok (.istore_n 2, 1) := dk_61 (dk_at dksX9_lays_1 21 rfl rfl)
theorem dX9_lays_44 : decode cX9_lays 44 = .ok (.iconst 0, 1) := dk_3 (dk_at dksX9_lays_1 22 rfl rfl)
theorem dX9_lays_45 : decode cX9_lays 45 = .ok (.istore_n 3, 1) := dk_62 (dk_at dksX9_lays_1 23 rfl rfl)
theorem dX9_lays_46 : decode cX9_lays 46 = .ok (.iload_n 3, 1) := dk_29 (dk_at dksX9_lays_2 0 rfl rfl)
theorem dX9_lays_47 : decode cX9_lays 47 = .ok (.iconst 2, 1) := dk_5 (dk_at dksX9_lays_2 1 rfl rfl)
theorem dX9_lays_48 : decode cX9_lays 48 = .ok (.if_icmp .ge 89, 3) := dk_162 0 89 (dk_at dksX9_lays_2 2 rfl rfl)
theorem dX9_lays_51 : decode cX9_lays 51 = .ok (.iload_n 2, 1) := dk_28 (dk_at dksX9_lays_2 5 rfl rfl)
theorem dX9_lays_52 : decode cX9_lays 52 = .ok (.istore 4, 2) := dk_54 4 (dk_at dksX9_lays_2 6 rfl rfl)
theorem dX9_lays_54 : decode cX9_lays 54 = .ok (.iconst 0, 1) := dk_3 (dk_at dksX9_lays_2 8 rfl rfl)
theorem dX9_lays_55 : decode cX9_lays 55 = .ok (.istore 5, 2) := dk_54 5 (dk_at dksX9_lays_2 9 rfl rfl)
theorem dX9_lays_57 : decode cX9_lays 57 = .ok (.iload 5, 2) := dk_21 5 (dk_at dksX9_lays_2 11 rfl rfl)
theorem dX9_lays_59 : decode cX9_lays 59 = .ok (.aload_n 0, 1) := dk_42 (dk_at dksX9_lays_2 13 rfl rfl)
theorem dX9_lays_60 : decode cX9_lays 60 = .ok (.getfield 3, 3) := dk_180 0 3 (dk_at dksX9_lays_2 14 rfl rfl)
theorem dX9_lays_63 : decode cX9_lays 63 = .ok (.getfield 25, 3) := dk_180 0 25 (dk_at dksX9_lays_2 17 rfl rfl)
theorem dX9_lays_66 : decode cX9_lays 66 = .ok (.invokevirtual 29, 3) := dk_182 0 29 (dk_at dksX9_lays_2 20 rfl rfl)
theorem dX9_lays_69 : decode cX9_lays 69 = .ok (.if_icmp .gt 52, 3) := dk_163 0 52 (dk_at dksX9_lays_3 0 rfl rfl)
theorem dX9_lays_72 : decode cX9_lays 72 = .ok (.iload 5, 2) := dk_21 5 (dk_at dksX9_lays_3 3 rfl rfl)
theorem dX9_lays_74 : decode cX9_lays 74 = .ok (.aload_n 0, 1) := dk_42 (dk_at dksX9_lays_3 5 rfl rfl)
theorem dX9_lays_75 : decode cX9_lays 75 = .ok (.getfield 3, 3) := dk_180 0 3 (dk_at dksX9_lays_3 6 rfl rfl)
theorem dX9_lays_78 : decode cX9_lays 78 = .ok (.iload_n 3, 1) := dk_29 (dk_at dksX9_lays_3 9 rfl rfl)
theorem dX9_lays_79 : decode cX9_lays 79 = .ok (.invokevirtual 47, 3) := dk_182 0 47 (dk_at dksX9_lays_3 10 rfl rfl)
theorem dX9_lays_82 : decode cX9_lays 82 = .ok (.iconst (-1), 1) := dk_2 (dk_at dksX9_lays_3 13 rfl rfl)
theorem dX9_lays_83 : decode cX9_lays 83 = .ok (.ixor, 1) := dk_130 (dk_at dksX9_lays_3 14 rfl rfl)
theorem dX9_lays_84 : decode cX9_lays 84 = .ok (.iand, 1) := dk_126 (dk_at dksX9_lays_3 15 rfl rfl)
theorem dX9_lays_85 : decode cX9_lays 85 = .ok (.ifCond .ne 30, 3) := dk_154 0 30 (dk_at dksX9_lays_3 16 rfl rfl)
theorem dX9_lays_88 : decode cX9_lays 88 = .ok (.aload_n 0, 1) := dk_42 (dk_at dksX9_lays_3 19 rfl rfl)
theorem dX9_lays_89 : decode cX9_lays 89 = .ok (.getfield 3, 3) := dk_180 0 3 (dk_at dksX9_lays_3 20 rfl rfl)
theorem dX9_lays_92 : decode cX9_lays 92 = .ok (.iload 5, 2) := dk_21 5 (dk_at dksX9_lays_4 0 rfl rfl)
theorem dX9_lays_94 : decode cX9_lays 94 = .ok (.invokevirtual 51, 3) := dk_182 0 51 (dk_at dksX9_lays_4 2 rfl rfl)
theorem dX9_lays_97 : decode cX9_lays 97 = .ok (.iload_n 1, 1) := dk_27 (dk_at dksX9_lays_4 5 rfl rfl)
theorem dX9_lays_98 : decode cX9_lays 98 = .ok (.if_icmp .le 6, 3) := dk_164 0 6 (dk_at dksX9_lays_4 6 rfl rfl)
theorem dX9_lays_101 : decode cX9_lays 101 = .ok (.goto 14, 3) := dk_167 0 14 (dk_at dksX9_lays_4 9 rfl rfl)
theorem dX9_lays_104 : decode cX9_lays 104 = .ok (.aload_n 0, 1) := dk_42 (dk_at dksX9_lays_4 12 rfl rfl)
theorem dX9_lays_105 : decode cX9_lays 105 = .ok (.getfield 15, 3) := dk_180 0 15 (dk_at dksX9_lays_4 13 rfl rfl)
theorem dX9_lays_108 : decode cX9_lays 108 = .ok (.iload_n 2, 1) := dk_28 (dk_at dksX9_lays_4 16 rfl rfl)
theorem dX9_lays_109 : decode cX9_lays 109 = .ok (.iload 5, 2) := dk_21 5 (dk_at dksX9_lays_4 17 rfl rfl)
theorem dX9_lays_111 : decode cX9_lays 111 = .ok (.iastore, 1) := dk_79 (dk_at dksX9_lays_4 19 rfl rfl)
theorem dX9_lays_112 : decode cX9_lays 112 = .ok (.iinc 2 1, 3) := dk_132 2 1 (dk_at dksX9_lays_4 20 rfl rfl)
theorem dX9_lays_115 : decode cX9_lays 115 = .ok (.iinc 5 1, 3) := dk_132 5 1 (dk_at dksX9_lays_5 0 rfl rfl)
theorem dX9_lays_118 : decode cX9_lays 118 = .ok (.goto (-61), 3) := dk_167 255 195 (dk_at dksX9_lays_5 3 rfl rfl)
theorem dX9_lays_121 : decode cX9_lays 121 = .ok (.aload_n 0, 1) := dk_42 (dk_at dksX9_lays_5 6 rfl rfl)
theorem dX9_lays_122 : decode cX9_lays 122 = .ok (.getfield 22, 3) := dk_180 0 22 (dk_at dksX9_lays_5 7 rfl rfl)
theorem dX9_lays_125 : decode cX9_lays 125 = .ok (.iload_n 3, 1) := dk_29 (dk_at dksX9_lays_5 10 rfl rfl)
theorem dX9_lays_126 : decode cX9_lays 126 = .ok (.iload_n 2, 1) := dk_28 (dk_at dksX9_lays_5 11 rfl rfl)
theorem dX9_lays_127 : decode cX9_lays 127 = .ok (.iload 4, 2) := dk_21 4 (dk_at dksX9_lays_5 12 rfl rfl)
theorem dX9_lays_129 : decode cX9_lays 129 = .ok (.isub, 1) := dk_100 (dk_at dksX9_lays_5 14 rfl rfl)
theorem dX9_lays_130 : decode cX9_lays 130 = .ok (.iastore, 1) := dk_79 (dk_at dksX9_lays_5 15 rfl rfl)
theorem dX9_lays_131 : decode cX9_lays 131 = .ok (.iinc 3 1, 3) := dk_132 3 1 (dk_at dksX9_lays_5 16 rfl rfl)
theorem dX9_lays_134 : decode cX9_lays 134 = .ok (.goto (-88), 3) := dk_167 255 168 (dk_at dksX9_lays_5 19 rfl rfl)
theorem dX9_lays_137 : decode cX9_lays 137 = .ok (.aload_n 0, 1) := dk_42 (dk_at dksX9_lays_5 22 rfl rfl)
theorem dX9_lays_138 : decode cX9_lays 138 = .ok (.areturn, 1) := dk_176 (dk_at dksX9_lays_5 23 rfl rfl)
abbrev cX9_of : ByteArray := prog_5_method_3_code
def yX9_of : MethodName := ⟨RX9, "of", "(II)I"⟩
def dkwX9_of_0 : List UInt8 := [42, 180, 0, 15, 27, 154, 0, 7, 28, 167, 0, 11, 42, 180, 0, 22, 3, 46, 28, 96, 46, 172]
abbrev dktX9_of_0 : List UInt8 := dkwX9_of_0 ++ []
theorem dksX9_of_0 : cX9_of.data.toList.drop 0 = dktX9_of_0 := by decide +kernel
theorem dX9_of_0 : decode cX9_of 0 = .ok (.aload_n 0, 1) := dk_42 (dk_at dksX9_of_0 0 rfl rfl)
theorem dX9_of_1 : decode cX9_of 1 = .ok (.getfield 15, 3) := dk_180 0 15 (dk_at dksX9_of_0 1 rfl rfl)
theorem dX9_of_4 : decode cX9_of 4 = .ok (.iload_n 1, 1) := dk_27 (dk_at dksX9_of_0 4 rfl rfl)
theorem dX9_of_5 : decode cX9_of 5 = .ok (.ifCond .ne 7, 3) := dk_154 0 7 (dk_at dksX9_of_0 5 rfl rfl)
theorem dX9_of_8 : decode cX9_of 8 = .ok (.iload_n 2, 1) := dk_28 (dk_at dksX9_of_0 8 rfl rfl)
theorem dX9_of_9 : decode cX9_of 9 = .ok (.goto 11, 3) := dk_167 0 11 (dk_at dksX9_of_0 9 rfl rfl)
theorem dX9_of_12 : decode cX9_of 12 = .ok (.aload_n 0, 1) := dk_42 (dk_at dksX9_of_0 12 rfl rfl)
theorem dX9_of_13 : decode cX9_of 13 = .ok (.getfield 22, 3) := dk_180 0 22 (dk_at dksX9_of_0 13 rfl rfl)
theorem dX9_of_16 : decode cX9_of 16 = .ok (.iconst 0, 1) := dk_3 (dk_at dksX9_of_0 16 rfl rfl)
theorem dX9_of_17 : decode cX9_of 17 = .ok (.iaload, 1) := dk_46 (dk_at dksX9_of_0 17 rfl rfl)
theorem dX9_of_18 : decode cX9_of 18 = .ok (.iload_n 2, 1) := dk_28 (dk_at dksX9_of_0 18 rfl rfl)
theorem dX9_of_19 : decode cX9_of 19 = .ok (.iadd, 1) := dk_96 (dk_at dksX9_of_0 19 rfl rfl)
theorem dX9_of_20 : decode cX9_of 20 = .ok (.iaload, 1) := dk_46 (dk_at dksX9_of_0 20 rfl rfl)
theorem dX9_of_21 : decode cX9_of 21 = .ok (.ireturn, 1) := dk_172 (dk_at dksX9_of_0 21 rfl rfl)
abbrev cX9_good : ByteArray := prog_5_method_4_code
def yX9_good : MethodName := ⟨RX9, "good", "(III)I"⟩
def dkwX9_good_1 : List UInt8 := [172]
abbrev dktX9_good_1 : List UInt8 := dkwX9_good_1 ++ []
def dkwX9_good_0 : List UInt8 := [27, 154, 0, 14, 42, 180, 0, 19, 28, 29, 128, 46, 167, 0, 12, 42, 180, 0, 19, 28, 29, 128, 46, 116]
abbrev dktX9_good_0 : List UInt8 := dkwX9_good_0 ++ dktX9_good_1
theorem dksX9_good_0 : cX9_good.data.toList.drop 0 = dktX9_good_0 := by decide +kernel
theorem dksX9_good_1 : cX9_good.data.toList.drop 24 = dktX9_good_1 := dk_seg dksX9_good_0 24 rfl rfl
theorem dX9_good_0 : decode cX9_good 0 = .ok (.iload_n 1, 1) := dk_27 (dk_at dksX9_good_0 0 rfl rfl)
theorem dX9_good_1 : decode cX9_good 1 = .ok (.ifCond .ne 14, 3) := dk_154 0 14 (dk_at dksX9_good_0 1 rfl rfl)
theorem dX9_good_4 : decode cX9_good 4 = .ok (.aload_n 0, 1) := dk_42 (dk_at dksX9_good_0 4 rfl rfl)
theorem dX9_good_5 : decode cX9_good 5 = .ok (.getfield 19, 3) := dk_180 0 19 (dk_at dksX9_good_0 5 rfl rfl)
theorem dX9_good_8 : decode cX9_good 8 = .ok (.iload_n 2, 1) := dk_28 (dk_at dksX9_good_0 8 rfl rfl)
theorem dX9_good_9 : decode cX9_good 9 = .ok (.iload_n 3, 1) := dk_29 (dk_at dksX9_good_0 9 rfl rfl)
theorem dX9_good_10 : decode cX9_good 10 = .ok (.ior, 1) := dk_128 (dk_at dksX9_good_0 10 rfl rfl)
theorem dX9_good_11 : decode cX9_good 11 = .ok (.iaload, 1) := dk_46 (dk_at dksX9_good_0 11 rfl rfl)
theorem dX9_good_12 : decode cX9_good 12 = .ok (.goto 12, 3) := dk_167 0 12 (dk_at dksX9_good_0 12 rfl rfl)
theorem dX9_good_15 : decode cX9_good 15 = .ok (.aload_n 0, 1) := dk_42 (dk_at dksX9_good_0 15 rfl rfl)
theorem dX9_good_16 : decode cX9_good 16 = .ok (.getfield 19, 3) := dk_180 0 19 (dk_at dksX9_good_0 16 rfl rfl)
theorem dX9_good_19 : decode cX9_good 19 = .ok (.iload_n 2, 1) := dk_28 (dk_at dksX9_good_0 19 rfl rfl)
theorem dX9_good_20 : decode cX9_good 20 = .ok (.iload_n 3, 1) := dk_29 (dk_at dksX9_good_0 20 rfl rfl)
theorem dX9_good_21 : decode cX9_good 21 = .ok (.ior, 1) := dk_128 (dk_at dksX9_good_0 21 rfl rfl)
theorem dX9_good_22 : decode cX9_good 22 = .ok (.iaload, 1) := dk_46 (dk_at dksX9_good_0 22 rfl rfl)
theorem dX9_good_23 : decode cX9_good 23 = .ok (.ineg, 1) := dk_116 (dk_at dksX9_good_0 23 rfl rfl)
theorem dX9_good_24 : decode cX9_good 24 = .ok (.ireturn, 1) := dk_172 (dk_at dksX9_good_1 0 rfl rfl)
abbrev cX9_best : ByteArray := prog_5_method_5_code
def yX9_best : MethodName := ⟨RX9, "best", "(II)I"⟩
def dkwX9_best_1 : List UInt8 := [42, 4, 27, 100, 21, 4, 182, 0, 54, 182, 0, 58, 184, 0, 62, 62, 132, 4, 1, 167, 255, 220, 29, 172]
abbrev dktX9_best_1 : List UInt8 := dkwX9_best_1 ++ []
def dkwX9_best_0 : List UInt8 := [17, 252, 24, 62, 3, 54, 4, 21, 4, 42, 180, 0, 22, 4, 27, 100, 46, 162, 0, 29, 29, 42, 27, 28]
abbrev dktX9_best_0 : List UInt8 := dkwX9_best_0 ++ dktX9_best_1
theorem dksX9_best_0 : cX9_best.data.toList.drop 0 = dktX9_best_0 := by decide +kernel
theorem dksX9_best_1 : cX9_best.data.toList.drop 24 = dktX9_best_1 := dk_seg dksX9_best_0 24 rfl rfl
theorem dX9_best_0 : decode cX9_best 0 = .ok (.sipush (-1000), 3) := dk_17 252 24 (dk_at dksX9_best_0 0 rfl rfl)
theorem dX9_best_3 : decode cX9_best 3 = .ok (.istore_n 3, 1) := dk_62 (dk_at dksX9_best_0 3 rfl rfl)
theorem dX9_best_4 : decode cX9_best 4 = .ok (.iconst 0, 1) := dk_3 (dk_at dksX9_best_0 4 rfl rfl)
theorem dX9_best_5 : decode cX9_best 5 = .ok (.istore 4, 2) := dk_54 4 (dk_at dksX9_best_0 5 rfl rfl)
theorem dX9_best_7 : decode cX9_best 7 = .ok (.iload 4, 2) := dk_21 4 (dk_at dksX9_best_0 7 rfl rfl)
theorem dX9_best_9 : decode cX9_best 9 = .ok (.aload_n 0, 1) := dk_42 (dk_at dksX9_best_0 9 rfl rfl)
theorem dX9_best_10 : decode cX9_best 10 = .ok (.getfield 22, 3) := dk_180 0 22 (dk_at dksX9_best_0 10 rfl rfl)
theorem dX9_best_13 : decode cX9_best 13 = .ok (.iconst 1, 1) := dk_4 (dk_at dksX9_best_0 13 rfl rfl)
theorem dX9_best_14 : decode cX9_best 14 = .ok (.iload_n 1, 1) := dk_27 (dk_at dksX9_best_0 14 rfl rfl)
theorem dX9_best_15 : decode cX9_best 15 = .ok (.isub, 1) := dk_100 (dk_at dksX9_best_0 15 rfl rfl)
theorem dX9_best_16 : decode cX9_best 16 = .ok (.iaload, 1) := dk_46 (dk_at dksX9_best_0 16 rfl rfl)
theorem dX9_best_17 : decode cX9_best 17 = .ok (.if_icmp .ge 29, 3) := dk_162 0 29 (dk_at dksX9_best_0 17 rfl rfl)
theorem dX9_best_20 : decode cX9_best 20 = .ok (.iload_n 3, 1) := dk_29 (dk_at dksX9_best_0 20 rfl rfl)
theorem dX9_best_21 : decode cX9_best 21 = .ok (.aload_n 0, 1) := dk_42 (dk_at dksX9_best_0 21 rfl rfl)
theorem dX9_best_22 : decode cX9_best 22 = .ok (.iload_n 1, 1) := dk_27 (dk_at dksX9_best_0 22 rfl rfl)
theorem dX9_best_23 : decode cX9_best 23 = .ok (.iload_n 2, 1) := dk_28 (dk_at dksX9_best_0 23 rfl rfl)
theorem dX9_best_24 : decode cX9_best 24 = .ok (.aload_n 0, 1) := dk_42 (dk_at dksX9_best_1 0 rfl rfl)
theorem dX9_best_25 : decode cX9_best 25 = .ok (.iconst 1, 1) := dk_4 (dk_at dksX9_best_1 1 rfl rfl)
theorem dX9_best_26 : decode cX9_best 26 = .ok (.iload_n 1, 1) := dk_27 (dk_at dksX9_best_1 2 rfl rfl)
theorem dX9_best_27 : decode cX9_best 27 = .ok (.isub, 1) := dk_100 (dk_at dksX9_best_1 3 rfl rfl)
theorem dX9_best_28 : decode cX9_best 28 = .ok (.iload 4, 2) := dk_21 4 (dk_at dksX9_best_1 4 rfl rfl)
theorem dX9_best_30 : decode cX9_best 30 = .ok (.invokevirtual 54, 3) := dk_182 0 54 (dk_at dksX9_best_1 6 rfl rfl)
theorem dX9_best_33 : decode cX9_best 33 = .ok (.invokevirtual 58, 3) := dk_182 0 58 (dk_at dksX9_best_1 9 rfl rfl)
theorem dX9_best_36 : decode cX9_best 36 = .ok (.invokestatic 62, 3) := dk_184 0 62 (dk_at dksX9_best_1 12 rfl rfl)
theorem dX9_best_39 : decode cX9_best 39 = .ok (.istore_n 3, 1) := dk_62 (dk_at dksX9_best_1 15 rfl rfl)
theorem dX9_best_40 : decode cX9_best 40 = .ok (.iinc 4 1, 3) := dk_132 4 1 (dk_at dksX9_best_1 16 rfl rfl)
theorem dX9_best_43 : decode cX9_best 43 = .ok (.goto (-36), 3) := dk_167 255 220 (dk_at dksX9_best_1 19 rfl rfl)
theorem dX9_best_46 : decode cX9_best 46 = .ok (.iload_n 3, 1) := dk_29 (dk_at dksX9_best_1 22 rfl rfl)
theorem dX9_best_47 : decode cX9_best 47 = .ok (.ireturn, 1) := dk_172 (dk_at dksX9_best_1 23 rfl rfl)
abbrev cX9_rests : ByteArray := prog_5_method_6_code
def yX9_rests : MethodName := ⟨RX9, "rests", "()I"⟩
def dkwX9_rests_2 : List UInt8 := [167, 0, 4, 3, 96, 60, 132, 3, 1, 167, 255, 216, 132, 2, 1, 167, 255, 198, 27, 172]
abbrev dktX9_rests_2 : List UInt8 := dkwX9_rests_2 ++ []
def dkwX9_rests_1 : List UInt8 := [162, 0, 36, 27, 42, 42, 3, 28, 182, 0, 54, 42, 4, 29, 182, 0, 54, 182, 0, 67, 153, 0, 7, 4]
abbrev dktX9_rests_1 : List UInt8 := dkwX9_rests_1 ++ dktX9_rests_2
def dkwX9_rests_0 : List UInt8 := [3, 60, 3, 61, 28, 42, 180, 0, 22, 3, 46, 162, 0, 54, 3, 62, 29, 42, 180, 0, 22, 4, 46]
abbrev dktX9_rests_0 : List UInt8 := dkwX9_rests_0 ++ dktX9_rests_1
theorem dksX9_rests_0 : cX9_rests.data.toList.drop 0 = dktX9_rests_0 := by decide +kernel
theorem dksX9_rests_1 : cX9_rests.data.toList.drop 23 = dktX9_rests_1 := dk_seg dksX9_rests_0 23 rfl rfl
theorem dksX9_rests_2 : cX9_rests.data.toList.drop 47 = dktX9_rests_2 := dk_seg dksX9_rests_1 24 rfl rfl
theorem dX9_rests_0 : decode cX9_rests 0 = .ok (.iconst 0, 1) := dk_3 (dk_at dksX9_rests_0 0 rfl rfl)
theorem dX9_rests_1 : decode cX9_rests 1 = .ok (.istore_n 1, 1) := dk_60 (dk_at dksX9_rests_0 1 rfl rfl)
theorem dX9_rests_2 : decode cX9_rests 2 = .ok (.iconst 0, 1) := dk_3 (dk_at dksX9_rests_0 2 rfl rfl)
theorem dX9_rests_3 : decode cX9_rests 3 = .ok (.istore_n 2, 1) := dk_61 (dk_at dksX9_rests_0 3 rfl rfl)
theorem dX9_rests_4 : decode cX9_rests 4 = .ok (.iload_n 2, 1) := dk_28 (dk_at dksX9_rests_0 4 rfl rfl)
theorem dX9_rests_5 : decode cX9_rests 5 = .ok (.aload_n 0, 1) := dk_42 (dk_at dksX9_rests_0 5 rfl rfl)
theorem dX9_rests_6 : decode cX9_rests 6 = .ok (.getfield 22, 3) := dk_180 0 22 (dk_at dksX9_rests_0 6 rfl rfl)
theorem dX9_rests_9 : decode cX9_rests 9 = .ok (.iconst 0, 1) := dk_3 (dk_at dksX9_rests_0 9 rfl rfl)
theorem dX9_rests_10 : decode cX9_rests 10 = .ok (.iaload, 1) := dk_46 (dk_at dksX9_rests_0 10 rfl rfl)
theorem dX9_rests_11 : decode cX9_rests 11 = .ok (.if_icmp .ge 54, 3) := dk_162 0 54 (dk_at dksX9_rests_0 11 rfl rfl)
theorem dX9_rests_14 : decode cX9_rests 14 = .ok (.iconst 0, 1) := dk_3 (dk_at dksX9_rests_0 14 rfl rfl)
theorem dX9_rests_15 : decode cX9_rests 15 = .ok (.istore_n 3, 1) := dk_62 (dk_at dksX9_rests_0 15 rfl rfl)
theorem dX9_rests_16 : decode cX9_rests 16 = .ok (.iload_n 3, 1) := dk_29 (dk_at dksX9_rests_0 16 rfl rfl)
theorem dX9_rests_17 : decode cX9_rests 17 = .ok (.aload_n 0, 1) := dk_42 (dk_at dksX9_rests_0 17 rfl rfl)
theorem dX9_rests_18 : decode cX9_rests 18 = .ok (.getfield 22, 3) := dk_180 0 22 (dk_at dksX9_rests_0 18 rfl rfl)
theorem dX9_rests_21 : decode cX9_rests 21 = .ok (.iconst 1, 1) := dk_4 (dk_at dksX9_rests_0 21 rfl rfl)
theorem dX9_rests_22 : decode cX9_rests 22 = .ok (.iaload, 1) := dk_46 (dk_at dksX9_rests_0 22 rfl rfl)
theorem dX9_rests_23 : decode cX9_rests 23 = .ok (.if_icmp .ge 36, 3) := dk_162 0 36 (dk_at dksX9_rests_1 0 rfl rfl)
theorem dX9_rests_26 : decode cX9_rests 26 = .ok (.iload_n 1, 1) := dk_27 (dk_at dksX9_rests_1 3 rfl rfl)
theorem dX9_rests_27 : decode cX9_rests 27 = .ok (.aload_n 0, 1) := dk_42 (dk_at dksX9_rests_1 4 rfl rfl)
theorem dX9_rests_28 : decode cX9_rests 28 = .ok (.aload_n 0, 1) := dk_42 (dk_at dksX9_rests_1 5 rfl rfl)
theorem dX9_rests_29 : decode cX9_rests 29 = .ok (.iconst 0, 1) := dk_3 (dk_at dksX9_rests_1 6 rfl rfl)
theorem dX9_rests_30 : decode cX9_rests 30 = .ok (.iload_n 2, 1) := dk_28 (dk_at dksX9_rests_1 7 rfl rfl)
theorem dX9_rests_31 : decode cX9_rests 31 = .ok (.invokevirtual 54, 3) := dk_182 0 54 (dk_at dksX9_rests_1 8 rfl rfl)
theorem dX9_rests_34 : decode cX9_rests 34 = .ok (.aload_n 0, 1) := dk_42 (dk_at dksX9_rests_1 11 rfl rfl)
theorem dX9_rests_35 : decode cX9_rests 35 = .ok (.iconst 1, 1) := dk_4 (dk_at dksX9_rests_1 12 rfl rfl)
theorem dX9_rests_36 : decode cX9_rests 36 = .ok (.iload_n 3, 1) := dk_29 (dk_at dksX9_rests_1 13 rfl rfl)
theorem dX9_rests_37 : decode cX9_rests 37 = .ok (.invokevirtual 54, 3) := dk_182 0 54 (dk_at dksX9_rests_1 14 rfl rfl)
theorem dX9_rests_40 : decode cX9_rests 40 = .ok (.invokevirtual 67, 3) := dk_182 0 67 (dk_at dksX9_rests_1 17 rfl rfl)
theorem dX9_rests_43 : decode cX9_rests 43 = .ok (.ifCond .eq 7, 3) := dk_153 0 7 (dk_at dksX9_rests_1 20 rfl rfl)
theorem dX9_rests_46 : decode cX9_rests 46 = .ok (.iconst 1, 1) := dk_4 (dk_at dksX9_rests_1 23 rfl rfl)
theorem dX9_rests_47 : decode cX9_rests 47 = .ok (.goto 4, 3) := dk_167 0 4 (dk_at dksX9_rests_2 0 rfl rfl)
theorem dX9_rests_50 : decode cX9_rests 50 = .ok (.iconst 0, 1) := dk_3 (dk_at dksX9_rests_2 3 rfl rfl)
theorem dX9_rests_51 : decode cX9_rests 51 = .ok (.iadd, 1) := dk_96 (dk_at dksX9_rests_2 4 rfl rfl)
theorem dX9_rests_52 : decode cX9_rests 52 = .ok (.istore_n 1, 1) := dk_60 (dk_at dksX9_rests_2 5 rfl rfl)
theorem dX9_rests_53 : decode cX9_rests 53 = .ok (.iinc 3 1, 3) := dk_132 3 1 (dk_at dksX9_rests_2 6 rfl rfl)
theorem dX9_rests_56 : decode cX9_rests 56 = .ok (.goto (-40), 3) := dk_167 255 216 (dk_at dksX9_rests_2 9 rfl rfl)
theorem dX9_rests_59 : decode cX9_rests 59 = .ok (.iinc 2 1, 3) := dk_132 2 1 (dk_at dksX9_rests_2 12 rfl rfl)
theorem dX9_rests_62 : decode cX9_rests 62 = .ok (.goto (-58), 3) := dk_167 255 198 (dk_at dksX9_rests_2 15 rfl rfl)
theorem dX9_rests_65 : decode cX9_rests 65 = .ok (.iload_n 1, 1) := dk_27 (dk_at dksX9_rests_2 18 rfl rfl)
theorem dX9_rests_66 : decode cX9_rests 66 = .ok (.ireturn, 1) := dk_172 (dk_at dksX9_rests_2 19 rfl rfl)
abbrev cX9_isRest : ByteArray := prog_5_method_7_code
def yX9_isRest : MethodName := ⟨RX9, "isRest", "(II)Z"⟩
def dkwX9_isRest_4 : List UInt8 := [182, 0, 58, 29, 163, 0, 7, 4, 167, 0, 4, 3, 54, 4, 132, 5, 1, 167, 255, 213, 21, 4, 172]
abbrev dktX9_isRest_4 : List UInt8 := dkwX9_isRest_4 ++ []
def dkwX9_isRest_3 : List UInt8 := [180, 0, 22, 4, 46, 162, 0, 38, 21, 4, 153, 0, 33, 42, 3, 27, 42, 4, 21, 5, 182, 0, 54]
abbrev dktX9_isRest_3 : List UInt8 := dkwX9_isRest_3 ++ dktX9_isRest_4
def dkwX9_isRest_2 : List UInt8 := [161, 0, 7, 4, 167, 0, 4, 3, 54, 4, 132, 5, 1, 167, 255, 213, 3, 54, 5, 21, 5, 42]
abbrev dktX9_isRest_2 : List UInt8 := dkwX9_isRest_2 ++ dktX9_isRest_3
def dkwX9_isRest_1 : List UInt8 := [162, 0, 38, 21, 4, 153, 0, 33, 42, 3, 42, 3, 21, 5, 182, 0, 54, 28, 182, 0, 58, 29]
abbrev dktX9_isRest_1 : List UInt8 := dkwX9_isRest_1 ++ dktX9_isRest_2
def dkwX9_isRest_0 : List UInt8 := [42, 3, 27, 28, 182, 0, 58, 62, 4, 54, 4, 3, 54, 5, 21, 5, 42, 180, 0, 22, 3, 46]
abbrev dktX9_isRest_0 : List UInt8 := dkwX9_isRest_0 ++ dktX9_isRest_1
theorem dksX9_isRest_0 : cX9_isRest.data.toList.drop 0 = dktX9_isRest_0 := by decide +kernel
theorem dksX9_isRest_1 : cX9_isRest.data.toList.drop 22 = dktX9_isRest_1 := dk_seg dksX9_isRest_0 22 rfl rfl
theorem dksX9_isRest_2 : cX9_isRest.data.toList.drop 44 = dktX9_isRest_2 := dk_seg dksX9_isRest_1 22 rfl rfl
theorem dksX9_isRest_3 : cX9_isRest.data.toList.drop 66 = dktX9_isRest_3 := dk_seg dksX9_isRest_2 22 rfl rfl
theorem dksX9_isRest_4 : cX9_isRest.data.toList.drop 89 = dktX9_isRest_4 := dk_seg dksX9_isRest_3 23 rfl rfl
theorem dX9_isRest_0 : decode cX9_isRest 0 = .ok (.aload_n 0, 1) := dk_42 (dk_at dksX9_isRest_0 0 rfl rfl)
theorem dX9_isRest_1 : decode cX9_isRest 1 = .ok (.iconst 0, 1) := dk_3 (dk_at dksX9_isRest_0 1 rfl rfl)
theorem dX9_isRest_2 : decode cX9_isRest 2 = .ok (.iload_n 1, 1) := dk_27 (dk_at dksX9_isRest_0 2 rfl rfl)
theorem dX9_isRest_3 : decode cX9_isRest 3 = .ok (.iload_n 2, 1) := dk_28 (dk_at dksX9_isRest_0 3 rfl rfl)
theorem dX9_isRest_4 : decode cX9_isRest 4 = .ok (.invokevirtual 58, 3) := dk_182 0 58 (dk_at dksX9_isRest_0 4 rfl rfl)
theorem dX9_isRest_7 : decode cX9_isRest 7 = .ok (.istore_n 3, 1) := dk_62 (dk_at dksX9_isRest_0 7 rfl rfl)
theorem dX9_isRest_8 : decode cX9_isRest 8 = .ok (.iconst 1, 1) := dk_4 (dk_at dksX9_isRest_0 8 rfl rfl)
theorem dX9_isRest_9 : decode cX9_isRest 9 = .ok (.istore 4, 2) := dk_54 4 (dk_at dksX9_isRest_0 9 rfl rfl)
theorem dX9_isRest_11 : decode cX9_isRest 11 = .ok (.iconst 0, 1) := dk_3 (dk_at dksX9_isRest_0 11 rfl rfl)
theorem dX9_isRest_12 : decode cX9_isRest 12 = .ok (.istore 5, 2) := dk_54 5 (dk_at dksX9_isRest_0 12 rfl rfl)
theorem dX9_isRest_14 : decode cX9_isRest 14 = .ok (.iload 5, 2) := dk_21 5 (dk_at dksX9_isRest_0 14 rfl rfl)
theorem dX9_isRest_16 : decode cX9_isRest 16 = .ok (.aload_n 0, 1) := dk_42 (dk_at dksX9_isRest_0 16 rfl rfl)
theorem dX9_isRest_17 : decode cX9_isRest 17 = .ok (.getfield 22, 3) := dk_180 0 22 (dk_at dksX9_isRest_0 17 rfl rfl)
theorem dX9_isRest_20 : decode cX9_isRest 20 = .ok (.iconst 0, 1) := dk_3 (dk_at dksX9_isRest_0 20 rfl rfl)
theorem dX9_isRest_21 : decode cX9_isRest 21 = .ok (.iaload, 1) := dk_46 (dk_at dksX9_isRest_0 21 rfl rfl)
theorem dX9_isRest_22 : decode cX9_isRest 22 = .ok (.if_icmp .ge 38, 3) := dk_162 0 38 (dk_at dksX9_isRest_1 0 rfl rfl)
theorem dX9_isRest_25 : decode cX9_isRest 25 = .ok (.iload 4, 2) := dk_21 4 (dk_at dksX9_isRest_1 3 rfl rfl)
theorem dX9_isRest_27 : decode cX9_isRest 27 = .ok (.ifCond .eq 33, 3) := dk_153 0 33 (dk_at dksX9_isRest_1 5 rfl rfl)
theorem dX9_isRest_30 : decode cX9_isRest 30 = .ok (.aload_n 0, 1) := dk_42 (dk_at dksX9_isRest_1 8 rfl rfl)
theorem dX9_isRest_31 : decode cX9_isRest 31 = .ok (.iconst 0, 1) := dk_3 (dk_at dksX9_isRest_1 9 rfl rfl)
theorem dX9_isRest_32 : decode cX9_isRest 32 = .ok (.aload_n 0, 1) := dk_42 (dk_at dksX9_isRest_1 10 rfl rfl)
theorem dX9_isRest_33 : decode cX9_isRest 33 = .ok (.iconst 0, 1) := dk_3 (dk_at dksX9_isRest_1 11 rfl rfl)
theorem dX9_isRest_34 : decode cX9_isRest 34 = .ok (.iload 5, 2) := dk_21 5 (dk_at dksX9_isRest_1 12 rfl rfl)
theorem dX9_isRest_36 : decode cX9_isRest 36 = .ok (.invokevirtual 54, 3) := dk_182 0 54 (dk_at dksX9_isRest_1 14 rfl rfl)
theorem dX9_isRest_39 : decode cX9_isRest 39 = .ok (.iload_n 2, 1) := dk_28 (dk_at dksX9_isRest_1 17 rfl rfl)
theorem dX9_isRest_40 : decode cX9_isRest 40 = .ok (.invokevirtual 58, 3) := dk_182 0 58 (dk_at dksX9_isRest_1 18 rfl rfl)
theorem dX9_isRest_43 : decode cX9_isRest 43 = .ok (.iload_n 3, 1) := dk_29 (dk_at dksX9_isRest_1 21 rfl rfl)
theorem dX9_isRest_44 : decode cX9_isRest 44 = .ok (.if_icmp .lt 7, 3) := dk_161 0 7 (dk_at dksX9_isRest_2 0 rfl rfl)
theorem dX9_isRest_47 : decode cX9_isRest 47 = .ok (.iconst 1, 1) := dk_4 (dk_at dksX9_isRest_2 3 rfl rfl)
theorem dX9_isRest_48 : decode cX9_isRest 48 = .ok (.goto 4, 3) := dk_167 0 4 (dk_at dksX9_isRest_2 4 rfl rfl)
theorem dX9_isRest_51 : decode cX9_isRest 51 = .ok (.iconst 0, 1) := dk_3 (dk_at dksX9_isRest_2 7 rfl rfl)
theorem dX9_isRest_52 : decode cX9_isRest 52 = .ok (.istore 4, 2) := dk_54 4 (dk_at dksX9_isRest_2 8 rfl rfl)
theorem dX9_isRest_54 : decode cX9_isRest 54 = .ok (.iinc 5 1, 3) := dk_132 5 1 (dk_at dksX9_isRest_2 10 rfl rfl)
theorem dX9_isRest_57 : decode cX9_isRest 57 = .ok (.goto (-43), 3) := dk_167 255 213 (dk_at dksX9_isRest_2 13 rfl rfl)
theorem dX9_isRest_60 : decode cX9_isRest 60 = .ok (.iconst 0, 1) := dk_3 (dk_at dksX9_isRest_2 16 rfl rfl)
theorem dX9_isRest_61 : decode cX9_isRest 61 = .ok (.istore 5, 2) := dk_54 5 (dk_at dksX9_isRest_2 17 rfl rfl)
theorem dX9_isRest_63 : decode cX9_isRest 63 = .ok (.iload 5, 2) := dk_21 5 (dk_at dksX9_isRest_2 19 rfl rfl)
theorem dX9_isRest_65 : decode cX9_isRest 65 = .ok (.aload_n 0, 1) := dk_42 (dk_at dksX9_isRest_2 21 rfl rfl)
theorem dX9_isRest_66 : decode cX9_isRest 66 = .ok (.getfield 22, 3) := dk_180 0 22 (dk_at dksX9_isRest_3 0 rfl rfl)
theorem dX9_isRest_69 : decode cX9_isRest 69 = .ok (.iconst 1, 1) := dk_4 (dk_at dksX9_isRest_3 3 rfl rfl)
theorem dX9_isRest_70 : decode cX9_isRest 70 = .ok (.iaload, 1) := dk_46 (dk_at dksX9_isRest_3 4 rfl rfl)
theorem dX9_isRest_71 : decode cX9_isRest 71 = .ok (.if_icmp .ge 38, 3) := dk_162 0 38 (dk_at dksX9_isRest_3 5 rfl rfl)
theorem dX9_isRest_74 : decode cX9_isRest 74 = .ok (.iload 4, 2) := dk_21 4 (dk_at dksX9_isRest_3 8 rfl rfl)
theorem dX9_isRest_76 : decode cX9_isRest 76 = .ok (.ifCond .eq 33, 3) := dk_153 0 33 (dk_at dksX9_isRest_3 10 rfl rfl)
theorem dX9_isRest_79 : decode cX9_isRest 79 = .ok (.aload_n 0, 1) := dk_42 (dk_at dksX9_isRest_3 13 rfl rfl)
theorem dX9_isRest_80 : decode cX9_isRest 80 = .ok (.iconst 0, 1) := dk_3 (dk_at dksX9_isRest_3 14 rfl rfl)
theorem dX9_isRest_81 : decode cX9_isRest 81 = .ok (.iload_n 1, 1) := dk_27 (dk_at dksX9_isRest_3 15 rfl rfl)
theorem dX9_isRest_82 : decode cX9_isRest 82 = .ok (.aload_n 0, 1) := dk_42 (dk_at dksX9_isRest_3 16 rfl rfl)
theorem dX9_isRest_83 : decode cX9_isRest 83 = .ok (.iconst 1, 1) := dk_4 (dk_at dksX9_isRest_3 17 rfl rfl)
theorem dX9_isRest_84 : decode cX9_isRest 84 = .ok (.iload 5, 2) := dk_21 5 (dk_at dksX9_isRest_3 18 rfl rfl)
theorem dX9_isRest_86 : decode cX9_isRest 86 = .ok (.invokevirtual 54, 3) := dk_182 0 54 (dk_at dksX9_isRest_3 20 rfl rfl)
theorem dX9_isRest_89 : decode cX9_isRest 89 = .ok (.invokevirtual 58, 3) := dk_182 0 58 (dk_at dksX9_isRest_4 0 rfl rfl)
theorem dX9_isRest_92 : decode cX9_isRest 92 = .ok (.iload_n 3, 1) := dk_29 (dk_at dksX9_isRest_4 3 rfl rfl)
theorem dX9_isRest_93 : decode cX9_isRest 93 = .ok (.if_icmp .gt 7, 3) := dk_163 0 7 (dk_at dksX9_isRest_4 4 rfl rfl)
theorem dX9_isRest_96 : decode cX9_isRest 96 = .ok (.iconst 1, 1) := dk_4 (dk_at dksX9_isRest_4 7 rfl rfl)
theorem dX9_isRest_97 : decode cX9_isRest 97 = .ok (.goto 4, 3) := dk_167 0 4 (dk_at dksX9_isRest_4 8 rfl rfl)
theorem dX9_isRest_100 : decode cX9_isRest 100 = .ok (.iconst 0, 1) := dk_3 (dk_at dksX9_isRest_4 11 rfl rfl)
theorem dX9_isRest_101 : decode cX9_isRest 101 = .ok (.istore 4, 2) := dk_54 4 (dk_at dksX9_isRest_4 12 rfl rfl)
theorem dX9_isRest_103 : decode cX9_isRest 103 = .ok (.iinc 5 1, 3) := dk_132 5 1 (dk_at dksX9_isRest_4 14 rfl rfl)
theorem dX9_isRest_106 : decode cX9_isRest 106 = .ok (.goto (-43), 3) := dk_167 255 213 (dk_at dksX9_isRest_4 17 rfl rfl)
theorem dX9_isRest_109 : decode cX9_isRest 109 = .ok (.iload 4, 2) := dk_21 4 (dk_at dksX9_isRest_4 20 rfl rfl)
theorem dX9_isRest_111 : decode cX9_isRest 111 = .ok (.ireturn, 1) := dk_172 (dk_at dksX9_isRest_4 22 rfl rfl)
theorem q146 : (Jvm.Cond.initialized "WarByHours$Duel") ∈ lw_all := lw_g (lw_at lw_m1 13 rfl) rfl
theorem q579 : (Jvm.Cond.instantiable "WarByHours$Duel" (4 : Nat)) ∈ lw_all := lw_g (lw_at lw_m2 206 rfl) rfl
theorem q581 : (Jvm.Cond.instanceMethod ({ cls := "WarByHours$Duel", name := "<init>", desc := "(LWarByHours;)V" } : Jvm.MethodName)) ∈ lw_all := lw_g (lw_at lw_m2 208 rfl) rfl
theorem q582 : (Jvm.Cond.code ({ cls := "WarByHours$Duel", name := "<init>", desc := "(LWarByHours;)V" } : Jvm.MethodName) prog_5_method_1_code (2 : Nat) (Option.none : Option Jvm.ClassFile.FieldType)) ∈ lw_all := lw_g (lw_at lw_m2 209 rfl) rfl
theorem q583 : (Jvm.Cond.methodLink "WarByHours$Duel" (9 : Nat) ({ cls := "java/lang/Object", name := "<init>", desc := "()V" } : Jvm.MethodName)) ∈ lw_all := lw_g (lw_at lw_m2 210 rfl) rfl
theorem q584 : (Jvm.Cond.fieldLink "WarByHours$Duel" (15 : Nat) "WarByHours$Duel" "sets" "[I") ∈ lw_all := lw_g (lw_at lw_m2 211 rfl) rfl
theorem q585 : (Jvm.Cond.fieldLink "WarByHours$Duel" (19 : Nat) "WarByHours$Duel" "last" "[I") ∈ lw_all := lw_g (lw_at lw_m2 212 rfl) rfl
theorem q586 : (Jvm.Cond.fieldLink "WarByHours$Duel" (22 : Nat) "WarByHours$Duel" "many" "[I") ∈ lw_all := lw_g (lw_at lw_m2 213 rfl) rfl
theorem q588 : (Jvm.Cond.fieldLink "WarByHours$Duel" (3 : Nat) "WarByHours$Duel" "this$0" "LWarByHours;") ∈ lw_all := lw_g (lw_at lw_m2 215 rfl) rfl
theorem q589 : (Jvm.Cond.laysFinal "WarByHours$Duel" "WarByHours$Duel" "sets" "[I") ∈ lw_all := lw_g (lw_at lw_m2 216 rfl) rfl
theorem q590 : (Jvm.Cond.soleField "WarByHours$Duel" "sets") ∈ lw_all := lw_g (lw_at lw_m2 217 rfl) rfl
theorem q591 : (Jvm.Cond.laysFinal "WarByHours$Duel" "WarByHours$Duel" "last" "[I") ∈ lw_all := lw_g (lw_at lw_m2 218 rfl) rfl
theorem q592 : (Jvm.Cond.soleField "WarByHours$Duel" "last") ∈ lw_all := lw_g (lw_at lw_m2 219 rfl) rfl
theorem q593 : (Jvm.Cond.laysFinal "WarByHours$Duel" "WarByHours$Duel" "many" "[I") ∈ lw_all := lw_g (lw_at lw_m2 220 rfl) rfl
theorem q594 : (Jvm.Cond.soleField "WarByHours$Duel" "many") ∈ lw_all := lw_g (lw_at lw_m2 221 rfl) rfl
theorem q595 : (Jvm.Cond.laysFinal "WarByHours$Duel" "WarByHours$Duel" "this$0" "LWarByHours;") ∈ lw_all := lw_g (lw_at lw_m2 222 rfl) rfl
theorem q596 : (Jvm.Cond.soleField "WarByHours$Duel" "this$0") ∈ lw_all := lw_g (lw_at lw_m2 223 rfl) rfl
theorem q597 : (Jvm.Cond.superclass "WarByHours$Duel" "java/lang/Object") ∈ lw_all := lw_g (lw_at lw_m2 224 rfl) rfl
theorem q622 : (Jvm.Cond.fieldLinkNest "WarByHours$Duel" (25 : Nat) "WarByHours" "now" "LWarByHours$War;" "WarByHours") ∈ lw_tbl := lw_at lw_m3 9 rfl
theorem q632 : (Jvm.Cond.fieldLinkNest "WarByHours$Duel" (35 : Nat) "WarByHours" "front" "LWarByHours$Front;" "WarByHours") ∈ lw_tbl := lw_at lw_m3 19 rfl
theorem q962 : (Jvm.Cond.selects "WarByHours$Duel" ({ cls := "java/lang/Object", name := "getClass", desc := "()Ljava/lang/Class;" } : Jvm.MethodName) ({ cls := "java/lang/Object", name := "getClass", desc := "()Ljava/lang/Class;" } : Jvm.MethodName)) ∈ lw_all := lw_g (lw_at lw_m4 109 rfl) rfl
theorem q1439 : (Jvm.Cond.instanceMethod ({ cls := "WarByHours$Duel", name := "lays", desc := "(I)LWarByHours$Duel;" } : Jvm.MethodName)) ∈ lw_all := lw_g (lw_at lw_m6 106 rfl) rfl
theorem q1440 : (Jvm.Cond.selects "WarByHours$Duel" ({ cls := "WarByHours$Duel", name := "lays", desc := "(I)LWarByHours$Duel;" } : Jvm.MethodName) ({ cls := "WarByHours$Duel", name := "lays", desc := "(I)LWarByHours$Duel;" } : Jvm.MethodName)) ∈ lw_all := lw_g (lw_at lw_m6 107 rfl) rfl
theorem q1441 : (Jvm.Cond.code ({ cls := "WarByHours$Duel", name := "lays", desc := "(I)LWarByHours$Duel;" } : Jvm.MethodName) prog_5_method_2_code (6 : Nat) (Option.some (Jvm.ClassFile.FieldType.object "WarByHours$Duel"))) ∈ lw_all := lw_g (lw_at lw_m6 108 rfl) rfl
theorem q1442 : (Jvm.Cond.methodLink "WarByHours$Duel" (29 : Nat) ({ cls := "WarByHours$War", name := "all", desc := "()I" } : Jvm.MethodName)) ∈ lw_all := lw_g (lw_at lw_m6 109 rfl) rfl
theorem q1443 : (Jvm.Cond.methodLink "WarByHours$Duel" (39 : Nat) ({ cls := "WarByHours$Front", name := "goes", desc := "(I)LWarByHours$Front;" } : Jvm.MethodName)) ∈ lw_all := lw_g (lw_at lw_m6 110 rfl) rfl
theorem q1444 : (Jvm.Cond.methodLink "WarByHours$Duel" (45 : Nat) ({ cls := "WarByHours$Front", name := "last", desc := "()I" } : Jvm.MethodName)) ∈ lw_all := lw_g (lw_at lw_m6 111 rfl) rfl
theorem q1445 : (Jvm.Cond.methodLinkNest "WarByHours$Duel" (47 : Nat) ({ cls := "WarByHours", name := "ofSide", desc := "(I)I" } : Jvm.MethodName) "WarByHours") ∈ lw_tbl := lw_at lw_m6 112 rfl
theorem q1446 : (Jvm.Cond.methodLinkNest "WarByHours$Duel" (51 : Nat) ({ cls := "WarByHours", name := "priceOf", desc := "(I)I" } : Jvm.MethodName) "WarByHours") ∈ lw_tbl := lw_at lw_m6 113 rfl
theorem q1448 : (Jvm.Cond.instanceMethod ({ cls := "WarByHours$Duel", name := "of", desc := "(II)I" } : Jvm.MethodName)) ∈ lw_all := lw_g (lw_at lw_m6 115 rfl) rfl
theorem q1449 : (Jvm.Cond.selects "WarByHours$Duel" ({ cls := "WarByHours$Duel", name := "of", desc := "(II)I" } : Jvm.MethodName) ({ cls := "WarByHours$Duel", name := "of", desc := "(II)I" } : Jvm.MethodName)) ∈ lw_all := lw_g (lw_at lw_m6 116 rfl) rfl
theorem q1450 : (Jvm.Cond.code ({ cls := "WarByHours$Duel", name := "of", desc := "(II)I" } : Jvm.MethodName) prog_5_method_3_code (3 : Nat) (Option.some Jvm.ClassFile.FieldType.int)) ∈ lw_all := lw_g (lw_at lw_m6 117 rfl) rfl
theorem q1452 : (Jvm.Cond.instanceMethod ({ cls := "WarByHours$Duel", name := "good", desc := "(III)I" } : Jvm.MethodName)) ∈ lw_all := lw_g (lw_at lw_m6 119 rfl) rfl
theorem q1453 : (Jvm.Cond.selects "WarByHours$Duel" ({ cls := "WarByHours$Duel", name := "good", desc := "(III)I" } : Jvm.MethodName) ({ cls := "WarByHours$Duel", name := "good", desc := "(III)I" } : Jvm.MethodName)) ∈ lw_all := lw_g (lw_at lw_m6 120 rfl) rfl
theorem q1454 : (Jvm.Cond.code ({ cls := "WarByHours$Duel", name := "good", desc := "(III)I" } : Jvm.MethodName) prog_5_method_4_code (4 : Nat) (Option.some Jvm.ClassFile.FieldType.int)) ∈ lw_all := lw_g (lw_at lw_m6 121 rfl) rfl
theorem q1464 : (Jvm.Cond.instanceMethod ({ cls := "WarByHours$Duel", name := "best", desc := "(II)I" } : Jvm.MethodName)) ∈ lw_all := lw_g (lw_at lw_m6 131 rfl) rfl
theorem q1465 : (Jvm.Cond.selects "WarByHours$Duel" ({ cls := "WarByHours$Duel", name := "best", desc := "(II)I" } : Jvm.MethodName) ({ cls := "WarByHours$Duel", name := "best", desc := "(II)I" } : Jvm.MethodName)) ∈ lw_all := lw_g (lw_at lw_m6 132 rfl) rfl
theorem q1466 : (Jvm.Cond.code ({ cls := "WarByHours$Duel", name := "best", desc := "(II)I" } : Jvm.MethodName) prog_5_method_5_code (5 : Nat) (Option.some Jvm.ClassFile.FieldType.int)) ∈ lw_all := lw_g (lw_at lw_m6 133 rfl) rfl
theorem q1467 : (Jvm.Cond.methodLink "WarByHours$Duel" (54 : Nat) ({ cls := "WarByHours$Duel", name := "of", desc := "(II)I" } : Jvm.MethodName)) ∈ lw_all := lw_g (lw_at lw_m6 134 rfl) rfl
theorem q1468 : (Jvm.Cond.methodLink "WarByHours$Duel" (58 : Nat) ({ cls := "WarByHours$Duel", name := "good", desc := "(III)I" } : Jvm.MethodName)) ∈ lw_all := lw_g (lw_at lw_m6 135 rfl) rfl
theorem q1469 : (Jvm.Cond.methodLink "WarByHours$Duel" (62 : Nat) ({ cls := "java/lang/Math", name := "max", desc := "(II)I" } : Jvm.MethodName)) ∈ lw_all := lw_g (lw_at lw_m6 136 rfl) rfl
theorem q1476 : (Jvm.Cond.instanceMethod ({ cls := "WarByHours$Duel", name := "rests", desc := "()I" } : Jvm.MethodName)) ∈ lw_all := lw_g (lw_at lw_m6 143 rfl) rfl
theorem q1477 : (Jvm.Cond.selects "WarByHours$Duel" ({ cls := "WarByHours$Duel", name := "rests", desc := "()I" } : Jvm.MethodName) ({ cls := "WarByHours$Duel", name := "rests", desc := "()I" } : Jvm.MethodName)) ∈ lw_all := lw_g (lw_at lw_m6 144 rfl) rfl
theorem q1478 : (Jvm.Cond.code ({ cls := "WarByHours$Duel", name := "rests", desc := "()I" } : Jvm.MethodName) prog_5_method_6_code (4 : Nat) (Option.some Jvm.ClassFile.FieldType.int)) ∈ lw_all := lw_g (lw_at lw_m6 145 rfl) rfl
theorem q1479 : (Jvm.Cond.methodLink "WarByHours$Duel" (67 : Nat) ({ cls := "WarByHours$Duel", name := "isRest", desc := "(II)Z" } : Jvm.MethodName)) ∈ lw_all := lw_g (lw_at lw_m6 146 rfl) rfl
theorem q1480 : (Jvm.Cond.privateMethod ({ cls := "WarByHours$Duel", name := "isRest", desc := "(II)Z" } : Jvm.MethodName)) ∈ lw_tbl := lw_at lw_m6 147 rfl
theorem q1481 : (Jvm.Cond.instanceMethod ({ cls := "WarByHours$Duel", name := "isRest", desc := "(II)Z" } : Jvm.MethodName)) ∈ lw_all := lw_g (lw_at lw_m6 148 rfl) rfl
theorem q1482 : (Jvm.Cond.code ({ cls := "WarByHours$Duel", name := "isRest", desc := "(II)Z" } : Jvm.MethodName) prog_5_method_7_code (6 : Nat) (Option.some Jvm.ClassFile.FieldType.boolean)) ∈ lw_all := lw_g (lw_at lw_m6 149 rfl) rfl
theorem q2594 : (Jvm.Cond.castable "WarByHours$Duel" "java/lang/Object") ∈ lw_tbl := lw_at lw_m11 61 rfl
theorem in_X9 : ∀ w ∈ wsX90, w ∈ lw_all := lw_in wsX90 [589, 591, 593, 595] (by decide +kernel) (by decide +kernel)
