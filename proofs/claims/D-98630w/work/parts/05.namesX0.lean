/-! WarByHours -/
set_option maxRecDepth 100000
def RX0 : String := "WarByHours"
def TX0 : u_T := fun k => match k with
  | 0 => ("WarByHours", "slots", "[LWarByHours$Slot;", true)
  | 1 => ("WarByHours", "now", "LWarByHours$War;", false)
  | 2 => ("WarByHours", "images", "[LWarByHours$War;", true)
  | 3 => ("WarByHours", "tape", "[B", true)
  | 4 => ("WarByHours", "taped", "I", false)
  | 5 => ("WarByHours", "faultKind", "I", false)
  | 6 => ("WarByHours", "faultPlace", "I", false)
  | 7 => ("WarByHours", "front", "LWarByHours$Front;", true)
  | 8 => ("WarByHours", "worstGood", "I", false)
  | 9 => ("WarByHours", "worstSet", "I", false)
  | 10 => ("WarByHours", "send", "LWarByHours$Send;", true)
  | 11 => ("WarByHours", "fewest", "LWarByHours$Fewest;", true)
  | 12 => ("WarByHours", "risk", "LWarByHours$Risk;", true)
  | 13 => ("WarByHours", "bribe", "LWarByHours$Bribe;", true)
  | 14 => ("WarByHours", "duel", "LWarByHours$Duel;", true)
  | 15 => ("WarByHours", "hold", "LWarByHours$Hold;", true)
  | 16 => ("WarByHours", "watchBest", "I", false)
  | 17 => ("WarByHours", "watchLeaves", "I", false)
  | _ => ("WarByHours", "drawnNow", "J", false)
def tyX0 : Nat → FieldType := fun k => match k with
  | 0 => .array (.object "WarByHours$Slot")
  | 1 => .object "WarByHours$War"
  | 2 => .array (.object "WarByHours$War")
  | 3 => .array .byte
  | 4 => .int
  | 5 => .int
  | 6 => .int
  | 7 => .object "WarByHours$Front"
  | 8 => .int
  | 9 => .int
  | 10 => .object "WarByHours$Send"
  | 11 => .object "WarByHours$Fewest"
  | 12 => .object "WarByHours$Risk"
  | 13 => .object "WarByHours$Bribe"
  | 14 => .object "WarByHours$Duel"
  | 15 => .object "WarByHours$Hold"
  | 16 => .int
  | 17 => .int
  | _ => .long
abbrev wsX00 : List Cond := u_ws RX0 TX0 19
set_option maxRecDepth 100000 in
theorem nmX0 : ∀ a, a < 19 → ∀ b, b < 19 → a ≠ b → (TX0 a).2.1 ≠ (TX0 b).2.1 := by decide +kernel
set_option maxRecDepth 100000 in
theorem tyX0_ok : ∀ k, k < 19 → parseFieldDescriptor (TX0 k).2.2.1 = some (tyX0 k) := by decide +kernel
abbrev cX0_row : ByteArray := prog_1_method_5_code
def yX0_row : MethodName := ⟨RX0, "row", "(III)I"⟩
def dkwX0_row_2 : List UInt8 := [16, 253, 172]
abbrev dktX0_row_2 : List UInt8 := dkwX0_row_2 ++ []
def dkwX0_row_1 : List UInt8 := [164, 0, 6, 16, 254, 172, 42, 180, 0, 19, 27, 50, 28, 29, 182, 0, 23, 153, 0, 7, 3, 167, 0, 5]
abbrev dktX0_row_1 : List UInt8 := dkwX0_row_1 ++ dktX0_row_2
def dkwX0_row_0 : List UInt8 := [27, 184, 0, 15, 153, 0, 21, 28, 133, 9, 20, 0, 9, 184, 0, 11, 153, 0, 9, 29, 16, 60]
abbrev dktX0_row_0 : List UInt8 := dkwX0_row_0 ++ dktX0_row_1
theorem dksX0_row_0 : cX0_row.data.toList.drop 0 = dktX0_row_0 := by decide +kernel
theorem dksX0_row_1 : cX0_row.data.toList.drop 22 = dktX0_row_1 := dk_seg dksX0_row_0 22 rfl rfl
theorem dksX0_row_2 : cX0_row.data.toList.drop 46 = dktX0_row_2 := dk_seg dksX0_row_1 24 rfl rfl
theorem dX0_row_0 : decode cX0_row 0 = .ok (.iload_n 1, 1) := dk_27 (dk_at dksX0_row_0 0 rfl rfl)
theorem dX0_row_1 : decode cX0_row 1 = .ok (.invokestatic 15, 3) := dk_184 0 15 (dk_at dksX0_row_0 1 rfl rfl)
theorem dX0_row_4 : decode cX0_row 4 = .ok (.ifCond .eq 21, 3) := dk_153 0 21 (dk_at dksX0_row_0 4 rfl rfl)
theorem dX0_row_7 : decode cX0_row 7 = .ok (.iload_n 2, 1) := dk_28 (dk_at dksX0_row_0 7 rfl rfl)
theorem dX0_row_8 : decode cX0_row 8 = .ok (.i2l, 1) := dk_133 (dk_at dksX0_row_0 8 rfl rfl)
theorem dX0_row_9 : decode cX0_row 9 = .ok (.lconst 0, 1) := dk_9 (dk_at dksX0_row_0 9 rfl rfl)
theorem dX0_row_10 : decode cX0_row 10 = .ok (.ldc2_w 9, 3) := dk_20 0 9 (dk_at dksX0_row_0 10 rfl rfl)
theorem dX0_row_13 : decode cX0_row 13 = .ok (.invokestatic 11, 3) := dk_184 0 11 (dk_at dksX0_row_0 13 rfl rfl)
theorem dX0_row_16 : decode cX0_row 16 = .ok (.ifCond .eq 9, 3) := dk_153 0 9 (dk_at dksX0_row_0 16 rfl rfl)
theorem dX0_row_19 : decode cX0_row 19 = .ok (.iload_n 3, 1) := dk_29 (dk_at dksX0_row_0 19 rfl rfl)
theorem dX0_row_20 : decode cX0_row 20 = .ok (.bipush 60, 2) := dk_16 60 (dk_at dksX0_row_0 20 rfl rfl)
theorem dX0_row_22 : decode cX0_row 22 = .ok (.if_icmp .le 6, 3) := dk_164 0 6 (dk_at dksX0_row_1 0 rfl rfl)
theorem dX0_row_25 : decode cX0_row 25 = .ok (.bipush (-2), 2) := dk_16 254 (dk_at dksX0_row_1 3 rfl rfl)
theorem dX0_row_27 : decode cX0_row 27 = .ok (.ireturn, 1) := dk_172 (dk_at dksX0_row_1 5 rfl rfl)
theorem dX0_row_28 : decode cX0_row 28 = .ok (.aload_n 0, 1) := dk_42 (dk_at dksX0_row_1 6 rfl rfl)
theorem dX0_row_29 : decode cX0_row 29 = .ok (.getfield 19, 3) := dk_180 0 19 (dk_at dksX0_row_1 7 rfl rfl)
theorem dX0_row_32 : decode cX0_row 32 = .ok (.iload_n 1, 1) := dk_27 (dk_at dksX0_row_1 10 rfl rfl)
theorem dX0_row_33 : decode cX0_row 33 = .ok (.aaload, 1) := dk_50 (dk_at dksX0_row_1 11 rfl rfl)
theorem dX0_row_34 : decode cX0_row 34 = .ok (.iload_n 2, 1) := dk_28 (dk_at dksX0_row_1 12 rfl rfl)
theorem dX0_row_35 : decode cX0_row 35 = .ok (.iload_n 3, 1) := dk_29 (dk_at dksX0_row_1 13 rfl rfl)
theorem dX0_row_36 : decode cX0_row 36 = .ok (.invokevirtual 23, 3) := dk_182 0 23 (dk_at dksX0_row_1 14 rfl rfl)
theorem dX0_row_39 : decode cX0_row 39 = .ok (.ifCond .eq 7, 3) := dk_153 0 7 (dk_at dksX0_row_1 17 rfl rfl)
theorem dX0_row_42 : decode cX0_row 42 = .ok (.iconst 0, 1) := dk_3 (dk_at dksX0_row_1 20 rfl rfl)
theorem dX0_row_43 : decode cX0_row 43 = .ok (.goto 5, 3) := dk_167 0 5 (dk_at dksX0_row_1 21 rfl rfl)
theorem dX0_row_46 : decode cX0_row 46 = .ok (.bipush (-3), 2) := dk_16 253 (dk_at dksX0_row_2 0 rfl rfl)
theorem dX0_row_48 : decode cX0_row 48 = .ok (.ireturn, 1) := dk_172 (dk_at dksX0_row_2 2 rfl rfl)
abbrev cX0_isSlot : ByteArray := prog_1_method_4_code
def yX0_isSlot : MethodName := ⟨RX0, "isSlot", "(I)Z"⟩
def dkwX0_isSlot_0 : List UInt8 := [26, 133, 9, 20, 0, 9, 184, 0, 11, 172]
abbrev dktX0_isSlot_0 : List UInt8 := dkwX0_isSlot_0 ++ []
theorem dksX0_isSlot_0 : cX0_isSlot.data.toList.drop 0 = dktX0_isSlot_0 := by decide +kernel
theorem dX0_isSlot_0 : decode cX0_isSlot 0 = .ok (.iload_n 0, 1) := dk_26 (dk_at dksX0_isSlot_0 0 rfl rfl)
theorem dX0_isSlot_1 : decode cX0_isSlot 1 = .ok (.i2l, 1) := dk_133 (dk_at dksX0_isSlot_0 1 rfl rfl)
theorem dX0_isSlot_2 : decode cX0_isSlot 2 = .ok (.lconst 0, 1) := dk_9 (dk_at dksX0_isSlot_0 2 rfl rfl)
theorem dX0_isSlot_3 : decode cX0_isSlot 3 = .ok (.ldc2_w 9, 3) := dk_20 0 9 (dk_at dksX0_isSlot_0 3 rfl rfl)
theorem dX0_isSlot_6 : decode cX0_isSlot 6 = .ok (.invokestatic 11, 3) := dk_184 0 11 (dk_at dksX0_isSlot_0 6 rfl rfl)
theorem dX0_isSlot_9 : decode cX0_isSlot 9 = .ok (.ireturn, 1) := dk_172 (dk_at dksX0_isSlot_0 9 rfl rfl)
abbrev cX0_in : ByteArray := prog_1_method_1_code
def yX0_in : MethodName := ⟨RX0, "in", "(JJJ)Z"⟩
def dkwX0_in_0 : List UInt8 := [30, 32, 148, 155, 0, 14, 30, 22, 4, 148, 157, 0, 7, 4, 167, 0, 4, 3, 172]
abbrev dktX0_in_0 : List UInt8 := dkwX0_in_0 ++ []
theorem dksX0_in_0 : cX0_in.data.toList.drop 0 = dktX0_in_0 := by decide +kernel
theorem dX0_in_0 : decode cX0_in 0 = .ok (.lload_n 0, 1) := dk_30 (dk_at dksX0_in_0 0 rfl rfl)
theorem dX0_in_1 : decode cX0_in 1 = .ok (.lload_n 2, 1) := dk_32 (dk_at dksX0_in_0 1 rfl rfl)
theorem dX0_in_2 : decode cX0_in 2 = .ok (.lcmp, 1) := dk_148 (dk_at dksX0_in_0 2 rfl rfl)
theorem dX0_in_3 : decode cX0_in 3 = .ok (.ifCond .lt 14, 3) := dk_155 0 14 (dk_at dksX0_in_0 3 rfl rfl)
theorem dX0_in_6 : decode cX0_in 6 = .ok (.lload_n 0, 1) := dk_30 (dk_at dksX0_in_0 6 rfl rfl)
theorem dX0_in_7 : decode cX0_in 7 = .ok (.lload 4, 2) := dk_22 4 (dk_at dksX0_in_0 7 rfl rfl)
theorem dX0_in_9 : decode cX0_in 9 = .ok (.lcmp, 1) := dk_148 (dk_at dksX0_in_0 9 rfl rfl)
theorem dX0_in_10 : decode cX0_in 10 = .ok (.ifCond .gt 7, 3) := dk_157 0 7 (dk_at dksX0_in_0 10 rfl rfl)
theorem dX0_in_13 : decode cX0_in 13 = .ok (.iconst 1, 1) := dk_4 (dk_at dksX0_in_0 13 rfl rfl)
theorem dX0_in_14 : decode cX0_in 14 = .ok (.goto 4, 3) := dk_167 0 4 (dk_at dksX0_in_0 14 rfl rfl)
theorem dX0_in_17 : decode cX0_in 17 = .ok (.iconst 0, 1) := dk_3 (dk_at dksX0_in_0 17 rfl rfl)
theorem dX0_in_18 : decode cX0_in 18 = .ok (.ireturn, 1) := dk_172 (dk_at dksX0_in_0 18 rfl rfl)
abbrev cX0_write : ByteArray := prog_1_method_6_code
def yX0_write : MethodName := ⟨RX0, "write", "(IIJ)I"⟩
def dkwX0_write_0 : List UInt8 := [27, 184, 0, 15, 153, 0, 17, 42, 180, 0, 19, 27, 50, 28, 33, 182, 0, 29, 167, 0, 5, 16, 254, 172]
abbrev dktX0_write_0 : List UInt8 := dkwX0_write_0 ++ []
theorem dksX0_write_0 : cX0_write.data.toList.drop 0 = dktX0_write_0 := by decide +kernel
theorem dX0_write_0 : decode cX0_write 0 = .ok (.iload_n 1, 1) := dk_27 (dk_at dksX0_write_0 0 rfl rfl)
theorem dX0_write_1 : decode cX0_write 1 = .ok (.invokestatic 15, 3) := dk_184 0 15 (dk_at dksX0_write_0 1 rfl rfl)
theorem dX0_write_4 : decode cX0_write 4 = .ok (.ifCond .eq 17, 3) := dk_153 0 17 (dk_at dksX0_write_0 4 rfl rfl)
theorem dX0_write_7 : decode cX0_write 7 = .ok (.aload_n 0, 1) := dk_42 (dk_at dksX0_write_0 7 rfl rfl)
theorem dX0_write_8 : decode cX0_write 8 = .ok (.getfield 19, 3) := dk_180 0 19 (dk_at dksX0_write_0 8 rfl rfl)
theorem dX0_write_11 : decode cX0_write 11 = .ok (.iload_n 1, 1) := dk_27 (dk_at dksX0_write_0 11 rfl rfl)
theorem dX0_write_12 : decode cX0_write 12 = .ok (.aaload, 1) := dk_50 (dk_at dksX0_write_0 12 rfl rfl)
theorem dX0_write_13 : decode cX0_write 13 = .ok (.iload_n 2, 1) := dk_28 (dk_at dksX0_write_0 13 rfl rfl)
theorem dX0_write_14 : decode cX0_write 14 = .ok (.lload_n 3, 1) := dk_33 (dk_at dksX0_write_0 14 rfl rfl)
theorem dX0_write_15 : decode cX0_write 15 = .ok (.invokevirtual 29, 3) := dk_182 0 29 (dk_at dksX0_write_0 15 rfl rfl)
theorem dX0_write_18 : decode cX0_write 18 = .ok (.goto 5, 3) := dk_167 0 5 (dk_at dksX0_write_0 18 rfl rfl)
theorem dX0_write_21 : decode cX0_write 21 = .ok (.bipush (-2), 2) := dk_16 254 (dk_at dksX0_write_0 21 rfl rfl)
theorem dX0_write_23 : decode cX0_write 23 = .ok (.ireturn, 1) := dk_172 (dk_at dksX0_write_0 23 rfl rfl)
abbrev cX0_paste : ByteArray := prog_1_method_7_code
def yX0_paste : MethodName := ⟨RX0, "paste", "(IIIII)I"⟩
def dkwX0_paste_1 : List UInt8 := [180, 0, 19, 29, 50, 21, 4, 21, 5, 182, 0, 33, 167, 0, 5, 16, 254, 172]
abbrev dktX0_paste_1 : List UInt8 := dkwX0_paste_1 ++ []
def dkwX0_paste_0 : List UInt8 := [27, 184, 0, 15, 153, 0, 33, 29, 184, 0, 15, 153, 0, 26, 42, 180, 0, 19, 27, 50, 28, 42]
abbrev dktX0_paste_0 : List UInt8 := dkwX0_paste_0 ++ dktX0_paste_1
theorem dksX0_paste_0 : cX0_paste.data.toList.drop 0 = dktX0_paste_0 := by decide +kernel
theorem dksX0_paste_1 : cX0_paste.data.toList.drop 22 = dktX0_paste_1 := dk_seg dksX0_paste_0 22 rfl rfl
theorem dX0_paste_0 : decode cX0_paste 0 = .ok (.iload_n 1, 1) := dk_27 (dk_at dksX0_paste_0 0 rfl rfl)
theorem dX0_paste_1 : decode cX0_paste 1 = .ok (.invokestatic 15, 3) := dk_184 0 15 (dk_at dksX0_paste_0 1 rfl rfl)
theorem dX0_paste_4 : decode cX0_paste 4 = .ok (.ifCond .eq 33, 3) := dk_153 0 33 (dk_at dksX0_paste_0 4 rfl rfl)
theorem dX0_paste_7 : decode cX0_paste 7 = .ok (.iload_n 3, 1) := dk_29 (dk_at dksX0_paste_0 7 rfl rfl)
theorem dX0_paste_8 : decode cX0_paste 8 = .ok (.invokestatic 15, 3) := dk_184 0 15 (dk_at dksX0_paste_0 8 rfl rfl)
theorem dX0_paste_11 : decode cX0_paste 11 = .ok (.ifCond .eq 26, 3) := dk_153 0 26 (dk_at dksX0_paste_0 11 rfl rfl)
theorem dX0_paste_14 : decode cX0_paste 14 = .ok (.aload_n 0, 1) := dk_42 (dk_at dksX0_paste_0 14 rfl rfl)
theorem dX0_paste_15 : decode cX0_paste 15 = .ok (.getfield 19, 3) := dk_180 0 19 (dk_at dksX0_paste_0 15 rfl rfl)
theorem dX0_paste_18 : decode cX0_paste 18 = .ok (.iload_n 1, 1) := dk_27 (dk_at dksX0_paste_0 18 rfl rfl)
theorem dX0_paste_19 : decode cX0_paste 19 = .ok (.aaload, 1) := dk_50 (dk_at dksX0_paste_0 19 rfl rfl)
theorem dX0_paste_20 : decode cX0_paste 20 = .ok (.iload_n 2, 1) := dk_28 (dk_at dksX0_paste_0 20 rfl rfl)
theorem dX0_paste_21 : decode cX0_paste 21 = .ok (.aload_n 0, 1) := dk_42 (dk_at dksX0_paste_0 21 rfl rfl)
theorem dX0_paste_22 : decode cX0_paste 22 = .ok (.getfield 19, 3) := dk_180 0 19 (dk_at dksX0_paste_1 0 rfl rfl)
theorem dX0_paste_25 : decode cX0_paste 25 = .ok (.iload_n 3, 1) := dk_29 (dk_at dksX0_paste_1 3 rfl rfl)
theorem dX0_paste_26 : decode cX0_paste 26 = .ok (.aaload, 1) := dk_50 (dk_at dksX0_paste_1 4 rfl rfl)
theorem dX0_paste_27 : decode cX0_paste 27 = .ok (.iload 4, 2) := dk_21 4 (dk_at dksX0_paste_1 5 rfl rfl)
theorem dX0_paste_29 : decode cX0_paste 29 = .ok (.iload 5, 2) := dk_21 5 (dk_at dksX0_paste_1 7 rfl rfl)
theorem dX0_paste_31 : decode cX0_paste 31 = .ok (.invokevirtual 33, 3) := dk_182 0 33 (dk_at dksX0_paste_1 9 rfl rfl)
theorem dX0_paste_34 : decode cX0_paste 34 = .ok (.goto 5, 3) := dk_167 0 5 (dk_at dksX0_paste_1 12 rfl rfl)
theorem dX0_paste_37 : decode cX0_paste 37 = .ok (.bipush (-2), 2) := dk_16 254 (dk_at dksX0_paste_1 15 rfl rfl)
theorem dX0_paste_39 : decode cX0_paste 39 = .ok (.ireturn, 1) := dk_172 (dk_at dksX0_paste_1 17 rfl rfl)
abbrev cX0_init : ByteArray := prog_1_method_8_code
def yX0_init : MethodName := ⟨RX0, "<init>", "()V"⟩
def dkwX0_init_7 : List UInt8 := [181, 0, 110, 177]
abbrev dktX0_init_7 : List UInt8 := dkwX0_init_7 ++ []
def dkwX0_init_6 : List UInt8 := [181, 0, 96, 42, 187, 0, 100, 89, 42, 183, 0, 102, 181, 0, 103, 42, 187, 0, 107, 89, 183, 0, 109]
abbrev dktX0_init_6 : List UInt8 := dkwX0_init_6 ++ dktX0_init_7
def dkwX0_init_5 : List UInt8 := [181, 0, 82, 42, 187, 0, 86, 89, 42, 183, 0, 88, 181, 0, 89, 42, 187, 0, 93, 89, 42, 183, 0, 95]
abbrev dktX0_init_5 : List UInt8 := dkwX0_init_5 ++ dktX0_init_6
def dkwX0_init_4 : List UInt8 := [181, 0, 68, 42, 187, 0, 72, 89, 42, 183, 0, 74, 181, 0, 75, 42, 187, 0, 79, 89, 42, 183, 0, 81]
abbrev dktX0_init_4 : List UInt8 := dkwX0_init_4 ++ dktX0_init_5
def dkwX0_init_3 : List UInt8 := [17, 4, 176, 188, 8, 181, 0, 55, 42, 2, 181, 0, 59, 42, 187, 0, 63, 89, 42, 183, 0, 65]
abbrev dktX0_init_3 : List UInt8 := dkwX0_init_3 ++ dktX0_init_4
def dkwX0_init_2 : List UInt8 := [83, 181, 0, 19, 42, 187, 0, 44, 89, 183, 0, 46, 181, 0, 47, 42, 6, 189, 0, 44, 181, 0, 51, 42]
abbrev dktX0_init_2 : List UInt8 := dkwX0_init_2 ++ dktX0_init_3
def dkwX0_init_1 : List UInt8 := [89, 183, 0, 43, 83, 89, 5, 187, 0, 24, 89, 183, 0, 43, 83, 89, 6, 187, 0, 24, 89, 183, 0, 43]
abbrev dktX0_init_1 : List UInt8 := dkwX0_init_1 ++ dktX0_init_2
def dkwX0_init_0 : List UInt8 := [42, 183, 0, 37, 42, 7, 189, 0, 24, 89, 3, 187, 0, 24, 89, 183, 0, 43, 83, 89, 4, 187, 0, 24]
abbrev dktX0_init_0 : List UInt8 := dkwX0_init_0 ++ dktX0_init_1
theorem dksX0_init_0 : cX0_init.data.toList.drop 0 = dktX0_init_0 := by decide +kernel
theorem dksX0_init_1 : cX0_init.data.toList.drop 24 = dktX0_init_1 := dk_seg dksX0_init_0 24 rfl rfl
theorem dksX0_init_2 : cX0_init.data.toList.drop 48 = dktX0_init_2 := dk_seg dksX0_init_1 24 rfl rfl
theorem dksX0_init_3 : cX0_init.data.toList.drop 72 = dktX0_init_3 := dk_seg dksX0_init_2 24 rfl rfl
theorem dksX0_init_4 : cX0_init.data.toList.drop 94 = dktX0_init_4 := dk_seg dksX0_init_3 22 rfl rfl
theorem dksX0_init_5 : cX0_init.data.toList.drop 118 = dktX0_init_5 := dk_seg dksX0_init_4 24 rfl rfl
theorem dksX0_init_6 : cX0_init.data.toList.drop 142 = dktX0_init_6 := dk_seg dksX0_init_5 24 rfl rfl
theorem dksX0_init_7 : cX0_init.data.toList.drop 165 = dktX0_init_7 := dk_seg dksX0_init_6 23 rfl rfl
theorem dX0_init_0 : decode cX0_init 0 = .ok (.aload_n 0, 1) := dk_42 (dk_at dksX0_init_0 0 rfl rfl)
theorem dX0_init_1 : decode cX0_init 1 = .ok (.invokespecial 37, 3) := dk_183 0 37 (dk_at dksX0_init_0 1 rfl rfl)
theorem dX0_init_4 : decode cX0_init 4 = .ok (.aload_n 0, 1) := dk_42 (dk_at dksX0_init_0 4 rfl rfl)
theorem dX0_init_5 : decode cX0_init 5 = .ok (.iconst 4, 1) := dk_7 (dk_at dksX0_init_0 5 rfl rfl)
theorem dX0_init_6 : decode cX0_init 6 = .ok (.anewarray 24, 3) := dk_189 0 24 (dk_at dksX0_init_0 6 rfl rfl)
theorem dX0_init_9 : decode cX0_init 9 = .ok (.dup, 1) := dk_89 (dk_at dksX0_init_0 9 rfl rfl)
theorem dX0_init_10 : decode cX0_init 10 = .ok (.iconst 0, 1) := dk_3 (dk_at dksX0_init_0 10 rfl rfl)
theorem dX0_init_11 : decode cX0_init 11 = .ok (.new 24, 3) := dk_187 0 24 (dk_at dksX0_init_0 11 rfl rfl)
theorem dX0_init_14 : decode cX0_init 14 = .ok (.dup, 1) := dk_89 (dk_at dksX0_init_0 14 rfl rfl)
theorem dX0_init_15 : decode cX0_init 15 = .ok (.invokespecial 43, 3) := dk_183 0 43 (dk_at dksX0_init_0 15 rfl rfl)
theorem dX0_init_18 : decode cX0_init 18 = .ok (.aastore, 1) := dk_83 (dk_at dksX0_init_0 18 rfl rfl)
theorem dX0_init_19 : decode cX0_init 19 = .ok (.dup, 1) := dk_89 (dk_at dksX0_init_0 19 rfl rfl)
theorem dX0_init_20 : decode cX0_init 20 = .ok (.iconst 1, 1) := dk_4 (dk_at dksX0_init_0 20 rfl rfl)
theorem dX0_init_21 : decode cX0_init 21 = .ok (.new 24, 3) := dk_187 0 24 (dk_at dksX0_init_0 21 rfl rfl)
theorem dX0_init_24 : decode cX0_init 24 = .ok (.dup, 1) := dk_89 (dk_at dksX0_init_1 0 rfl rfl)
theorem dX0_init_25 : decode cX0_init 25 = .ok (.invokespecial 43, 3) := dk_183 0 43 (dk_at dksX0_init_1 1 rfl rfl)
theorem dX0_init_28 : decode cX0_init 28 = .ok (.aastore, 1) := dk_83 (dk_at dksX0_init_1 4 rfl rfl)
theorem dX0_init_29 : decode cX0_init 29 = .ok (.dup, 1) := dk_89 (dk_at dksX0_init_1 5 rfl rfl)
theorem dX0_init_30 : decode cX0_init 30 = .ok (.iconst 2, 1) := dk_5 (dk_at dksX0_init_1 6 rfl rfl)
theorem dX0_init_31 : decode cX0_init 31 = .ok (.new 24, 3) := dk_187 0 24 (dk_at dksX0_init_1 7 rfl rfl)
theorem dX0_init_34 : decode cX0_init 34 = .ok (.dup, 1) := dk_89 (dk_at dksX0_init_1 10 rfl rfl)
theorem dX0_init_35 : decode cX0_init 35 = .ok (.invokespecial 43, 3) := dk_183 0 43 (dk_at dksX0_init_1 11 rfl rfl)
theorem dX0_init_38 : decode cX0_init 38 = .ok (.aastore, 1) := dk_83 (dk_at dksX0_init_1 14 rfl rfl)
theorem dX0_init_39 : decode cX0_init 39 = .ok (.dup, 1) := dk_89 (dk_at dksX0_init_1 15 rfl rfl)
theorem dX0_init_40 : decode cX0_init 40 = .ok (.iconst 3, 1) := dk_6 (dk_at dksX0_init_1 16 rfl rfl)
theorem dX0_init_41 : decode cX0_init 41 = .ok (.new 24, 3) := dk_187 0 24 (dk_at dksX0_init_1 17 rfl rfl)
theorem dX0_init_44 : decode cX0_init 44 = .ok (.dup, 1) := dk_89 (dk_at dksX0_init_1 20 rfl rfl)
theorem dX0_init_45 : decode cX0_init 45 = .ok (.invokespecial 43, 3) := dk_183 0 43 (dk_at dksX0_init_1 21 rfl rfl)
theorem dX0_init_48 : decode cX0_init 48 = .ok (.aastore, 1) := dk_83 (dk_at dksX0_init_2 0 rfl rfl)
theorem dX0_init_49 : decode cX0_init 49 = .ok (.putfield 19, 3) := dk_181 0 19 (dk_at dksX0_init_2 1 rfl rfl)
theorem dX0_init_52 : decode cX0_init 52 = .ok (.aload_n 0, 1) := dk_42 (dk_at dksX0_init_2 4 rfl rfl)
theorem dX0_init_53 : decode cX0_init 53 = .ok (.new 44, 3) := dk_187 0 44 (dk_at dksX0_init_2 5 rfl rfl)
theorem dX0_init_56 : decode cX0_init 56 = .ok (.dup, 1) := dk_89 (dk_at dksX0_init_2 8 rfl rfl)
theorem dX0_init_57 : decode cX0_init 57 = .ok (.invokespecial 46, 3) := dk_183 0 46 (dk_at dksX0_init_2 9 rfl rfl)
theorem dX0_init_60 : decode cX0_init 60 = .ok (.putfield 47, 3) := dk_181 0 47 (dk_at dksX0_init_2 12 rfl rfl)
theorem dX0_init_63 : decode cX0_init 63 = .ok (.aload_n 0, 1) := dk_42 (dk_at dksX0_init_2 15 rfl rfl)
theorem dX0_init_64 : decode cX0_init 64 = .ok (.iconst 3, 1) := dk_6 (dk_at dksX0_init_2 16 rfl rfl)
theorem dX0_init_65 : decode cX0_init 65 = .ok (.anewarray 44, 3) := dk_189 0 44 (dk_at dksX0_init_2 17 rfl rfl)
theorem dX0_init_68 : decode cX0_init 68 = .ok (.putfield 51, 3) := dk_181 0 51 (dk_at dksX0_init_2 20 rfl rfl)
theorem dX0_init_71 : decode cX0_init 71 = .ok (.aload_n 0, 1) := dk_42 (dk_at dksX0_init_2 23 rfl rfl)
theorem dX0_init_72 : decode cX0_init 72 = .ok (.sipush 1200, 3) := dk_17 4 176 (dk_at dksX0_init_3 0 rfl rfl)
theorem dX0_init_75 : decode cX0_init 75 = .ok (.newarray .byte, 2) := dk_188_8 (dk_at dksX0_init_3 3 rfl rfl)
theorem dX0_init_77 : decode cX0_init 77 = .ok (.putfield 55, 3) := dk_181 0 55 (dk_at dksX0_init_3 5 rfl rfl)
theorem dX0_init_80 : decode cX0_init 80 = .ok (.aload_n 0, 1) := dk_42 (dk_at dksX0_init_3 8 rfl rfl)
theorem dX0_init_81 : decode cX0_init 81 = .ok (.iconst (-1), 1) := dk_2 (dk_at dksX0_init_3 9 rfl rfl)
theorem dX0_init_82 : decode cX0_init 82 = .ok (.putfield 59, 3) := dk_181 0 59 (dk_at dksX0_init_3 10 rfl rfl)
theorem dX0_init_85 : decode cX0_init 85 = .ok (.aload_n 0, 1) := dk_42 (dk_at dksX0_init_3 13 rfl rfl)
theorem dX0_init_86 : decode cX0_init 86 = .ok (.new 63, 3) := dk_187 0 63 (dk_at dksX0_init_3 14 rfl rfl)
theorem dX0_init_89 : decode cX0_init 89 = .ok (.dup, 1) := dk_89 (dk_at dksX0_init_3 17 rfl rfl)
theorem dX0_init_90 : decode cX0_init 90 = .ok (.aload_n 0, 1) := dk_42 (dk_at dksX0_init_3 18 rfl rfl)
theorem dX0_init_91 : decode cX0_init 91 = .ok (.invokespecial 65, 3) := dk_183 0 65 (dk_at dksX0_init_3 19 rfl rfl)
theorem dX0_init_94 : decode cX0_init 94 = .ok (.putfield 68, 3) := dk_181 0 68 (dk_at dksX0_init_4 0 rfl rfl)
theorem dX0_init_97 : decode cX0_init 97 = .ok (.aload_n 0, 1) := dk_42 (dk_at dksX0_init_4 3 rfl rfl)
theorem dX0_init_98 : decode cX0_init 98 = .ok (.new 72, 3) := dk_187 0 72 (dk_at dksX0_init_4 4 rfl rfl)
theorem dX0_init_101 : decode cX0_init 101 = .ok (.dup, 1) := dk_89 (dk_at dksX0_init_4 7 rfl rfl)
theorem dX0_init_102 : decode cX0_init 102 = .ok (.aload_n 0, 1) := dk_42 (dk_at dksX0_init_4 8 rfl rfl)
theorem dX0_init_103 : decode cX0_init 103 = .ok (.invokespecial 74, 3) := dk_183 0 74 (dk_at dksX0_init_4 9 rfl rfl)
theorem dX0_init_106 : decode cX0_init 106 = .ok (.putfield 75, 3) := dk_181 0 75 (dk_at dksX0_init_4 12 rfl rfl)
theorem dX0_init_109 : decode cX0_init 109 = .ok (.aload_n 0, 1) := dk_42 (dk_at dksX0_init_4 15 rfl rfl)
theorem dX0_init_110 : decode cX0_init 110 = .ok (.new 79, 3) := dk_187 0 79 (dk_at dksX0_init_4 16 rfl rfl)
theorem dX0_init_113 : decode cX0_init 113 = .ok (.dup, 1) := dk_89 (dk_at dksX0_init_4 19 rfl rfl)
theorem dX0_init_114 : decode cX0_init 114 = .ok (.aload_n 0, 1) := dk_42 (dk_at dksX0_init_4 20 rfl rfl)
theorem dX0_init_115 : decode cX0_init 115 = .ok (.invokespecial 81, 3) := dk_183 0 81 (dk_at dksX0_init_4 21 rfl rfl)
theorem dX0_init_118 : decode cX0_init 118 = .ok (.putfield 82, 3) := dk_181 0 82 (dk_at dksX0_init_5 0 rfl rfl)
theorem dX0_init_121 : decode cX0_init 121 = .ok (.aload_n 0, 1) := dk_42 (dk_at dksX0_init_5 3 rfl rfl)
theorem dX0_init_122 : decode cX0_init 122 = .ok (.new 86, 3) := dk_187 0 86 (dk_at dksX0_init_5 4 rfl rfl)
theorem dX0_init_125 : decode cX0_init 125 = .ok (.dup, 1) := dk_89 (dk_at dksX0_init_5 7 rfl rfl)
theorem dX0_init_126 : decode cX0_init 126 = .ok (.aload_n 0, 1) := dk_42 (dk_at dksX0_init_5 8 rfl rfl)
theorem dX0_init_127 : decode cX0_init 127 = .ok (.invokespecial 88, 3) := dk_183 0 88 (dk_at dksX0_init_5 9 rfl rfl)
theorem dX0_init_130 : decode cX0_init 130 = .ok (.putfield 89, 3) := dk_181 0 89 (dk_at dksX0_init_5 12 rfl rfl)
theorem dX0_init_133 : decode cX0_init 133 = .ok (.aload_n 0, 1) := dk_42 (dk_at dksX0_init_5 15 rfl rfl)
theorem dX0_init_134 : decode cX0_init 134 = .ok (.new 93, 3) := dk_187 0 93 (dk_at dksX0_init_5 16 rfl rfl)
theorem dX0_init_137 : decode cX0_init 137 = .ok (.dup, 1) := dk_89 (dk_at dksX0_init_5 19 rfl rfl)
theorem dX0_init_138 : decode cX0_init 138 = .ok (.aload_n 0, 1) := dk_42 (dk_at dksX0_init_5 20 rfl rfl)
theorem dX0_init_139 : decode cX0_init 139 = .ok (.invokespecial 95, 3) := dk_183 0 95 (dk_at dksX0_init_5 21 rfl rfl)
theorem dX0_init_142 : decode cX0_init 142 = .ok (.putfield 96, 3) := dk_181 0 96 (dk_at dksX0_init_6 0 rfl rfl)
theorem dX0_init_145 : decode cX0_init 145 = .ok (.aload_n 0, 1) := dk_42 (dk_at dksX0_init_6 3 rfl rfl)
theorem dX0_init_146 : decode cX0_init 146 = .ok (.new 100, 3) := dk_187 0 100 (dk_at dksX0_init_6 4 rfl rfl)
theorem dX0_init_149 : decode cX0_init 149 = .ok (.dup, 1) := dk_89 (dk_at dksX0_init_6 7 rfl rfl)
theorem dX0_init_150 : decode cX0_init 150 = .ok (.aload_n 0, 1) := dk_42 (dk_at dksX0_init_6 8 rfl rfl)
theorem dX0_init_151 : decode cX0_init 151 = .ok (.invokespecial 102, 3) := dk_183 0 102 (dk_at dksX0_init_6 9 rfl rfl)
theorem dX0_init_154 : decode cX0_init 154 = .ok (.putfield 103, 3) := dk_181 0 103 (dk_at dksX0_init_6 12 rfl rfl)
theorem dX0_init_157 : decode cX0_init 157 = .ok (.aload_n 0, 1) := dk_42 (dk_at dksX0_init_6 15 rfl rfl)
theorem dX0_init_158 : decode cX0_init 158 = .ok (.new 107, 3) := dk_187 0 107 (dk_at dksX0_init_6 16 rfl rfl)
theorem dX0_init_161 : decode cX0_init 161 = .ok (.dup, 1) := dk_89 (dk_at dksX0_init_6 19 rfl rfl)
theorem dX0_init_162 : decode cX0_init 162 = .ok (.invokespecial 109, 3) := dk_183 0 109 (dk_at dksX0_init_6 20 rfl rfl)
theorem dX0_init_165 : decode cX0_init 165 = .ok (.putfield 110, 3) := dk_181 0 110 (dk_at dksX0_init_7 0 rfl rfl)
theorem dX0_init_168 : decode cX0_init 168 = .ok (.return_, 1) := dk_177 (dk_at dksX0_init_7 3 rfl rfl)
abbrev cX0_feed : ByteArray := prog_1_method_9_code
def yX0_feed : MethodName := ⟨RX0, "feed", "(IIIII)I"⟩
def dkwX0_feed_4 : List UInt8 := [16, 20, 96, 181, 0, 114, 42, 180, 0, 114, 172]
abbrev dktX0_feed_4 : List UInt8 := dkwX0_feed_4 ++ []
def dkwX0_feed_3 : List UInt8 := [16, 24, 16, 8, 21, 7, 7, 112, 104, 100, 122, 145, 84, 132, 7, 1, 167, 255, 215, 42, 89, 180, 0, 114]
abbrev dktX0_feed_3 : List UInt8 := dkwX0_feed_3 ++ dktX0_feed_4
def dkwX0_feed_2 : List UInt8 := [16, 20, 162, 0, 40, 42, 180, 0, 55, 42, 180, 0, 114, 21, 7, 96, 25, 6, 21, 7, 7, 108, 46]
abbrev dktX0_feed_2 : List UInt8 := dkwX0_feed_2 ++ dktX0_feed_3
def dkwX0_feed_1 : List UInt8 := [28, 79, 89, 5, 29, 79, 89, 6, 21, 4, 79, 89, 7, 21, 5, 79, 58, 6, 3, 54, 7, 21, 7]
abbrev dktX0_feed_1 : List UInt8 := dkwX0_feed_1 ++ dktX0_feed_2
def dkwX0_feed_0 : List UInt8 := [42, 180, 0, 114, 16, 20, 96, 17, 4, 176, 164, 0, 5, 2, 172, 8, 188, 10, 89, 3, 27, 79, 89, 4]
abbrev dktX0_feed_0 : List UInt8 := dkwX0_feed_0 ++ dktX0_feed_1
theorem dksX0_feed_0 : cX0_feed.data.toList.drop 0 = dktX0_feed_0 := by decide +kernel
theorem dksX0_feed_1 : cX0_feed.data.toList.drop 24 = dktX0_feed_1 := dk_seg dksX0_feed_0 24 rfl rfl
theorem dksX0_feed_2 : cX0_feed.data.toList.drop 47 = dktX0_feed_2 := dk_seg dksX0_feed_1 23 rfl rfl
theorem dksX0_feed_3 : cX0_feed.data.toList.drop 70 = dktX0_feed_3 := dk_seg dksX0_feed_2 23 rfl rfl
theorem dksX0_feed_4 : cX0_feed.data.toList.drop 94 = dktX0_feed_4 := dk_seg dksX0_feed_3 24 rfl rfl
theorem dX0_feed_0 : decode cX0_feed 0 = .ok (.aload_n 0, 1) := dk_42 (dk_at dksX0_feed_0 0 rfl rfl)
theorem dX0_feed_1 : decode cX0_feed 1 = .ok (.getfield 114, 3) := dk_180 0 114 (dk_at dksX0_feed_0 1 rfl rfl)
theorem dX0_feed_4 : decode cX0_feed 4 = .ok (.bipush 20, 2) := dk_16 20 (dk_at dksX0_feed_0 4 rfl rfl)
theorem dX0_feed_6 : decode cX0_feed 6 = .ok (.iadd, 1) := dk_96 (dk_at dksX0_feed_0 6 rfl rfl)
theorem dX0_feed_7 : decode cX0_feed 7 = .ok (.sipush 1200, 3) := dk_17 4 176 (dk_at dksX0_feed_0 7 rfl rfl)
theorem dX0_feed_10 : decode cX0_feed 10 = .ok (.if_icmp .le 5, 3) := dk_164 0 5 (dk_at dksX0_feed_0 10 rfl rfl)
theorem dX0_feed_13 : decode cX0_feed 13 = .ok (.iconst (-1), 1) := dk_2 (dk_at dksX0_feed_0 13 rfl rfl)
theorem dX0_feed_14 : decode cX0_feed 14 = .ok (.ireturn, 1) := dk_172 (dk_at dksX0_feed_0 14 rfl rfl)
theorem dX0_feed_15 : decode cX0_feed 15 = .ok (.iconst 5, 1) := dk_8 (dk_at dksX0_feed_0 15 rfl rfl)
theorem dX0_feed_16 : decode cX0_feed 16 = .ok (.newarray .int, 2) := dk_188_10 (dk_at dksX0_feed_0 16 rfl rfl)
theorem dX0_feed_18 : decode cX0_feed 18 = .ok (.dup, 1) := dk_89 (dk_at dksX0_feed_0 18 rfl rfl)
theorem dX0_feed_19 : decode cX0_feed 19 = .ok (.iconst 0, 1) := dk_3 (dk_at dksX0_feed_0 19 rfl rfl)
theorem dX0_feed_20 : decode cX0_feed 20 = .ok (.iload_n 1, 1) := dk_27 (dk_at dksX0_feed_0 20 rfl rfl)
theorem dX0_feed_21 : decode cX0_feed 21 = .ok (.iastore, 1) := dk_79 (dk_at dksX0_feed_0 21 rfl rfl)
theorem dX0_feed_22 : decode cX0_feed 22 = .ok (.dup, 1) := dk_89 (dk_at dksX0_feed_0 22 rfl rfl)
theorem dX0_feed_23 : decode cX0_feed 23 = .ok (.iconst 1, 1) := dk_4 (dk_at dksX0_feed_0 23 rfl rfl)
theorem dX0_feed_24 : decode cX0_feed 24 = .ok (.iload_n 2, 1) := dk_28 (dk_at dksX0_feed_1 0 rfl rfl)
theorem dX0_feed_25 : decode cX0_feed 25 = .ok (.iastore, 1) := dk_79 (dk_at dksX0_feed_1 1 rfl rfl)
theorem dX0_feed_26 : decode cX0_feed 26 = .ok (.dup, 1) := dk_89 (dk_at dksX0_feed_1 2 rfl rfl)
theorem dX0_feed_27 : decode cX0_feed 27 = .ok (.iconst 2, 1) := dk_5 (dk_at dksX0_feed_1 3 rfl rfl)
theorem dX0_feed_28 : decode cX0_feed 28 = .ok (.iload_n 3, 1) := dk_29 (dk_at dksX0_feed_1 4 rfl rfl)
theorem dX0_feed_29 : decode cX0_feed 29 = .ok (.iastore, 1) := dk_79 (dk_at dksX0_feed_1 5 rfl rfl)
theorem dX0_feed_30 : decode cX0_feed 30 = .ok (.dup, 1) := dk_89 (dk_at dksX0_feed_1 6 rfl rfl)
theorem dX0_feed_31 : decode cX0_feed 31 = .ok (.iconst 3, 1) := dk_6 (dk_at dksX0_feed_1 7 rfl rfl)
theorem dX0_feed_32 : decode cX0_feed 32 = .ok (.iload 4, 2) := dk_21 4 (dk_at dksX0_feed_1 8 rfl rfl)
theorem dX0_feed_34 : decode cX0_feed 34 = .ok (.iastore, 1) := dk_79 (dk_at dksX0_feed_1 10 rfl rfl)
theorem dX0_feed_35 : decode cX0_feed 35 = .ok (.dup, 1) := dk_89 (dk_at dksX0_feed_1 11 rfl rfl)
theorem dX0_feed_36 : decode cX0_feed 36 = .ok (.iconst 4, 1) := dk_7 (dk_at dksX0_feed_1 12 rfl rfl)
theorem dX0_feed_37 : decode cX0_feed 37 = .ok (.iload 5, 2) := dk_21 5 (dk_at dksX0_feed_1 13 rfl rfl)
theorem dX0_feed_39 : decode cX0_feed 39 = .ok (.iastore, 1) := dk_79 (dk_at dksX0_feed_1 15 rfl rfl)
theorem dX0_feed_40 : decode cX0_feed 40 = .ok (.astore 6, 2) := dk_58 6 (dk_at dksX0_feed_1 16 rfl rfl)
theorem dX0_feed_42 : decode cX0_feed 42 = .ok (.iconst 0, 1) := dk_3 (dk_at dksX0_feed_1 18 rfl rfl)
theorem dX0_feed_43 : decode cX0_feed 43 = .ok (.istore 7, 2) := dk_54 7 (dk_at dksX0_feed_1 19 rfl rfl)
theorem dX0_feed_45 : decode cX0_feed 45 = .ok (.iload 7, 2) := dk_21 7 (dk_at dksX0_feed_1 21 rfl rfl)
theorem dX0_feed_47 : decode cX0_feed 47 = .ok (.bipush 20, 2) := dk_16 20 (dk_at dksX0_feed_2 0 rfl rfl)
theorem dX0_feed_49 : decode cX0_feed 49 = .ok (.if_icmp .ge 40, 3) := dk_162 0 40 (dk_at dksX0_feed_2 2 rfl rfl)
theorem dX0_feed_52 : decode cX0_feed 52 = .ok (.aload_n 0, 1) := dk_42 (dk_at dksX0_feed_2 5 rfl rfl)
theorem dX0_feed_53 : decode cX0_feed 53 = .ok (.getfield 55, 3) := dk_180 0 55 (dk_at dksX0_feed_2 6 rfl rfl)
theorem dX0_feed_56 : decode cX0_feed 56 = .ok (.aload_n 0, 1) := dk_42 (dk_at dksX0_feed_2 9 rfl rfl)
theorem dX0_feed_57 : decode cX0_feed 57 = .ok (.getfield 114, 3) := dk_180 0 114 (dk_at dksX0_feed_2 10 rfl rfl)
theorem dX0_feed_60 : decode cX0_feed 60 = .ok (.iload 7, 2) := dk_21 7 (dk_at dksX0_feed_2 13 rfl rfl)
theorem dX0_feed_62 : decode cX0_feed 62 = .ok (.iadd, 1) := dk_96 (dk_at dksX0_feed_2 15 rfl rfl)
theorem dX0_feed_63 : decode cX0_feed 63 = .ok (.aload 6, 2) := dk_25 6 (dk_at dksX0_feed_2 16 rfl rfl)
theorem dX0_feed_65 : decode cX0_feed 65 = .ok (.iload 7, 2) := dk_21 7 (dk_at dksX0_feed_2 18 rfl rfl)
theorem dX0_feed_67 : decode cX0_feed 67 = .ok (.iconst 4, 1) := dk_7 (dk_at dksX0_feed_2 20 rfl rfl)
theorem dX0_feed_68 : decode cX0_feed 68 = .ok (.idiv, 1) := dk_108 (dk_at dksX0_feed_2 21 rfl rfl)
theorem dX0_feed_69 : decode cX0_feed 69 = .ok (.iaload, 1) := dk_46 (dk_at dksX0_feed_2 22 rfl rfl)
theorem dX0_feed_70 : decode cX0_feed 70 = .ok (.bipush 24, 2) := dk_16 24 (dk_at dksX0_feed_3 0 rfl rfl)
theorem dX0_feed_72 : decode cX0_feed 72 = .ok (.bipush 8, 2) := dk_16 8 (dk_at dksX0_feed_3 2 rfl rfl)
theorem dX0_feed_74 : decode cX0_feed 74 = .ok (.iload 7, 2) := dk_21 7 (dk_at dksX0_feed_3 4 rfl rfl)
theorem dX0_feed_76 : decode cX0_feed 76 = .ok (.iconst 4, 1) := dk_7 (dk_at dksX0_feed_3 6 rfl rfl)
theorem dX0_feed_77 : decode cX0_feed 77 = .ok (.irem, 1) := dk_112 (dk_at dksX0_feed_3 7 rfl rfl)
theorem dX0_feed_78 : decode cX0_feed 78 = .ok (.imul, 1) := dk_104 (dk_at dksX0_feed_3 8 rfl rfl)
theorem dX0_feed_79 : decode cX0_feed 79 = .ok (.isub, 1) := dk_100 (dk_at dksX0_feed_3 9 rfl rfl)
theorem dX0_feed_80 : decode cX0_feed 80 = .ok (.ishr, 1) := dk_122 (dk_at dksX0_feed_3 10 rfl rfl)
theorem dX0_feed_81 : decode cX0_feed 81 = .ok (.i2b, 1) := dk_145 (dk_at dksX0_feed_3 11 rfl rfl)
theorem dX0_feed_82 : decode cX0_feed 82 = .ok (.bastore, 1) := dk_84 (dk_at dksX0_feed_3 12 rfl rfl)
theorem dX0_feed_83 : decode cX0_feed 83 = .ok (.iinc 7 1, 3) := dk_132 7 1 (dk_at dksX0_feed_3 13 rfl rfl)
theorem dX0_feed_86 : decode cX0_feed 86 = .ok (.goto (-41), 3) := dk_167 255 215 (dk_at dksX0_feed_3 16 rfl rfl)
theorem dX0_feed_89 : decode cX0_feed 89 = .ok (.aload_n 0, 1) := dk_42 (dk_at dksX0_feed_3 19 rfl rfl)
theorem dX0_feed_90 : decode cX0_feed 90 = .ok (.dup, 1) := dk_89 (dk_at dksX0_feed_3 20 rfl rfl)
theorem dX0_feed_91 : decode cX0_feed 91 = .ok (.getfield 114, 3) := dk_180 0 114 (dk_at dksX0_feed_3 21 rfl rfl)
theorem dX0_feed_94 : decode cX0_feed 94 = .ok (.bipush 20, 2) := dk_16 20 (dk_at dksX0_feed_4 0 rfl rfl)
theorem dX0_feed_96 : decode cX0_feed 96 = .ok (.iadd, 1) := dk_96 (dk_at dksX0_feed_4 2 rfl rfl)
theorem dX0_feed_97 : decode cX0_feed 97 = .ok (.putfield 114, 3) := dk_181 0 114 (dk_at dksX0_feed_4 3 rfl rfl)
theorem dX0_feed_100 : decode cX0_feed 100 = .ok (.aload_n 0, 1) := dk_42 (dk_at dksX0_feed_4 6 rfl rfl)
theorem dX0_feed_101 : decode cX0_feed 101 = .ok (.getfield 114, 3) := dk_180 0 114 (dk_at dksX0_feed_4 7 rfl rfl)
theorem dX0_feed_104 : decode cX0_feed 104 = .ok (.ireturn, 1) := dk_172 (dk_at dksX0_feed_4 10 rfl rfl)
abbrev cX0_end : ByteArray := prog_1_method_10_code
def yX0_end : MethodName := ⟨RX0, "end", "(I)I"⟩
def dkwX0_end_0 : List UInt8 := [27, 133, 9, 42, 180, 0, 114, 133, 184, 0, 11, 154, 0, 5, 2, 172, 42, 27, 181, 0, 114, 27, 172]
abbrev dktX0_end_0 : List UInt8 := dkwX0_end_0 ++ []
theorem dksX0_end_0 : cX0_end.data.toList.drop 0 = dktX0_end_0 := by decide +kernel
theorem dX0_end_0 : decode cX0_end 0 = .ok (.iload_n 1, 1) := dk_27 (dk_at dksX0_end_0 0 rfl rfl)
theorem dX0_end_1 : decode cX0_end 1 = .ok (.i2l, 1) := dk_133 (dk_at dksX0_end_0 1 rfl rfl)
theorem dX0_end_2 : decode cX0_end 2 = .ok (.lconst 0, 1) := dk_9 (dk_at dksX0_end_0 2 rfl rfl)
theorem dX0_end_3 : decode cX0_end 3 = .ok (.aload_n 0, 1) := dk_42 (dk_at dksX0_end_0 3 rfl rfl)
theorem dX0_end_4 : decode cX0_end 4 = .ok (.getfield 114, 3) := dk_180 0 114 (dk_at dksX0_end_0 4 rfl rfl)
theorem dX0_end_7 : decode cX0_end 7 = .ok (.i2l, 1) := dk_133 (dk_at dksX0_end_0 7 rfl rfl)
theorem dX0_end_8 : decode cX0_end 8 = .ok (.invokestatic 11, 3) := dk_184 0 11 (dk_at dksX0_end_0 8 rfl rfl)
theorem dX0_end_11 : decode cX0_end 11 = .ok (.ifCond .ne 5, 3) := dk_154 0 5 (dk_at dksX0_end_0 11 rfl rfl)
theorem dX0_end_14 : decode cX0_end 14 = .ok (.iconst (-1), 1) := dk_2 (dk_at dksX0_end_0 14 rfl rfl)
theorem dX0_end_15 : decode cX0_end 15 = .ok (.ireturn, 1) := dk_172 (dk_at dksX0_end_0 15 rfl rfl)
theorem dX0_end_16 : decode cX0_end 16 = .ok (.aload_n 0, 1) := dk_42 (dk_at dksX0_end_0 16 rfl rfl)
theorem dX0_end_17 : decode cX0_end 17 = .ok (.iload_n 1, 1) := dk_27 (dk_at dksX0_end_0 17 rfl rfl)
theorem dX0_end_18 : decode cX0_end 18 = .ok (.putfield 114, 3) := dk_181 0 114 (dk_at dksX0_end_0 18 rfl rfl)
theorem dX0_end_21 : decode cX0_end 21 = .ok (.iload_n 1, 1) := dk_27 (dk_at dksX0_end_0 21 rfl rfl)
theorem dX0_end_22 : decode cX0_end 22 = .ok (.ireturn, 1) := dk_172 (dk_at dksX0_end_0 22 rfl rfl)
abbrev cX0_war : ByteArray := prog_1_method_11_code
def yX0_war : MethodName := ⟨RX0, "war", "()I"⟩
def dkwX0_war_4 : List UInt8 := [181, 0, 114, 45, 191]
abbrev dktX0_war_4 : List UInt8 := dkwX0_war_4 ++ []
def dkwX0_war_3 : List UInt8 := [181, 0, 130, 42, 43, 180, 0, 141, 181, 0, 59, 16, 252, 61, 42, 3, 181, 0, 114, 28, 172, 78, 42, 3]
abbrev dktX0_war_3 : List UInt8 := dkwX0_war_3 ++ dktX0_war_4
def dkwX0_war_2 : List UInt8 := [181, 0, 59, 42, 180, 0, 47, 180, 0, 133, 61, 42, 3, 181, 0, 114, 28, 172, 76, 42, 43, 180, 0, 138]
abbrev dktX0_war_2 : List UInt8 := dkwX0_war_2 ++ dktX0_war_3
def dkwX0_war_1 : List UInt8 := [153, 0, 7, 43, 167, 0, 10, 187, 0, 44, 89, 183, 0, 46, 181, 0, 47, 42, 3, 181, 0, 130, 42, 2]
abbrev dktX0_war_1 : List UInt8 := dkwX0_war_1 ++ dktX0_war_2
def dkwX0_war_0 : List UInt8 := [187, 0, 117, 89, 42, 180, 0, 55, 42, 180, 0, 114, 183, 0, 119, 182, 0, 122, 76, 42, 43, 182, 0, 126]
abbrev dktX0_war_0 : List UInt8 := dkwX0_war_0 ++ dktX0_war_1
theorem dksX0_war_0 : cX0_war.data.toList.drop 0 = dktX0_war_0 := by decide +kernel
theorem dksX0_war_1 : cX0_war.data.toList.drop 24 = dktX0_war_1 := dk_seg dksX0_war_0 24 rfl rfl
theorem dksX0_war_2 : cX0_war.data.toList.drop 48 = dktX0_war_2 := dk_seg dksX0_war_1 24 rfl rfl
theorem dksX0_war_3 : cX0_war.data.toList.drop 72 = dktX0_war_3 := dk_seg dksX0_war_2 24 rfl rfl
theorem dksX0_war_4 : cX0_war.data.toList.drop 96 = dktX0_war_4 := dk_seg dksX0_war_3 24 rfl rfl
theorem dX0_war_0 : decode cX0_war 0 = .ok (.new 117, 3) := dk_187 0 117 (dk_at dksX0_war_0 0 rfl rfl)
theorem dX0_war_3 : decode cX0_war 3 = .ok (.dup, 1) := dk_89 (dk_at dksX0_war_0 3 rfl rfl)
theorem dX0_war_4 : decode cX0_war 4 = .ok (.aload_n 0, 1) := dk_42 (dk_at dksX0_war_0 4 rfl rfl)
theorem dX0_war_5 : decode cX0_war 5 = .ok (.getfield 55, 3) := dk_180 0 55 (dk_at dksX0_war_0 5 rfl rfl)
theorem dX0_war_8 : decode cX0_war 8 = .ok (.aload_n 0, 1) := dk_42 (dk_at dksX0_war_0 8 rfl rfl)
theorem dX0_war_9 : decode cX0_war 9 = .ok (.getfield 114, 3) := dk_180 0 114 (dk_at dksX0_war_0 9 rfl rfl)
theorem dX0_war_12 : decode cX0_war 12 = .ok (.invokespecial 119, 3) := dk_183 0 119 (dk_at dksX0_war_0 12 rfl rfl)
theorem dX0_war_15 : decode cX0_war 15 = .ok (.invokevirtual 122, 3) := dk_182 0 122 (dk_at dksX0_war_0 15 rfl rfl)
theorem dX0_war_18 : decode cX0_war 18 = .ok (.astore_n 1, 1) := dk_76 (dk_at dksX0_war_0 18 rfl rfl)
theorem dX0_war_19 : decode cX0_war 19 = .ok (.aload_n 0, 1) := dk_42 (dk_at dksX0_war_0 19 rfl rfl)
theorem dX0_war_20 : decode cX0_war 20 = .ok (.aload_n 1, 1) := dk_43 (dk_at dksX0_war_0 20 rfl rfl)
theorem dX0_war_21 : decode cX0_war 21 = .ok (.invokevirtual 126, 3) := dk_182 0 126 (dk_at dksX0_war_0 21 rfl rfl)
theorem dX0_war_24 : decode cX0_war 24 = .ok (.ifCond .eq 7, 3) := dk_153 0 7 (dk_at dksX0_war_1 0 rfl rfl)
theorem dX0_war_27 : decode cX0_war 27 = .ok (.aload_n 1, 1) := dk_43 (dk_at dksX0_war_1 3 rfl rfl)
theorem dX0_war_28 : decode cX0_war 28 = .ok (.goto 10, 3) := dk_167 0 10 (dk_at dksX0_war_1 4 rfl rfl)
theorem dX0_war_31 : decode cX0_war 31 = .ok (.new 44, 3) := dk_187 0 44 (dk_at dksX0_war_1 7 rfl rfl)
theorem dX0_war_34 : decode cX0_war 34 = .ok (.dup, 1) := dk_89 (dk_at dksX0_war_1 10 rfl rfl)
theorem dX0_war_35 : decode cX0_war 35 = .ok (.invokespecial 46, 3) := dk_183 0 46 (dk_at dksX0_war_1 11 rfl rfl)
theorem dX0_war_38 : decode cX0_war 38 = .ok (.putfield 47, 3) := dk_181 0 47 (dk_at dksX0_war_1 14 rfl rfl)
theorem dX0_war_41 : decode cX0_war 41 = .ok (.aload_n 0, 1) := dk_42 (dk_at dksX0_war_1 17 rfl rfl)
theorem dX0_war_42 : decode cX0_war 42 = .ok (.iconst 0, 1) := dk_3 (dk_at dksX0_war_1 18 rfl rfl)
theorem dX0_war_43 : decode cX0_war 43 = .ok (.putfield 130, 3) := dk_181 0 130 (dk_at dksX0_war_1 19 rfl rfl)
theorem dX0_war_46 : decode cX0_war 46 = .ok (.aload_n 0, 1) := dk_42 (dk_at dksX0_war_1 22 rfl rfl)
theorem dX0_war_47 : decode cX0_war 47 = .ok (.iconst (-1), 1) := dk_2 (dk_at dksX0_war_1 23 rfl rfl)
theorem dX0_war_48 : decode cX0_war 48 = .ok (.putfield 59, 3) := dk_181 0 59 (dk_at dksX0_war_2 0 rfl rfl)
theorem dX0_war_51 : decode cX0_war 51 = .ok (.aload_n 0, 1) := dk_42 (dk_at dksX0_war_2 3 rfl rfl)
theorem dX0_war_52 : decode cX0_war 52 = .ok (.getfield 47, 3) := dk_180 0 47 (dk_at dksX0_war_2 4 rfl rfl)
theorem dX0_war_55 : decode cX0_war 55 = .ok (.getfield 133, 3) := dk_180 0 133 (dk_at dksX0_war_2 7 rfl rfl)
theorem dX0_war_58 : decode cX0_war 58 = .ok (.istore_n 2, 1) := dk_61 (dk_at dksX0_war_2 10 rfl rfl)
theorem dX0_war_59 : decode cX0_war 59 = .ok (.aload_n 0, 1) := dk_42 (dk_at dksX0_war_2 11 rfl rfl)
theorem dX0_war_60 : decode cX0_war 60 = .ok (.iconst 0, 1) := dk_3 (dk_at dksX0_war_2 12 rfl rfl)
theorem dX0_war_61 : decode cX0_war 61 = .ok (.putfield 114, 3) := dk_181 0 114 (dk_at dksX0_war_2 13 rfl rfl)
theorem dX0_war_64 : decode cX0_war 64 = .ok (.iload_n 2, 1) := dk_28 (dk_at dksX0_war_2 16 rfl rfl)
theorem dX0_war_65 : decode cX0_war 65 = .ok (.ireturn, 1) := dk_172 (dk_at dksX0_war_2 17 rfl rfl)
theorem dX0_war_66 : decode cX0_war 66 = .ok (.astore_n 1, 1) := dk_76 (dk_at dksX0_war_2 18 rfl rfl)
theorem dX0_war_67 : decode cX0_war 67 = .ok (.aload_n 0, 1) := dk_42 (dk_at dksX0_war_2 19 rfl rfl)
theorem dX0_war_68 : decode cX0_war 68 = .ok (.aload_n 1, 1) := dk_43 (dk_at dksX0_war_2 20 rfl rfl)
theorem dX0_war_69 : decode cX0_war 69 = .ok (.getfield 138, 3) := dk_180 0 138 (dk_at dksX0_war_2 21 rfl rfl)
theorem dX0_war_72 : decode cX0_war 72 = .ok (.putfield 130, 3) := dk_181 0 130 (dk_at dksX0_war_3 0 rfl rfl)
theorem dX0_war_75 : decode cX0_war 75 = .ok (.aload_n 0, 1) := dk_42 (dk_at dksX0_war_3 3 rfl rfl)
theorem dX0_war_76 : decode cX0_war 76 = .ok (.aload_n 1, 1) := dk_43 (dk_at dksX0_war_3 4 rfl rfl)
theorem dX0_war_77 : decode cX0_war 77 = .ok (.getfield 141, 3) := dk_180 0 141 (dk_at dksX0_war_3 5 rfl rfl)
theorem dX0_war_80 : decode cX0_war 80 = .ok (.putfield 59, 3) := dk_181 0 59 (dk_at dksX0_war_3 8 rfl rfl)
theorem dX0_war_83 : decode cX0_war 83 = .ok (.bipush (-4), 2) := dk_16 252 (dk_at dksX0_war_3 11 rfl rfl)
theorem dX0_war_85 : decode cX0_war 85 = .ok (.istore_n 2, 1) := dk_61 (dk_at dksX0_war_3 13 rfl rfl)
theorem dX0_war_86 : decode cX0_war 86 = .ok (.aload_n 0, 1) := dk_42 (dk_at dksX0_war_3 14 rfl rfl)
theorem dX0_war_87 : decode cX0_war 87 = .ok (.iconst 0, 1) := dk_3 (dk_at dksX0_war_3 15 rfl rfl)
theorem dX0_war_88 : decode cX0_war 88 = .ok (.putfield 114, 3) := dk_181 0 114 (dk_at dksX0_war_3 16 rfl rfl)
theorem dX0_war_91 : decode cX0_war 91 = .ok (.iload_n 2, 1) := dk_28 (dk_at dksX0_war_3 19 rfl rfl)
theorem dX0_war_92 : decode cX0_war 92 = .ok (.ireturn, 1) := dk_172 (dk_at dksX0_war_3 20 rfl rfl)
theorem dX0_war_93 : decode cX0_war 93 = .ok (.astore_n 3, 1) := dk_78 (dk_at dksX0_war_3 21 rfl rfl)
theorem dX0_war_94 : decode cX0_war 94 = .ok (.aload_n 0, 1) := dk_42 (dk_at dksX0_war_3 22 rfl rfl)
theorem dX0_war_95 : decode cX0_war 95 = .ok (.iconst 0, 1) := dk_3 (dk_at dksX0_war_3 23 rfl rfl)
theorem dX0_war_96 : decode cX0_war 96 = .ok (.putfield 114, 3) := dk_181 0 114 (dk_at dksX0_war_4 0 rfl rfl)
theorem dX0_war_99 : decode cX0_war 99 = .ok (.aload_n 3, 1) := dk_45 (dk_at dksX0_war_4 3 rfl rfl)
theorem dX0_war_100 : decode cX0_war 100 = .ok (.athrow, 1) := dk_191 (dk_at dksX0_war_4 4 rfl rfl)
abbrev cX0_fault : ByteArray := prog_1_method_12_code
def yX0_fault : MethodName := ⟨RX0, "fault", "(I)I"⟩
def dkwX0_fault_1 : List UInt8 := [172]
abbrev dktX0_fault_1 : List UInt8 := dkwX0_fault_1 ++ []
def dkwX0_fault_0 : List UInt8 := [27, 154, 0, 10, 42, 180, 0, 130, 167, 0, 16, 27, 4, 160, 0, 10, 42, 180, 0, 59, 167, 0, 4, 2]
abbrev dktX0_fault_0 : List UInt8 := dkwX0_fault_0 ++ dktX0_fault_1
theorem dksX0_fault_0 : cX0_fault.data.toList.drop 0 = dktX0_fault_0 := by decide +kernel
theorem dksX0_fault_1 : cX0_fault.data.toList.drop 24 = dktX0_fault_1 := dk_seg dksX0_fault_0 24 rfl rfl
theorem dX0_fault_0 : decode cX0_fault 0 = .ok (.iload_n 1, 1) := dk_27 (dk_at dksX0_fault_0 0 rfl rfl)
theorem dX0_fault_1 : decode cX0_fault 1 = .ok (.ifCond .ne 10, 3) := dk_154 0 10 (dk_at dksX0_fault_0 1 rfl rfl)
theorem dX0_fault_4 : decode cX0_fault 4 = .ok (.aload_n 0, 1) := dk_42 (dk_at dksX0_fault_0 4 rfl rfl)
theorem dX0_fault_5 : decode cX0_fault 5 = .ok (.getfield 130, 3) := dk_180 0 130 (dk_at dksX0_fault_0 5 rfl rfl)
theorem dX0_fault_8 : decode cX0_fault 8 = .ok (.goto 16, 3) := dk_167 0 16 (dk_at dksX0_fault_0 8 rfl rfl)
theorem dX0_fault_11 : decode cX0_fault 11 = .ok (.iload_n 1, 1) := dk_27 (dk_at dksX0_fault_0 11 rfl rfl)
theorem dX0_fault_12 : decode cX0_fault 12 = .ok (.iconst 1, 1) := dk_4 (dk_at dksX0_fault_0 12 rfl rfl)
theorem dX0_fault_13 : decode cX0_fault 13 = .ok (.if_icmp .ne 10, 3) := dk_160 0 10 (dk_at dksX0_fault_0 13 rfl rfl)
theorem dX0_fault_16 : decode cX0_fault 16 = .ok (.aload_n 0, 1) := dk_42 (dk_at dksX0_fault_0 16 rfl rfl)
theorem dX0_fault_17 : decode cX0_fault 17 = .ok (.getfield 59, 3) := dk_180 0 59 (dk_at dksX0_fault_0 17 rfl rfl)
theorem dX0_fault_20 : decode cX0_fault 20 = .ok (.goto 4, 3) := dk_167 0 4 (dk_at dksX0_fault_0 20 rfl rfl)
theorem dX0_fault_23 : decode cX0_fault 23 = .ok (.iconst (-1), 1) := dk_2 (dk_at dksX0_fault_0 23 rfl rfl)
theorem dX0_fault_24 : decode cX0_fault 24 = .ok (.ireturn, 1) := dk_172 (dk_at dksX0_fault_1 0 rfl rfl)
abbrev cX0_train : ByteArray := prog_1_method_19_code
def yX0_train : MethodName := ⟨RX0, "train", "(II)I"⟩
def dkwX0_train_4 : List UInt8 := [172, 45, 180, 0, 189, 172]
abbrev dktX0_train_4 : List UInt8 := dkwX0_train_4 ++ []
def dkwX0_train_3 : List UInt8 := [45, 180, 0, 174, 172, 45, 180, 0, 177, 172, 45, 180, 0, 180, 172, 45, 180, 0, 183, 172, 45, 180, 0, 186]
abbrev dktX0_train_3 : List UInt8 := dkwX0_train_3 ++ dktX0_train_4
def dkwX0_train_2 : List UInt8 := [170, 0, 0, 0, 0, 59, 0, 0, 0, 0, 0, 0, 0, 4, 0, 0, 0, 34, 0, 0, 0, 39, 0, 0, 0, 44, 0, 0, 0, 49, 0, 0, 0, 54]
abbrev dktX0_train_2 : List UInt8 := dkwX0_train_2 ++ dktX0_train_3
def dkwX0_train_1 : List UInt8 := [27, 182, 0, 170, 78, 28]
abbrev dktX0_train_1 : List UInt8 := dkwX0_train_1 ++ dktX0_train_2
def dkwX0_train_0 : List UInt8 := [42, 27, 182, 0, 165, 153, 0, 15, 28, 133, 9, 20, 0, 168, 184, 0, 11, 154, 0, 6, 16, 254, 172, 42]
abbrev dktX0_train_0 : List UInt8 := dkwX0_train_0 ++ dktX0_train_1
theorem dksX0_train_0 : cX0_train.data.toList.drop 0 = dktX0_train_0 := by decide +kernel
theorem dksX0_train_1 : cX0_train.data.toList.drop 24 = dktX0_train_1 := dk_seg dksX0_train_0 24 rfl rfl
theorem dksX0_train_2 : cX0_train.data.toList.drop 30 = dktX0_train_2 := dk_seg dksX0_train_1 6 rfl rfl
theorem dksX0_train_3 : cX0_train.data.toList.drop 64 = dktX0_train_3 := dk_seg dksX0_train_2 34 rfl rfl
theorem dksX0_train_4 : cX0_train.data.toList.drop 88 = dktX0_train_4 := dk_seg dksX0_train_3 24 rfl rfl
theorem dX0_train_0 : decode cX0_train 0 = .ok (.aload_n 0, 1) := dk_42 (dk_at dksX0_train_0 0 rfl rfl)
theorem dX0_train_1 : decode cX0_train 1 = .ok (.iload_n 1, 1) := dk_27 (dk_at dksX0_train_0 1 rfl rfl)
theorem dX0_train_2 : decode cX0_train 2 = .ok (.invokevirtual 165, 3) := dk_182 0 165 (dk_at dksX0_train_0 2 rfl rfl)
theorem dX0_train_5 : decode cX0_train 5 = .ok (.ifCond .eq 15, 3) := dk_153 0 15 (dk_at dksX0_train_0 5 rfl rfl)
theorem dX0_train_8 : decode cX0_train 8 = .ok (.iload_n 2, 1) := dk_28 (dk_at dksX0_train_0 8 rfl rfl)
theorem dX0_train_9 : decode cX0_train 9 = .ok (.i2l, 1) := dk_133 (dk_at dksX0_train_0 9 rfl rfl)
theorem dX0_train_10 : decode cX0_train 10 = .ok (.lconst 0, 1) := dk_9 (dk_at dksX0_train_0 10 rfl rfl)
theorem dX0_train_11 : decode cX0_train 11 = .ok (.ldc2_w 168, 3) := dk_20 0 168 (dk_at dksX0_train_0 11 rfl rfl)
theorem dX0_train_14 : decode cX0_train 14 = .ok (.invokestatic 11, 3) := dk_184 0 11 (dk_at dksX0_train_0 14 rfl rfl)
theorem dX0_train_17 : decode cX0_train 17 = .ok (.ifCond .ne 6, 3) := dk_154 0 6 (dk_at dksX0_train_0 17 rfl rfl)
theorem dX0_train_20 : decode cX0_train 20 = .ok (.bipush (-2), 2) := dk_16 254 (dk_at dksX0_train_0 20 rfl rfl)
theorem dX0_train_22 : decode cX0_train 22 = .ok (.ireturn, 1) := dk_172 (dk_at dksX0_train_0 22 rfl rfl)
theorem dX0_train_23 : decode cX0_train 23 = .ok (.aload_n 0, 1) := dk_42 (dk_at dksX0_train_0 23 rfl rfl)
theorem dX0_train_24 : decode cX0_train 24 = .ok (.iload_n 1, 1) := dk_27 (dk_at dksX0_train_1 0 rfl rfl)
theorem dX0_train_25 : decode cX0_train 25 = .ok (.invokevirtual 170, 3) := dk_182 0 170 (dk_at dksX0_train_1 1 rfl rfl)
theorem dX0_train_28 : decode cX0_train 28 = .ok (.astore_n 3, 1) := dk_78 (dk_at dksX0_train_1 4 rfl rfl)
theorem dX0_train_29 : decode cX0_train 29 = .ok (.iload_n 2, 1) := dk_28 (dk_at dksX0_train_1 5 rfl rfl)
theorem dX0_train_30 : decode cX0_train 30 = .ok (.tableswitch 59 0 4 #[34, 39, 44, 49, 54], 34) := by decide +kernel
theorem dX0_train_64 : decode cX0_train 64 = .ok (.aload_n 3, 1) := dk_45 (dk_at dksX0_train_3 0 rfl rfl)
theorem dX0_train_65 : decode cX0_train 65 = .ok (.getfield 174, 3) := dk_180 0 174 (dk_at dksX0_train_3 1 rfl rfl)
theorem dX0_train_68 : decode cX0_train 68 = .ok (.ireturn, 1) := dk_172 (dk_at dksX0_train_3 4 rfl rfl)
theorem dX0_train_69 : decode cX0_train 69 = .ok (.aload_n 3, 1) := dk_45 (dk_at dksX0_train_3 5 rfl rfl)
theorem dX0_train_70 : decode cX0_train 70 = .ok (.getfield 177, 3) := dk_180 0 177 (dk_at dksX0_train_3 6 rfl rfl)
theorem dX0_train_73 : decode cX0_train 73 = .ok (.ireturn, 1) := dk_172 (dk_at dksX0_train_3 9 rfl rfl)
theorem dX0_train_74 : decode cX0_train 74 = .ok (.aload_n 3, 1) := dk_45 (dk_at dksX0_train_3 10 rfl rfl)
theorem dX0_train_75 : decode cX0_train 75 = .ok (.getfield 180, 3) := dk_180 0 180 (dk_at dksX0_train_3 11 rfl rfl)
theorem dX0_train_78 : decode cX0_train 78 = .ok (.ireturn, 1) := dk_172 (dk_at dksX0_train_3 14 rfl rfl)
theorem dX0_train_79 : decode cX0_train 79 = .ok (.aload_n 3, 1) := dk_45 (dk_at dksX0_train_3 15 rfl rfl)
theorem dX0_train_80 : decode cX0_train 80 = .ok (.getfield 183, 3) := dk_180 0 183 (dk_at dksX0_train_3 16 rfl rfl)
theorem dX0_train_83 : decode cX0_train 83 = .ok (.ireturn, 1) := dk_172 (dk_at dksX0_train_3 19 rfl rfl)
theorem dX0_train_84 : decode cX0_train 84 = .ok (.aload_n 3, 1) := dk_45 (dk_at dksX0_train_3 20 rfl rfl)
theorem dX0_train_85 : decode cX0_train 85 = .ok (.getfield 186, 3) := dk_180 0 186 (dk_at dksX0_train_3 21 rfl rfl)
theorem dX0_train_88 : decode cX0_train 88 = .ok (.ireturn, 1) := dk_172 (dk_at dksX0_train_4 0 rfl rfl)
theorem dX0_train_89 : decode cX0_train 89 = .ok (.aload_n 3, 1) := dk_45 (dk_at dksX0_train_4 1 rfl rfl)
theorem dX0_train_90 : decode cX0_train 90 = .ok (.getfield 189, 3) := dk_180 0 189 (dk_at dksX0_train_4 2 rfl rfl)
theorem dX0_train_93 : decode cX0_train 93 = .ok (.ireturn, 1) := dk_172 (dk_at dksX0_train_4 5 rfl rfl)
abbrev cX0_isTrain : ByteArray := prog_1_method_15_code
def yX0_isTrain : MethodName := ⟨RX0, "isTrain", "(I)Z"⟩
def dkwX0_isTrain_0 : List UInt8 := [27, 133, 9, 42, 182, 0, 160, 4, 100, 133, 184, 0, 11, 172]
abbrev dktX0_isTrain_0 : List UInt8 := dkwX0_isTrain_0 ++ []
theorem dksX0_isTrain_0 : cX0_isTrain.data.toList.drop 0 = dktX0_isTrain_0 := by decide +kernel
theorem dX0_isTrain_0 : decode cX0_isTrain 0 = .ok (.iload_n 1, 1) := dk_27 (dk_at dksX0_isTrain_0 0 rfl rfl)
theorem dX0_isTrain_1 : decode cX0_isTrain 1 = .ok (.i2l, 1) := dk_133 (dk_at dksX0_isTrain_0 1 rfl rfl)
theorem dX0_isTrain_2 : decode cX0_isTrain 2 = .ok (.lconst 0, 1) := dk_9 (dk_at dksX0_isTrain_0 2 rfl rfl)
theorem dX0_isTrain_3 : decode cX0_isTrain 3 = .ok (.aload_n 0, 1) := dk_42 (dk_at dksX0_isTrain_0 3 rfl rfl)
theorem dX0_isTrain_4 : decode cX0_isTrain 4 = .ok (.invokevirtual 160, 3) := dk_182 0 160 (dk_at dksX0_isTrain_0 4 rfl rfl)
theorem dX0_isTrain_7 : decode cX0_isTrain 7 = .ok (.iconst 1, 1) := dk_4 (dk_at dksX0_isTrain_0 7 rfl rfl)
theorem dX0_isTrain_8 : decode cX0_isTrain 8 = .ok (.isub, 1) := dk_100 (dk_at dksX0_isTrain_0 8 rfl rfl)
theorem dX0_isTrain_9 : decode cX0_isTrain 9 = .ok (.i2l, 1) := dk_133 (dk_at dksX0_isTrain_0 9 rfl rfl)
theorem dX0_isTrain_10 : decode cX0_isTrain 10 = .ok (.invokestatic 11, 3) := dk_184 0 11 (dk_at dksX0_isTrain_0 10 rfl rfl)
theorem dX0_isTrain_13 : decode cX0_isTrain 13 = .ok (.ireturn, 1) := dk_172 (dk_at dksX0_isTrain_0 13 rfl rfl)
abbrev cX0_trains : ByteArray := prog_1_method_13_code
def yX0_trains : MethodName := ⟨RX0, "trains", "()I"⟩
def dkwX0_trains_0 : List UInt8 := [42, 180, 0, 47, 180, 0, 144, 185, 0, 148, 1, 0, 172]
abbrev dktX0_trains_0 : List UInt8 := dkwX0_trains_0 ++ []
theorem dksX0_trains_0 : cX0_trains.data.toList.drop 0 = dktX0_trains_0 := by decide +kernel
theorem dX0_trains_0 : decode cX0_trains 0 = .ok (.aload_n 0, 1) := dk_42 (dk_at dksX0_trains_0 0 rfl rfl)
theorem dX0_trains_1 : decode cX0_trains 1 = .ok (.getfield 47, 3) := dk_180 0 47 (dk_at dksX0_trains_0 1 rfl rfl)
theorem dX0_trains_4 : decode cX0_trains 4 = .ok (.getfield 144, 3) := dk_180 0 144 (dk_at dksX0_trains_0 4 rfl rfl)
theorem dX0_trains_7 : decode cX0_trains 7 = .ok (.invokeinterface 148 1, 5) := by decide +kernel
theorem dX0_trains_12 : decode cX0_trains 12 = .ok (.ireturn, 1) := dk_172 (dk_at dksX0_trains_0 12 rfl rfl)
abbrev cX0_one : ByteArray := prog_1_method_14_code
def yX0_one : MethodName := ⟨RX0, "one", "(I)LWarByHours$Train;"⟩
def dkwX0_one_0 : List UInt8 := [42, 180, 0, 47, 180, 0, 144, 27, 185, 0, 154, 2, 0, 192, 0, 158, 176]
abbrev dktX0_one_0 : List UInt8 := dkwX0_one_0 ++ []
theorem dksX0_one_0 : cX0_one.data.toList.drop 0 = dktX0_one_0 := by decide +kernel
theorem dX0_one_0 : decode cX0_one 0 = .ok (.aload_n 0, 1) := dk_42 (dk_at dksX0_one_0 0 rfl rfl)
theorem dX0_one_1 : decode cX0_one 1 = .ok (.getfield 47, 3) := dk_180 0 47 (dk_at dksX0_one_0 1 rfl rfl)
theorem dX0_one_4 : decode cX0_one 4 = .ok (.getfield 144, 3) := dk_180 0 144 (dk_at dksX0_one_0 4 rfl rfl)
theorem dX0_one_7 : decode cX0_one 7 = .ok (.iload_n 1, 1) := dk_27 (dk_at dksX0_one_0 7 rfl rfl)
theorem dX0_one_8 : decode cX0_one 8 = .ok (.invokeinterface 154 2, 5) := by decide +kernel
theorem dX0_one_13 : decode cX0_one 13 = .ok (.checkcast 158, 3) := dk_192 0 158 (dk_at dksX0_one_0 13 rfl rfl)
theorem dX0_one_16 : decode cX0_one 16 = .ok (.areturn, 1) := dk_176 (dk_at dksX0_one_0 16 rfl rfl)
abbrev cX0_need : ByteArray := prog_1_method_20_code
def yX0_need : MethodName := ⟨RX0, "need", "(I)I"⟩
def dkwX0_need_0 : List UInt8 := [42, 27, 182, 0, 192, 153, 0, 15, 42, 180, 0, 47, 180, 0, 195, 27, 46, 167, 0, 5, 16, 254, 172]
abbrev dktX0_need_0 : List UInt8 := dkwX0_need_0 ++ []
theorem dksX0_need_0 : cX0_need.data.toList.drop 0 = dktX0_need_0 := by decide +kernel
theorem dX0_need_0 : decode cX0_need 0 = .ok (.aload_n 0, 1) := dk_42 (dk_at dksX0_need_0 0 rfl rfl)
theorem dX0_need_1 : decode cX0_need 1 = .ok (.iload_n 1, 1) := dk_27 (dk_at dksX0_need_0 1 rfl rfl)
theorem dX0_need_2 : decode cX0_need 2 = .ok (.invokevirtual 192, 3) := dk_182 0 192 (dk_at dksX0_need_0 2 rfl rfl)
theorem dX0_need_5 : decode cX0_need 5 = .ok (.ifCond .eq 15, 3) := dk_153 0 15 (dk_at dksX0_need_0 5 rfl rfl)
theorem dX0_need_8 : decode cX0_need 8 = .ok (.aload_n 0, 1) := dk_42 (dk_at dksX0_need_0 8 rfl rfl)
theorem dX0_need_9 : decode cX0_need 9 = .ok (.getfield 47, 3) := dk_180 0 47 (dk_at dksX0_need_0 9 rfl rfl)
theorem dX0_need_12 : decode cX0_need 12 = .ok (.getfield 195, 3) := dk_180 0 195 (dk_at dksX0_need_0 12 rfl rfl)
theorem dX0_need_15 : decode cX0_need 15 = .ok (.iload_n 1, 1) := dk_27 (dk_at dksX0_need_0 15 rfl rfl)
theorem dX0_need_16 : decode cX0_need 16 = .ok (.iaload, 1) := dk_46 (dk_at dksX0_need_0 16 rfl rfl)
theorem dX0_need_17 : decode cX0_need 17 = .ok (.goto 5, 3) := dk_167 0 5 (dk_at dksX0_need_0 17 rfl rfl)
theorem dX0_need_20 : decode cX0_need 20 = .ok (.bipush (-2), 2) := dk_16 254 (dk_at dksX0_need_0 20 rfl rfl)
theorem dX0_need_22 : decode cX0_need 22 = .ok (.ireturn, 1) := dk_172 (dk_at dksX0_need_0 22 rfl rfl)
abbrev cX0_isSide : ByteArray := prog_1_method_16_code
def yX0_isSide : MethodName := ⟨RX0, "isSide", "(I)Z"⟩
def dkwX0_isSide_1 : List UInt8 := [3, 172]
abbrev dktX0_isSide_1 : List UInt8 := dkwX0_isSide_1 ++ []
def dkwX0_isSide_0 : List UInt8 := [42, 180, 0, 47, 182, 0, 126, 153, 0, 17, 27, 133, 9, 10, 184, 0, 11, 153, 0, 7, 4, 167, 0, 4]
abbrev dktX0_isSide_0 : List UInt8 := dkwX0_isSide_0 ++ dktX0_isSide_1
theorem dksX0_isSide_0 : cX0_isSide.data.toList.drop 0 = dktX0_isSide_0 := by decide +kernel
theorem dksX0_isSide_1 : cX0_isSide.data.toList.drop 24 = dktX0_isSide_1 := dk_seg dksX0_isSide_0 24 rfl rfl
theorem dX0_isSide_0 : decode cX0_isSide 0 = .ok (.aload_n 0, 1) := dk_42 (dk_at dksX0_isSide_0 0 rfl rfl)
theorem dX0_isSide_1 : decode cX0_isSide 1 = .ok (.getfield 47, 3) := dk_180 0 47 (dk_at dksX0_isSide_0 1 rfl rfl)
theorem dX0_isSide_4 : decode cX0_isSide 4 = .ok (.invokevirtual 126, 3) := dk_182 0 126 (dk_at dksX0_isSide_0 4 rfl rfl)
theorem dX0_isSide_7 : decode cX0_isSide 7 = .ok (.ifCond .eq 17, 3) := dk_153 0 17 (dk_at dksX0_isSide_0 7 rfl rfl)
theorem dX0_isSide_10 : decode cX0_isSide 10 = .ok (.iload_n 1, 1) := dk_27 (dk_at dksX0_isSide_0 10 rfl rfl)
theorem dX0_isSide_11 : decode cX0_isSide 11 = .ok (.i2l, 1) := dk_133 (dk_at dksX0_isSide_0 11 rfl rfl)
theorem dX0_isSide_12 : decode cX0_isSide 12 = .ok (.lconst 0, 1) := dk_9 (dk_at dksX0_isSide_0 12 rfl rfl)
theorem dX0_isSide_13 : decode cX0_isSide 13 = .ok (.lconst 1, 1) := dk_10 (dk_at dksX0_isSide_0 13 rfl rfl)
theorem dX0_isSide_14 : decode cX0_isSide 14 = .ok (.invokestatic 11, 3) := dk_184 0 11 (dk_at dksX0_isSide_0 14 rfl rfl)
theorem dX0_isSide_17 : decode cX0_isSide 17 = .ok (.ifCond .eq 7, 3) := dk_153 0 7 (dk_at dksX0_isSide_0 17 rfl rfl)
theorem dX0_isSide_20 : decode cX0_isSide 20 = .ok (.iconst 1, 1) := dk_4 (dk_at dksX0_isSide_0 20 rfl rfl)
theorem dX0_isSide_21 : decode cX0_isSide 21 = .ok (.goto 4, 3) := dk_167 0 4 (dk_at dksX0_isSide_0 21 rfl rfl)
theorem dX0_isSide_24 : decode cX0_isSide 24 = .ok (.iconst 0, 1) := dk_3 (dk_at dksX0_isSide_1 0 rfl rfl)
theorem dX0_isSide_25 : decode cX0_isSide 25 = .ok (.ireturn, 1) := dk_172 (dk_at dksX0_isSide_1 1 rfl rfl)
abbrev cX0_tea : ByteArray := prog_1_method_22_code
def yX0_tea : MethodName := ⟨RX0, "tea", "(I)I"⟩
def dkwX0_tea_2 : List UInt8 := [172]
abbrev dktX0_tea_2 : List UInt8 := dkwX0_tea_2 ++ []
def dkwX0_tea_1 : List UInt8 := [184, 0, 11, 153, 0, 19, 42, 27, 182, 0, 210, 153, 0, 7, 4, 167, 0, 9, 3, 167, 0, 5, 16, 254]
abbrev dktX0_tea_1 : List UInt8 := dkwX0_tea_1 ++ dktX0_tea_2
def dkwX0_tea_0 : List UInt8 := [42, 180, 0, 47, 182, 0, 126, 153, 0, 38, 27, 133, 9, 42, 180, 0, 47, 180, 0, 207, 4, 100, 133]
abbrev dktX0_tea_0 : List UInt8 := dkwX0_tea_0 ++ dktX0_tea_1
theorem dksX0_tea_0 : cX0_tea.data.toList.drop 0 = dktX0_tea_0 := by decide +kernel
theorem dksX0_tea_1 : cX0_tea.data.toList.drop 23 = dktX0_tea_1 := dk_seg dksX0_tea_0 23 rfl rfl
theorem dksX0_tea_2 : cX0_tea.data.toList.drop 47 = dktX0_tea_2 := dk_seg dksX0_tea_1 24 rfl rfl
theorem dX0_tea_0 : decode cX0_tea 0 = .ok (.aload_n 0, 1) := dk_42 (dk_at dksX0_tea_0 0 rfl rfl)
theorem dX0_tea_1 : decode cX0_tea 1 = .ok (.getfield 47, 3) := dk_180 0 47 (dk_at dksX0_tea_0 1 rfl rfl)
theorem dX0_tea_4 : decode cX0_tea 4 = .ok (.invokevirtual 126, 3) := dk_182 0 126 (dk_at dksX0_tea_0 4 rfl rfl)
theorem dX0_tea_7 : decode cX0_tea 7 = .ok (.ifCond .eq 38, 3) := dk_153 0 38 (dk_at dksX0_tea_0 7 rfl rfl)
theorem dX0_tea_10 : decode cX0_tea 10 = .ok (.iload_n 1, 1) := dk_27 (dk_at dksX0_tea_0 10 rfl rfl)
theorem dX0_tea_11 : decode cX0_tea 11 = .ok (.i2l, 1) := dk_133 (dk_at dksX0_tea_0 11 rfl rfl)
theorem dX0_tea_12 : decode cX0_tea 12 = .ok (.lconst 0, 1) := dk_9 (dk_at dksX0_tea_0 12 rfl rfl)
theorem dX0_tea_13 : decode cX0_tea 13 = .ok (.aload_n 0, 1) := dk_42 (dk_at dksX0_tea_0 13 rfl rfl)
theorem dX0_tea_14 : decode cX0_tea 14 = .ok (.getfield 47, 3) := dk_180 0 47 (dk_at dksX0_tea_0 14 rfl rfl)
theorem dX0_tea_17 : decode cX0_tea 17 = .ok (.getfield 207, 3) := dk_180 0 207 (dk_at dksX0_tea_0 17 rfl rfl)
theorem dX0_tea_20 : decode cX0_tea 20 = .ok (.iconst 1, 1) := dk_4 (dk_at dksX0_tea_0 20 rfl rfl)
theorem dX0_tea_21 : decode cX0_tea 21 = .ok (.isub, 1) := dk_100 (dk_at dksX0_tea_0 21 rfl rfl)
theorem dX0_tea_22 : decode cX0_tea 22 = .ok (.i2l, 1) := dk_133 (dk_at dksX0_tea_0 22 rfl rfl)
theorem dX0_tea_23 : decode cX0_tea 23 = .ok (.invokestatic 11, 3) := dk_184 0 11 (dk_at dksX0_tea_1 0 rfl rfl)
theorem dX0_tea_26 : decode cX0_tea 26 = .ok (.ifCond .eq 19, 3) := dk_153 0 19 (dk_at dksX0_tea_1 3 rfl rfl)
theorem dX0_tea_29 : decode cX0_tea 29 = .ok (.aload_n 0, 1) := dk_42 (dk_at dksX0_tea_1 6 rfl rfl)
theorem dX0_tea_30 : decode cX0_tea 30 = .ok (.iload_n 1, 1) := dk_27 (dk_at dksX0_tea_1 7 rfl rfl)
theorem dX0_tea_31 : decode cX0_tea 31 = .ok (.invokevirtual 210, 3) := dk_182 0 210 (dk_at dksX0_tea_1 8 rfl rfl)
theorem dX0_tea_34 : decode cX0_tea 34 = .ok (.ifCond .eq 7, 3) := dk_153 0 7 (dk_at dksX0_tea_1 11 rfl rfl)
theorem dX0_tea_37 : decode cX0_tea 37 = .ok (.iconst 1, 1) := dk_4 (dk_at dksX0_tea_1 14 rfl rfl)
theorem dX0_tea_38 : decode cX0_tea 38 = .ok (.goto 9, 3) := dk_167 0 9 (dk_at dksX0_tea_1 15 rfl rfl)
theorem dX0_tea_41 : decode cX0_tea 41 = .ok (.iconst 0, 1) := dk_3 (dk_at dksX0_tea_1 18 rfl rfl)
theorem dX0_tea_42 : decode cX0_tea 42 = .ok (.goto 5, 3) := dk_167 0 5 (dk_at dksX0_tea_1 19 rfl rfl)
theorem dX0_tea_45 : decode cX0_tea 45 = .ok (.bipush (-2), 2) := dk_16 254 (dk_at dksX0_tea_1 22 rfl rfl)
theorem dX0_tea_47 : decode cX0_tea 47 = .ok (.ireturn, 1) := dk_172 (dk_at dksX0_tea_2 0 rfl rfl)
abbrev cX0_isTea : ByteArray := prog_1_method_21_code
def yX0_isTea : MethodName := ⟨RX0, "isTea", "(I)Z"⟩
def dkwX0_isTea_2 : List UInt8 := [167, 255, 214, 28, 172]
abbrev dktX0_isTea_2 : List UInt8 := dkwX0_isTea_2 ++ []
def dkwX0_isTea_1 : List UInt8 := [180, 0, 47, 180, 0, 199, 29, 185, 0, 154, 2, 0, 192, 0, 202, 27, 182, 0, 204, 128, 61, 132, 3, 1]
abbrev dktX0_isTea_1 : List UInt8 := dkwX0_isTea_1 ++ dktX0_isTea_2
def dkwX0_isTea_0 : List UInt8 := [3, 61, 3, 62, 29, 42, 180, 0, 47, 180, 0, 199, 185, 0, 148, 1, 0, 162, 0, 32, 28, 42]
abbrev dktX0_isTea_0 : List UInt8 := dkwX0_isTea_0 ++ dktX0_isTea_1
theorem dksX0_isTea_0 : cX0_isTea.data.toList.drop 0 = dktX0_isTea_0 := by decide +kernel
theorem dksX0_isTea_1 : cX0_isTea.data.toList.drop 22 = dktX0_isTea_1 := dk_seg dksX0_isTea_0 22 rfl rfl
theorem dksX0_isTea_2 : cX0_isTea.data.toList.drop 46 = dktX0_isTea_2 := dk_seg dksX0_isTea_1 24 rfl rfl
theorem dX0_isTea_0 : decode cX0_isTea 0 = .ok (.iconst 0, 1) := dk_3 (dk_at dksX0_isTea_0 0 rfl rfl)
theorem dX0_isTea_1 : decode cX0_isTea 1 = .ok (.istore_n 2, 1) := dk_61 (dk_at dksX0_isTea_0 1 rfl rfl)
theorem dX0_isTea_2 : decode cX0_isTea 2 = .ok (.iconst 0, 1) := dk_3 (dk_at dksX0_isTea_0 2 rfl rfl)
theorem dX0_isTea_3 : decode cX0_isTea 3 = .ok (.istore_n 3, 1) := dk_62 (dk_at dksX0_isTea_0 3 rfl rfl)
theorem dX0_isTea_4 : decode cX0_isTea 4 = .ok (.iload_n 3, 1) := dk_29 (dk_at dksX0_isTea_0 4 rfl rfl)
theorem dX0_isTea_5 : decode cX0_isTea 5 = .ok (.aload_n 0, 1) := dk_42 (dk_at dksX0_isTea_0 5 rfl rfl)
theorem dX0_isTea_6 : decode cX0_isTea 6 = .ok (.getfield 47, 3) := dk_180 0 47 (dk_at dksX0_isTea_0 6 rfl rfl)
theorem dX0_isTea_9 : decode cX0_isTea 9 = .ok (.getfield 199, 3) := dk_180 0 199 (dk_at dksX0_isTea_0 9 rfl rfl)
theorem dX0_isTea_12 : decode cX0_isTea 12 = .ok (.invokeinterface 148 1, 5) := by decide +kernel
theorem dX0_isTea_17 : decode cX0_isTea 17 = .ok (.if_icmp .ge 32, 3) := dk_162 0 32 (dk_at dksX0_isTea_0 17 rfl rfl)
theorem dX0_isTea_20 : decode cX0_isTea 20 = .ok (.iload_n 2, 1) := dk_28 (dk_at dksX0_isTea_0 20 rfl rfl)
theorem dX0_isTea_21 : decode cX0_isTea 21 = .ok (.aload_n 0, 1) := dk_42 (dk_at dksX0_isTea_0 21 rfl rfl)
theorem dX0_isTea_22 : decode cX0_isTea 22 = .ok (.getfield 47, 3) := dk_180 0 47 (dk_at dksX0_isTea_1 0 rfl rfl)
theorem dX0_isTea_25 : decode cX0_isTea 25 = .ok (.getfield 199, 3) := dk_180 0 199 (dk_at dksX0_isTea_1 3 rfl rfl)
theorem dX0_isTea_28 : decode cX0_isTea 28 = .ok (.iload_n 3, 1) := dk_29 (dk_at dksX0_isTea_1 6 rfl rfl)
theorem dX0_isTea_29 : decode cX0_isTea 29 = .ok (.invokeinterface 154 2, 5) := by decide +kernel
theorem dX0_isTea_34 : decode cX0_isTea 34 = .ok (.checkcast 202, 3) := dk_192 0 202 (dk_at dksX0_isTea_1 12 rfl rfl)
theorem dX0_isTea_37 : decode cX0_isTea 37 = .ok (.iload_n 1, 1) := dk_27 (dk_at dksX0_isTea_1 15 rfl rfl)
theorem dX0_isTea_38 : decode cX0_isTea 38 = .ok (.invokevirtual 204, 3) := dk_182 0 204 (dk_at dksX0_isTea_1 16 rfl rfl)
theorem dX0_isTea_41 : decode cX0_isTea 41 = .ok (.ior, 1) := dk_128 (dk_at dksX0_isTea_1 19 rfl rfl)
theorem dX0_isTea_42 : decode cX0_isTea 42 = .ok (.istore_n 2, 1) := dk_61 (dk_at dksX0_isTea_1 20 rfl rfl)
theorem dX0_isTea_43 : decode cX0_isTea 43 = .ok (.iinc 3 1, 3) := dk_132 3 1 (dk_at dksX0_isTea_1 21 rfl rfl)
theorem dX0_isTea_46 : decode cX0_isTea 46 = .ok (.goto (-42), 3) := dk_167 255 214 (dk_at dksX0_isTea_2 0 rfl rfl)
theorem dX0_isTea_49 : decode cX0_isTea 49 = .ok (.iload_n 2, 1) := dk_28 (dk_at dksX0_isTea_2 3 rfl rfl)
theorem dX0_isTea_50 : decode cX0_isTea 50 = .ok (.ireturn, 1) := dk_172 (dk_at dksX0_isTea_2 4 rfl rfl)
abbrev cX0_cannon : ByteArray := prog_1_method_23_code
def yX0_cannon : MethodName := ⟨RX0, "cannon", "(II)I"⟩
def dkwX0_cannon_4 : List UInt8 := [180, 0, 225, 172]
abbrev dktX0_cannon_4 : List UInt8 := dkwX0_cannon_4 ++ []
def dkwX0_cannon_3 : List UInt8 := [160, 0, 10, 45, 180, 0, 219, 167, 0, 19, 28, 5, 160, 0, 10, 45, 180, 0, 222, 167, 0, 7, 45]
abbrev dktX0_cannon_3 : List UInt8 := dkwX0_cannon_3 ++ dktX0_cannon_4
def dkwX0_cannon_2 : List UInt8 := [185, 0, 154, 2, 0, 192, 0, 216, 78, 28, 154, 0, 10, 45, 180, 0, 218, 167, 0, 31, 28, 4]
abbrev dktX0_cannon_2 : List UInt8 := dkwX0_cannon_2 ++ dktX0_cannon_3
def dkwX0_cannon_1 : List UInt8 := [28, 133, 9, 20, 0, 9, 184, 0, 11, 154, 0, 6, 16, 254, 172, 42, 180, 0, 47, 180, 0, 213, 27]
abbrev dktX0_cannon_1 : List UInt8 := dkwX0_cannon_1 ++ dktX0_cannon_2
def dkwX0_cannon_0 : List UInt8 := [27, 133, 9, 42, 180, 0, 47, 180, 0, 213, 185, 0, 148, 1, 0, 4, 100, 133, 184, 0, 11, 153, 0, 15]
abbrev dktX0_cannon_0 : List UInt8 := dkwX0_cannon_0 ++ dktX0_cannon_1
theorem dksX0_cannon_0 : cX0_cannon.data.toList.drop 0 = dktX0_cannon_0 := by decide +kernel
theorem dksX0_cannon_1 : cX0_cannon.data.toList.drop 24 = dktX0_cannon_1 := dk_seg dksX0_cannon_0 24 rfl rfl
theorem dksX0_cannon_2 : cX0_cannon.data.toList.drop 47 = dktX0_cannon_2 := dk_seg dksX0_cannon_1 23 rfl rfl
theorem dksX0_cannon_3 : cX0_cannon.data.toList.drop 69 = dktX0_cannon_3 := dk_seg dksX0_cannon_2 22 rfl rfl
theorem dksX0_cannon_4 : cX0_cannon.data.toList.drop 92 = dktX0_cannon_4 := dk_seg dksX0_cannon_3 23 rfl rfl
theorem dX0_cannon_0 : decode cX0_cannon 0 = .ok (.iload_n 1, 1) := dk_27 (dk_at dksX0_cannon_0 0 rfl rfl)
theorem dX0_cannon_1 : decode cX0_cannon 1 = .ok (.i2l, 1) := dk_133 (dk_at dksX0_cannon_0 1 rfl rfl)
theorem dX0_cannon_2 : decode cX0_cannon 2 = .ok (.lconst 0, 1) := dk_9 (dk_at dksX0_cannon_0 2 rfl rfl)
theorem dX0_cannon_3 : decode cX0_cannon 3 = .ok (.aload_n 0, 1) := dk_42 (dk_at dksX0_cannon_0 3 rfl rfl)
theorem dX0_cannon_4 : decode cX0_cannon 4 = .ok (.getfield 47, 3) := dk_180 0 47 (dk_at dksX0_cannon_0 4 rfl rfl)
theorem dX0_cannon_7 : decode cX0_cannon 7 = .ok (.getfield 213, 3) := dk_180 0 213 (dk_at dksX0_cannon_0 7 rfl rfl)
theorem dX0_cannon_10 : decode cX0_cannon 10 = .ok (.invokeinterface 148 1, 5) := by decide +kernel
theorem dX0_cannon_15 : decode cX0_cannon 15 = .ok (.iconst 1, 1) := dk_4 (dk_at dksX0_cannon_0 15 rfl rfl)
theorem dX0_cannon_16 : decode cX0_cannon 16 = .ok (.isub, 1) := dk_100 (dk_at dksX0_cannon_0 16 rfl rfl)
theorem dX0_cannon_17 : decode cX0_cannon 17 = .ok (.i2l, 1) := dk_133 (dk_at dksX0_cannon_0 17 rfl rfl)
theorem dX0_cannon_18 : decode cX0_cannon 18 = .ok (.invokestatic 11, 3) := dk_184 0 11 (dk_at dksX0_cannon_0 18 rfl rfl)
theorem dX0_cannon_21 : decode cX0_cannon 21 = .ok (.ifCond .eq 15, 3) := dk_153 0 15 (dk_at dksX0_cannon_0 21 rfl rfl)
theorem dX0_cannon_24 : decode cX0_cannon 24 = .ok (.iload_n 2, 1) := dk_28 (dk_at dksX0_cannon_1 0 rfl rfl)
theorem dX0_cannon_25 : decode cX0_cannon 25 = .ok (.i2l, 1) := dk_133 (dk_at dksX0_cannon_1 1 rfl rfl)
theorem dX0_cannon_26 : decode cX0_cannon 26 = .ok (.lconst 0, 1) := dk_9 (dk_at dksX0_cannon_1 2 rfl rfl)
theorem dX0_cannon_27 : decode cX0_cannon 27 = .ok (.ldc2_w 9, 3) := dk_20 0 9 (dk_at dksX0_cannon_1 3 rfl rfl)
theorem dX0_cannon_30 : decode cX0_cannon 30 = .ok (.invokestatic 11, 3) := dk_184 0 11 (dk_at dksX0_cannon_1 6 rfl rfl)
theorem dX0_cannon_33 : decode cX0_cannon 33 = .ok (.ifCond .ne 6, 3) := dk_154 0 6 (dk_at dksX0_cannon_1 9 rfl rfl)
theorem dX0_cannon_36 : decode cX0_cannon 36 = .ok (.bipush (-2), 2) := dk_16 254 (dk_at dksX0_cannon_1 12 rfl rfl)
theorem dX0_cannon_38 : decode cX0_cannon 38 = .ok (.ireturn, 1) := dk_172 (dk_at dksX0_cannon_1 14 rfl rfl)
theorem dX0_cannon_39 : decode cX0_cannon 39 = .ok (.aload_n 0, 1) := dk_42 (dk_at dksX0_cannon_1 15 rfl rfl)
theorem dX0_cannon_40 : decode cX0_cannon 40 = .ok (.getfield 47, 3) := dk_180 0 47 (dk_at dksX0_cannon_1 16 rfl rfl)
theorem dX0_cannon_43 : decode cX0_cannon 43 = .ok (.getfield 213, 3) := dk_180 0 213 (dk_at dksX0_cannon_1 19 rfl rfl)
theorem dX0_cannon_46 : decode cX0_cannon 46 = .ok (.iload_n 1, 1) := dk_27 (dk_at dksX0_cannon_1 22 rfl rfl)
theorem dX0_cannon_47 : decode cX0_cannon 47 = .ok (.invokeinterface 154 2, 5) := by decide +kernel
theorem dX0_cannon_52 : decode cX0_cannon 52 = .ok (.checkcast 216, 3) := dk_192 0 216 (dk_at dksX0_cannon_2 5 rfl rfl)
theorem dX0_cannon_55 : decode cX0_cannon 55 = .ok (.astore_n 3, 1) := dk_78 (dk_at dksX0_cannon_2 8 rfl rfl)
theorem dX0_cannon_56 : decode cX0_cannon 56 = .ok (.iload_n 2, 1) := dk_28 (dk_at dksX0_cannon_2 9 rfl rfl)
theorem dX0_cannon_57 : decode cX0_cannon 57 = .ok (.ifCond .ne 10, 3) := dk_154 0 10 (dk_at dksX0_cannon_2 10 rfl rfl)
theorem dX0_cannon_60 : decode cX0_cannon 60 = .ok (.aload_n 3, 1) := dk_45 (dk_at dksX0_cannon_2 13 rfl rfl)
theorem dX0_cannon_61 : decode cX0_cannon 61 = .ok (.getfield 218, 3) := dk_180 0 218 (dk_at dksX0_cannon_2 14 rfl rfl)
theorem dX0_cannon_64 : decode cX0_cannon 64 = .ok (.goto 31, 3) := dk_167 0 31 (dk_at dksX0_cannon_2 17 rfl rfl)
theorem dX0_cannon_67 : decode cX0_cannon 67 = .ok (.iload_n 2, 1) := dk_28 (dk_at dksX0_cannon_2 20 rfl rfl)
theorem dX0_cannon_68 : decode cX0_cannon 68 = .ok (.iconst 1, 1) := dk_4 (dk_at dksX0_cannon_2 21 rfl rfl)
theorem dX0_cannon_69 : decode cX0_cannon 69 = .ok (.if_icmp .ne 10, 3) := dk_160 0 10 (dk_at dksX0_cannon_3 0 rfl rfl)
theorem dX0_cannon_72 : decode cX0_cannon 72 = .ok (.aload_n 3, 1) := dk_45 (dk_at dksX0_cannon_3 3 rfl rfl)
theorem dX0_cannon_73 : decode cX0_cannon 73 = .ok (.getfield 219, 3) := dk_180 0 219 (dk_at dksX0_cannon_3 4 rfl rfl)
theorem dX0_cannon_76 : decode cX0_cannon 76 = .ok (.goto 19, 3) := dk_167 0 19 (dk_at dksX0_cannon_3 7 rfl rfl)
theorem dX0_cannon_79 : decode cX0_cannon 79 = .ok (.iload_n 2, 1) := dk_28 (dk_at dksX0_cannon_3 10 rfl rfl)
theorem dX0_cannon_80 : decode cX0_cannon 80 = .ok (.iconst 2, 1) := dk_5 (dk_at dksX0_cannon_3 11 rfl rfl)
theorem dX0_cannon_81 : decode cX0_cannon 81 = .ok (.if_icmp .ne 10, 3) := dk_160 0 10 (dk_at dksX0_cannon_3 12 rfl rfl)
theorem dX0_cannon_84 : decode cX0_cannon 84 = .ok (.aload_n 3, 1) := dk_45 (dk_at dksX0_cannon_3 15 rfl rfl)
theorem dX0_cannon_85 : decode cX0_cannon 85 = .ok (.getfield 222, 3) := dk_180 0 222 (dk_at dksX0_cannon_3 16 rfl rfl)
theorem dX0_cannon_88 : decode cX0_cannon 88 = .ok (.goto 7, 3) := dk_167 0 7 (dk_at dksX0_cannon_3 19 rfl rfl)
theorem dX0_cannon_91 : decode cX0_cannon 91 = .ok (.aload_n 3, 1) := dk_45 (dk_at dksX0_cannon_3 22 rfl rfl)
theorem dX0_cannon_92 : decode cX0_cannon 92 = .ok (.getfield 225, 3) := dk_180 0 225 (dk_at dksX0_cannon_4 0 rfl rfl)
theorem dX0_cannon_95 : decode cX0_cannon 95 = .ok (.ireturn, 1) := dk_172 (dk_at dksX0_cannon_4 3 rfl rfl)
abbrev cX0_rule : ByteArray := prog_1_method_24_code
def yX0_rule : MethodName := ⟨RX0, "rule", "(II)I"⟩
def dkwX0_rule_3 : List UInt8 := [192, 0, 202, 180, 0, 237, 167, 0, 5, 16, 254, 172]
abbrev dktX0_rule_3 : List UInt8 := dkwX0_rule_3 ++ []
def dkwX0_rule_2 : List UInt8 := [192, 0, 202, 180, 0, 234, 167, 0, 27, 42, 180, 0, 47, 180, 0, 228, 27, 185, 0, 154, 2, 0]
abbrev dktX0_rule_2 : List UInt8 := dkwX0_rule_2 ++ dktX0_rule_3
def dkwX0_rule_1 : List UInt8 := [28, 184, 0, 231, 153, 0, 51, 28, 154, 0, 25, 42, 180, 0, 47, 180, 0, 228, 27, 185, 0, 154, 2, 0]
abbrev dktX0_rule_1 : List UInt8 := dkwX0_rule_1 ++ dktX0_rule_2
def dkwX0_rule_0 : List UInt8 := [27, 133, 9, 42, 180, 0, 47, 180, 0, 228, 185, 0, 148, 1, 0, 4, 100, 133, 184, 0, 11, 153, 0, 58]
abbrev dktX0_rule_0 : List UInt8 := dkwX0_rule_0 ++ dktX0_rule_1
theorem dksX0_rule_0 : cX0_rule.data.toList.drop 0 = dktX0_rule_0 := by decide +kernel
theorem dksX0_rule_1 : cX0_rule.data.toList.drop 24 = dktX0_rule_1 := dk_seg dksX0_rule_0 24 rfl rfl
theorem dksX0_rule_2 : cX0_rule.data.toList.drop 48 = dktX0_rule_2 := dk_seg dksX0_rule_1 24 rfl rfl
theorem dksX0_rule_3 : cX0_rule.data.toList.drop 70 = dktX0_rule_3 := dk_seg dksX0_rule_2 22 rfl rfl
theorem dX0_rule_0 : decode cX0_rule 0 = .ok (.iload_n 1, 1) := dk_27 (dk_at dksX0_rule_0 0 rfl rfl)
theorem dX0_rule_1 : decode cX0_rule 1 = .ok (.i2l, 1) := dk_133 (dk_at dksX0_rule_0 1 rfl rfl)
theorem dX0_rule_2 : decode cX0_rule 2 = .ok (.lconst 0, 1) := dk_9 (dk_at dksX0_rule_0 2 rfl rfl)
theorem dX0_rule_3 : decode cX0_rule 3 = .ok (.aload_n 0, 1) := dk_42 (dk_at dksX0_rule_0 3 rfl rfl)
theorem dX0_rule_4 : decode cX0_rule 4 = .ok (.getfield 47, 3) := dk_180 0 47 (dk_at dksX0_rule_0 4 rfl rfl)
theorem dX0_rule_7 : decode cX0_rule 7 = .ok (.getfield 228, 3) := dk_180 0 228 (dk_at dksX0_rule_0 7 rfl rfl)
theorem dX0_rule_10 : decode cX0_rule 10 = .ok (.invokeinterface 148 1, 5) := by decide +kernel
theorem dX0_rule_15 : decode cX0_rule 15 = .ok (.iconst 1, 1) := dk_4 (dk_at dksX0_rule_0 15 rfl rfl)
theorem dX0_rule_16 : decode cX0_rule 16 = .ok (.isub, 1) := dk_100 (dk_at dksX0_rule_0 16 rfl rfl)
theorem dX0_rule_17 : decode cX0_rule 17 = .ok (.i2l, 1) := dk_133 (dk_at dksX0_rule_0 17 rfl rfl)
theorem dX0_rule_18 : decode cX0_rule 18 = .ok (.invokestatic 11, 3) := dk_184 0 11 (dk_at dksX0_rule_0 18 rfl rfl)
theorem dX0_rule_21 : decode cX0_rule 21 = .ok (.ifCond .eq 58, 3) := dk_153 0 58 (dk_at dksX0_rule_0 21 rfl rfl)
theorem dX0_rule_24 : decode cX0_rule 24 = .ok (.iload_n 2, 1) := dk_28 (dk_at dksX0_rule_1 0 rfl rfl)
theorem dX0_rule_25 : decode cX0_rule 25 = .ok (.invokestatic 231, 3) := dk_184 0 231 (dk_at dksX0_rule_1 1 rfl rfl)
theorem dX0_rule_28 : decode cX0_rule 28 = .ok (.ifCond .eq 51, 3) := dk_153 0 51 (dk_at dksX0_rule_1 4 rfl rfl)
theorem dX0_rule_31 : decode cX0_rule 31 = .ok (.iload_n 2, 1) := dk_28 (dk_at dksX0_rule_1 7 rfl rfl)
theorem dX0_rule_32 : decode cX0_rule 32 = .ok (.ifCond .ne 25, 3) := dk_154 0 25 (dk_at dksX0_rule_1 8 rfl rfl)
theorem dX0_rule_35 : decode cX0_rule 35 = .ok (.aload_n 0, 1) := dk_42 (dk_at dksX0_rule_1 11 rfl rfl)
theorem dX0_rule_36 : decode cX0_rule 36 = .ok (.getfield 47, 3) := dk_180 0 47 (dk_at dksX0_rule_1 12 rfl rfl)
theorem dX0_rule_39 : decode cX0_rule 39 = .ok (.getfield 228, 3) := dk_180 0 228 (dk_at dksX0_rule_1 15 rfl rfl)
theorem dX0_rule_42 : decode cX0_rule 42 = .ok (.iload_n 1, 1) := dk_27 (dk_at dksX0_rule_1 18 rfl rfl)
theorem dX0_rule_43 : decode cX0_rule 43 = .ok (.invokeinterface 154 2, 5) := by decide +kernel
theorem dX0_rule_48 : decode cX0_rule 48 = .ok (.checkcast 202, 3) := dk_192 0 202 (dk_at dksX0_rule_2 0 rfl rfl)
theorem dX0_rule_51 : decode cX0_rule 51 = .ok (.getfield 234, 3) := dk_180 0 234 (dk_at dksX0_rule_2 3 rfl rfl)
theorem dX0_rule_54 : decode cX0_rule 54 = .ok (.goto 27, 3) := dk_167 0 27 (dk_at dksX0_rule_2 6 rfl rfl)
theorem dX0_rule_57 : decode cX0_rule 57 = .ok (.aload_n 0, 1) := dk_42 (dk_at dksX0_rule_2 9 rfl rfl)
theorem dX0_rule_58 : decode cX0_rule 58 = .ok (.getfield 47, 3) := dk_180 0 47 (dk_at dksX0_rule_2 10 rfl rfl)
theorem dX0_rule_61 : decode cX0_rule 61 = .ok (.getfield 228, 3) := dk_180 0 228 (dk_at dksX0_rule_2 13 rfl rfl)
theorem dX0_rule_64 : decode cX0_rule 64 = .ok (.iload_n 1, 1) := dk_27 (dk_at dksX0_rule_2 16 rfl rfl)
theorem dX0_rule_65 : decode cX0_rule 65 = .ok (.invokeinterface 154 2, 5) := by decide +kernel
theorem dX0_rule_70 : decode cX0_rule 70 = .ok (.checkcast 202, 3) := dk_192 0 202 (dk_at dksX0_rule_3 0 rfl rfl)
theorem dX0_rule_73 : decode cX0_rule 73 = .ok (.getfield 237, 3) := dk_180 0 237 (dk_at dksX0_rule_3 3 rfl rfl)
theorem dX0_rule_76 : decode cX0_rule 76 = .ok (.goto 5, 3) := dk_167 0 5 (dk_at dksX0_rule_3 6 rfl rfl)
theorem dX0_rule_79 : decode cX0_rule 79 = .ok (.bipush (-2), 2) := dk_16 254 (dk_at dksX0_rule_3 9 rfl rfl)
theorem dX0_rule_81 : decode cX0_rule 81 = .ok (.ireturn, 1) := dk_172 (dk_at dksX0_rule_3 11 rfl rfl)
abbrev cX0_isBit : ByteArray := prog_1_method_18_code
def yX0_isBit : MethodName := ⟨RX0, "isBit", "(I)Z"⟩
def dkwX0_isBit_0 : List UInt8 := [26, 133, 9, 10, 184, 0, 11, 172]
abbrev dktX0_isBit_0 : List UInt8 := dkwX0_isBit_0 ++ []
theorem dksX0_isBit_0 : cX0_isBit.data.toList.drop 0 = dktX0_isBit_0 := by decide +kernel
theorem dX0_isBit_0 : decode cX0_isBit 0 = .ok (.iload_n 0, 1) := dk_26 (dk_at dksX0_isBit_0 0 rfl rfl)
theorem dX0_isBit_1 : decode cX0_isBit 1 = .ok (.i2l, 1) := dk_133 (dk_at dksX0_isBit_0 1 rfl rfl)
theorem dX0_isBit_2 : decode cX0_isBit 2 = .ok (.lconst 0, 1) := dk_9 (dk_at dksX0_isBit_0 2 rfl rfl)
theorem dX0_isBit_3 : decode cX0_isBit 3 = .ok (.lconst 1, 1) := dk_10 (dk_at dksX0_isBit_0 3 rfl rfl)
theorem dX0_isBit_4 : decode cX0_isBit 4 = .ok (.invokestatic 11, 3) := dk_184 0 11 (dk_at dksX0_isBit_0 4 rfl rfl)
theorem dX0_isBit_7 : decode cX0_isBit 7 = .ok (.ireturn, 1) := dk_172 (dk_at dksX0_isBit_0 7 rfl rfl)
abbrev cX0_spy : ByteArray := prog_1_method_25_code
def yX0_spy : MethodName := ⟨RX0, "spy", "(I)I"⟩
def dkwX0_spy_2 : List UInt8 := [172]
abbrev dktX0_spy_2 : List UInt8 := dkwX0_spy_2 ++ []
def dkwX0_spy_1 : List UInt8 := [42, 180, 0, 47, 180, 0, 240, 27, 185, 0, 154, 2, 0, 192, 0, 2, 182, 0, 243, 167, 0, 5, 16, 254]
abbrev dktX0_spy_1 : List UInt8 := dkwX0_spy_1 ++ dktX0_spy_2
def dkwX0_spy_0 : List UInt8 := [27, 133, 9, 42, 180, 0, 47, 180, 0, 240, 185, 0, 148, 1, 0, 4, 100, 133, 184, 0, 11, 153, 0, 25]
abbrev dktX0_spy_0 : List UInt8 := dkwX0_spy_0 ++ dktX0_spy_1
theorem dksX0_spy_0 : cX0_spy.data.toList.drop 0 = dktX0_spy_0 := by decide +kernel
theorem dksX0_spy_1 : cX0_spy.data.toList.drop 24 = dktX0_spy_1 := dk_seg dksX0_spy_0 24 rfl rfl
theorem dksX0_spy_2 : cX0_spy.data.toList.drop 48 = dktX0_spy_2 := dk_seg dksX0_spy_1 24 rfl rfl
theorem dX0_spy_0 : decode cX0_spy 0 = .ok (.iload_n 1, 1) := dk_27 (dk_at dksX0_spy_0 0 rfl rfl)
theorem dX0_spy_1 : decode cX0_spy 1 = .ok (.i2l, 1) := dk_133 (dk_at dksX0_spy_0 1 rfl rfl)
theorem dX0_spy_2 : decode cX0_spy 2 = .ok (.lconst 0, 1) := dk_9 (dk_at dksX0_spy_0 2 rfl rfl)
theorem dX0_spy_3 : decode cX0_spy 3 = .ok (.aload_n 0, 1) := dk_42 (dk_at dksX0_spy_0 3 rfl rfl)
theorem dX0_spy_4 : decode cX0_spy 4 = .ok (.getfield 47, 3) := dk_180 0 47 (dk_at dksX0_spy_0 4 rfl rfl)
theorem dX0_spy_7 : decode cX0_spy 7 = .ok (.getfield 240, 3) := dk_180 0 240 (dk_at dksX0_spy_0 7 rfl rfl)
theorem dX0_spy_10 : decode cX0_spy 10 = .ok (.invokeinterface 148 1, 5) := by decide +kernel
theorem dX0_spy_15 : decode cX0_spy 15 = .ok (.iconst 1, 1) := dk_4 (dk_at dksX0_spy_0 15 rfl rfl)
theorem dX0_spy_16 : decode cX0_spy 16 = .ok (.isub, 1) := dk_100 (dk_at dksX0_spy_0 16 rfl rfl)
theorem dX0_spy_17 : decode cX0_spy 17 = .ok (.i2l, 1) := dk_133 (dk_at dksX0_spy_0 17 rfl rfl)
theorem dX0_spy_18 : decode cX0_spy 18 = .ok (.invokestatic 11, 3) := dk_184 0 11 (dk_at dksX0_spy_0 18 rfl rfl)
theorem dX0_spy_21 : decode cX0_spy 21 = .ok (.ifCond .eq 25, 3) := dk_153 0 25 (dk_at dksX0_spy_0 21 rfl rfl)
theorem dX0_spy_24 : decode cX0_spy 24 = .ok (.aload_n 0, 1) := dk_42 (dk_at dksX0_spy_1 0 rfl rfl)
theorem dX0_spy_25 : decode cX0_spy 25 = .ok (.getfield 47, 3) := dk_180 0 47 (dk_at dksX0_spy_1 1 rfl rfl)
theorem dX0_spy_28 : decode cX0_spy 28 = .ok (.getfield 240, 3) := dk_180 0 240 (dk_at dksX0_spy_1 4 rfl rfl)
theorem dX0_spy_31 : decode cX0_spy 31 = .ok (.iload_n 1, 1) := dk_27 (dk_at dksX0_spy_1 7 rfl rfl)
theorem dX0_spy_32 : decode cX0_spy 32 = .ok (.invokeinterface 154 2, 5) := by decide +kernel
theorem dX0_spy_37 : decode cX0_spy 37 = .ok (.checkcast 2, 3) := dk_192 0 2 (dk_at dksX0_spy_1 13 rfl rfl)
theorem dX0_spy_40 : decode cX0_spy 40 = .ok (.invokevirtual 243, 3) := dk_182 0 243 (dk_at dksX0_spy_1 16 rfl rfl)
theorem dX0_spy_43 : decode cX0_spy 43 = .ok (.goto 5, 3) := dk_167 0 5 (dk_at dksX0_spy_1 19 rfl rfl)
theorem dX0_spy_46 : decode cX0_spy 46 = .ok (.bipush (-2), 2) := dk_16 254 (dk_at dksX0_spy_1 22 rfl rfl)
theorem dX0_spy_48 : decode cX0_spy 48 = .ok (.ireturn, 1) := dk_172 (dk_at dksX0_spy_2 0 rfl rfl)
abbrev cX0_men : ByteArray := prog_1_method_28_code
def yX0_men : MethodName := ⟨RX0, "men", "(III)I"⟩
def dkwX0_men_1 : List UInt8 := [184, 0, 11, 153, 0, 13, 42, 27, 28, 29, 182, 1, 6, 167, 0, 5, 16, 254, 172]
abbrev dktX0_men_1 : List UInt8 := dkwX0_men_1 ++ []
def dkwX0_men_0 : List UInt8 := [42, 27, 182, 0, 192, 153, 0, 33, 42, 29, 182, 1, 1, 153, 0, 25, 28, 133, 9, 20, 1, 4]
abbrev dktX0_men_0 : List UInt8 := dkwX0_men_0 ++ dktX0_men_1
theorem dksX0_men_0 : cX0_men.data.toList.drop 0 = dktX0_men_0 := by decide +kernel
theorem dksX0_men_1 : cX0_men.data.toList.drop 22 = dktX0_men_1 := dk_seg dksX0_men_0 22 rfl rfl
theorem dX0_men_0 : decode cX0_men 0 = .ok (.aload_n 0, 1) := dk_42 (dk_at dksX0_men_0 0 rfl rfl)
theorem dX0_men_1 : decode cX0_men 1 = .ok (.iload_n 1, 1) := dk_27 (dk_at dksX0_men_0 1 rfl rfl)
theorem dX0_men_2 : decode cX0_men 2 = .ok (.invokevirtual 192, 3) := dk_182 0 192 (dk_at dksX0_men_0 2 rfl rfl)
theorem dX0_men_5 : decode cX0_men 5 = .ok (.ifCond .eq 33, 3) := dk_153 0 33 (dk_at dksX0_men_0 5 rfl rfl)
theorem dX0_men_8 : decode cX0_men 8 = .ok (.aload_n 0, 1) := dk_42 (dk_at dksX0_men_0 8 rfl rfl)
theorem dX0_men_9 : decode cX0_men 9 = .ok (.iload_n 3, 1) := dk_29 (dk_at dksX0_men_0 9 rfl rfl)
theorem dX0_men_10 : decode cX0_men 10 = .ok (.invokevirtual 257, 3) := dk_182 1 1 (dk_at dksX0_men_0 10 rfl rfl)
theorem dX0_men_13 : decode cX0_men 13 = .ok (.ifCond .eq 25, 3) := dk_153 0 25 (dk_at dksX0_men_0 13 rfl rfl)
theorem dX0_men_16 : decode cX0_men 16 = .ok (.iload_n 2, 1) := dk_28 (dk_at dksX0_men_0 16 rfl rfl)
theorem dX0_men_17 : decode cX0_men 17 = .ok (.i2l, 1) := dk_133 (dk_at dksX0_men_0 17 rfl rfl)
theorem dX0_men_18 : decode cX0_men 18 = .ok (.lconst 0, 1) := dk_9 (dk_at dksX0_men_0 18 rfl rfl)
theorem dX0_men_19 : decode cX0_men 19 = .ok (.ldc2_w 260, 3) := dk_20 1 4 (dk_at dksX0_men_0 19 rfl rfl)
theorem dX0_men_22 : decode cX0_men 22 = .ok (.invokestatic 11, 3) := dk_184 0 11 (dk_at dksX0_men_1 0 rfl rfl)
theorem dX0_men_25 : decode cX0_men 25 = .ok (.ifCond .eq 13, 3) := dk_153 0 13 (dk_at dksX0_men_1 3 rfl rfl)
theorem dX0_men_28 : decode cX0_men 28 = .ok (.aload_n 0, 1) := dk_42 (dk_at dksX0_men_1 6 rfl rfl)
theorem dX0_men_29 : decode cX0_men 29 = .ok (.iload_n 1, 1) := dk_27 (dk_at dksX0_men_1 7 rfl rfl)
theorem dX0_men_30 : decode cX0_men 30 = .ok (.iload_n 2, 1) := dk_28 (dk_at dksX0_men_1 8 rfl rfl)
theorem dX0_men_31 : decode cX0_men 31 = .ok (.iload_n 3, 1) := dk_29 (dk_at dksX0_men_1 9 rfl rfl)
theorem dX0_men_32 : decode cX0_men 32 = .ok (.invokevirtual 262, 3) := dk_182 1 6 (dk_at dksX0_men_1 10 rfl rfl)
theorem dX0_men_35 : decode cX0_men 35 = .ok (.goto 5, 3) := dk_167 0 5 (dk_at dksX0_men_1 13 rfl rfl)
theorem dX0_men_38 : decode cX0_men 38 = .ok (.bipush (-2), 2) := dk_16 254 (dk_at dksX0_men_1 16 rfl rfl)
theorem dX0_men_40 : decode cX0_men 40 = .ok (.ireturn, 1) := dk_172 (dk_at dksX0_men_1 18 rfl rfl)
abbrev cX0_isSet : ByteArray := prog_1_method_17_code
def yX0_isSet : MethodName := ⟨RX0, "isSet", "(I)Z"⟩
def dkwX0_isSet_1 : List UInt8 := [153, 0, 7, 4, 167, 0, 4, 3, 172]
abbrev dktX0_isSet_1 : List UInt8 := dkwX0_isSet_1 ++ []
def dkwX0_isSet_0 : List UInt8 := [42, 180, 0, 47, 182, 0, 126, 153, 0, 24, 27, 133, 9, 42, 180, 0, 47, 182, 0, 162, 133, 184, 0, 11]
abbrev dktX0_isSet_0 : List UInt8 := dkwX0_isSet_0 ++ dktX0_isSet_1
theorem dksX0_isSet_0 : cX0_isSet.data.toList.drop 0 = dktX0_isSet_0 := by decide +kernel
theorem dksX0_isSet_1 : cX0_isSet.data.toList.drop 24 = dktX0_isSet_1 := dk_seg dksX0_isSet_0 24 rfl rfl
theorem dX0_isSet_0 : decode cX0_isSet 0 = .ok (.aload_n 0, 1) := dk_42 (dk_at dksX0_isSet_0 0 rfl rfl)
theorem dX0_isSet_1 : decode cX0_isSet 1 = .ok (.getfield 47, 3) := dk_180 0 47 (dk_at dksX0_isSet_0 1 rfl rfl)
theorem dX0_isSet_4 : decode cX0_isSet 4 = .ok (.invokevirtual 126, 3) := dk_182 0 126 (dk_at dksX0_isSet_0 4 rfl rfl)
theorem dX0_isSet_7 : decode cX0_isSet 7 = .ok (.ifCond .eq 24, 3) := dk_153 0 24 (dk_at dksX0_isSet_0 7 rfl rfl)
theorem dX0_isSet_10 : decode cX0_isSet 10 = .ok (.iload_n 1, 1) := dk_27 (dk_at dksX0_isSet_0 10 rfl rfl)
theorem dX0_isSet_11 : decode cX0_isSet 11 = .ok (.i2l, 1) := dk_133 (dk_at dksX0_isSet_0 11 rfl rfl)
theorem dX0_isSet_12 : decode cX0_isSet 12 = .ok (.lconst 0, 1) := dk_9 (dk_at dksX0_isSet_0 12 rfl rfl)
theorem dX0_isSet_13 : decode cX0_isSet 13 = .ok (.aload_n 0, 1) := dk_42 (dk_at dksX0_isSet_0 13 rfl rfl)
theorem dX0_isSet_14 : decode cX0_isSet 14 = .ok (.getfield 47, 3) := dk_180 0 47 (dk_at dksX0_isSet_0 14 rfl rfl)
theorem dX0_isSet_17 : decode cX0_isSet 17 = .ok (.invokevirtual 162, 3) := dk_182 0 162 (dk_at dksX0_isSet_0 17 rfl rfl)
theorem dX0_isSet_20 : decode cX0_isSet 20 = .ok (.i2l, 1) := dk_133 (dk_at dksX0_isSet_0 20 rfl rfl)
theorem dX0_isSet_21 : decode cX0_isSet 21 = .ok (.invokestatic 11, 3) := dk_184 0 11 (dk_at dksX0_isSet_0 21 rfl rfl)
theorem dX0_isSet_24 : decode cX0_isSet 24 = .ok (.ifCond .eq 7, 3) := dk_153 0 7 (dk_at dksX0_isSet_1 0 rfl rfl)
theorem dX0_isSet_27 : decode cX0_isSet 27 = .ok (.iconst 1, 1) := dk_4 (dk_at dksX0_isSet_1 3 rfl rfl)
theorem dX0_isSet_28 : decode cX0_isSet 28 = .ok (.goto 4, 3) := dk_167 0 4 (dk_at dksX0_isSet_1 4 rfl rfl)
theorem dX0_isSet_31 : decode cX0_isSet 31 = .ok (.iconst 0, 1) := dk_3 (dk_at dksX0_isSet_1 7 rfl rfl)
theorem dX0_isSet_32 : decode cX0_isSet 32 = .ok (.ireturn, 1) := dk_172 (dk_at dksX0_isSet_1 8 rfl rfl)
abbrev cX0_menAt : ByteArray := prog_1_method_27_code
def yX0_menAt : MethodName := ⟨RX0, "menAt", "(III)I"⟩
def dkwX0_menAt_0 : List UInt8 := [42, 27, 28, 29, 42, 180, 0, 47, 182, 0, 162, 182, 0, 253, 172]
abbrev dktX0_menAt_0 : List UInt8 := dkwX0_menAt_0 ++ []
theorem dksX0_menAt_0 : cX0_menAt.data.toList.drop 0 = dktX0_menAt_0 := by decide +kernel
theorem dX0_menAt_0 : decode cX0_menAt 0 = .ok (.aload_n 0, 1) := dk_42 (dk_at dksX0_menAt_0 0 rfl rfl)
theorem dX0_menAt_1 : decode cX0_menAt 1 = .ok (.iload_n 1, 1) := dk_27 (dk_at dksX0_menAt_0 1 rfl rfl)
theorem dX0_menAt_2 : decode cX0_menAt 2 = .ok (.iload_n 2, 1) := dk_28 (dk_at dksX0_menAt_0 2 rfl rfl)
theorem dX0_menAt_3 : decode cX0_menAt 3 = .ok (.iload_n 3, 1) := dk_29 (dk_at dksX0_menAt_0 3 rfl rfl)
theorem dX0_menAt_4 : decode cX0_menAt 4 = .ok (.aload_n 0, 1) := dk_42 (dk_at dksX0_menAt_0 4 rfl rfl)
theorem dX0_menAt_5 : decode cX0_menAt 5 = .ok (.getfield 47, 3) := dk_180 0 47 (dk_at dksX0_menAt_0 5 rfl rfl)
theorem dX0_menAt_8 : decode cX0_menAt 8 = .ok (.invokevirtual 162, 3) := dk_182 0 162 (dk_at dksX0_menAt_0 8 rfl rfl)
theorem dX0_menAt_11 : decode cX0_menAt 11 = .ok (.invokevirtual 253, 3) := dk_182 0 253 (dk_at dksX0_menAt_0 11 rfl rfl)
theorem dX0_menAt_14 : decode cX0_menAt 14 = .ok (.ireturn, 1) := dk_172 (dk_at dksX0_menAt_0 14 rfl rfl)
abbrev cX0_menOf : ByteArray := prog_1_method_26_code
def yX0_menOf : MethodName := ⟨RX0, "menOf", "(IIII)I"⟩
def dkwX0_menOf_3 : List UInt8 := [3, 96, 54, 5, 132, 6, 1, 167, 255, 184, 21, 5, 172]
abbrev dktX0_menOf_3 : List UInt8 := dkwX0_menOf_3 ++ []
def dkwX0_menOf_2 : List UInt8 := [21, 6, 184, 0, 246, 182, 0, 249, 28, 163, 0, 15, 42, 21, 6, 182, 0, 170, 180, 0, 177, 167, 0, 4]
abbrev dktX0_menOf_2 : List UInt8 := dkwX0_menOf_2 ++ dktX0_menOf_3
def dkwX0_menOf_1 : List UInt8 := [153, 0, 47, 42, 21, 6, 182, 0, 170, 180, 0, 174, 27, 160, 0, 34, 42, 21, 6, 182, 0, 170, 29]
abbrev dktX0_menOf_1 : List UInt8 := dkwX0_menOf_1 ++ dktX0_menOf_2
def dkwX0_menOf_0 : List UInt8 := [3, 54, 5, 3, 54, 6, 21, 6, 42, 182, 0, 160, 162, 0, 69, 21, 5, 21, 4, 21, 6, 184, 0, 246]
abbrev dktX0_menOf_0 : List UInt8 := dkwX0_menOf_0 ++ dktX0_menOf_1
theorem dksX0_menOf_0 : cX0_menOf.data.toList.drop 0 = dktX0_menOf_0 := by decide +kernel
theorem dksX0_menOf_1 : cX0_menOf.data.toList.drop 24 = dktX0_menOf_1 := dk_seg dksX0_menOf_0 24 rfl rfl
theorem dksX0_menOf_2 : cX0_menOf.data.toList.drop 47 = dktX0_menOf_2 := dk_seg dksX0_menOf_1 23 rfl rfl
theorem dksX0_menOf_3 : cX0_menOf.data.toList.drop 71 = dktX0_menOf_3 := dk_seg dksX0_menOf_2 24 rfl rfl
theorem dX0_menOf_0 : decode cX0_menOf 0 = .ok (.iconst 0, 1) := dk_3 (dk_at dksX0_menOf_0 0 rfl rfl)
theorem dX0_menOf_1 : decode cX0_menOf 1 = .ok (.istore 5, 2) := dk_54 5 (dk_at dksX0_menOf_0 1 rfl rfl)
theorem dX0_menOf_3 : decode cX0_menOf 3 = .ok (.iconst 0, 1) := dk_3 (dk_at dksX0_menOf_0 3 rfl rfl)
theorem dX0_menOf_4 : decode cX0_menOf 4 = .ok (.istore 6, 2) := dk_54 6 (dk_at dksX0_menOf_0 4 rfl rfl)
theorem dX0_menOf_6 : decode cX0_menOf 6 = .ok (.iload 6, 2) := dk_21 6 (dk_at dksX0_menOf_0 6 rfl rfl)
theorem dX0_menOf_8 : decode cX0_menOf 8 = .ok (.aload_n 0, 1) := dk_42 (dk_at dksX0_menOf_0 8 rfl rfl)
theorem dX0_menOf_9 : decode cX0_menOf 9 = .ok (.invokevirtual 160, 3) := dk_182 0 160 (dk_at dksX0_menOf_0 9 rfl rfl)
theorem dX0_menOf_12 : decode cX0_menOf 12 = .ok (.if_icmp .ge 69, 3) := dk_162 0 69 (dk_at dksX0_menOf_0 12 rfl rfl)
theorem dX0_menOf_15 : decode cX0_menOf 15 = .ok (.iload 5, 2) := dk_21 5 (dk_at dksX0_menOf_0 15 rfl rfl)
theorem dX0_menOf_17 : decode cX0_menOf 17 = .ok (.iload 4, 2) := dk_21 4 (dk_at dksX0_menOf_0 17 rfl rfl)
theorem dX0_menOf_19 : decode cX0_menOf 19 = .ok (.iload 6, 2) := dk_21 6 (dk_at dksX0_menOf_0 19 rfl rfl)
theorem dX0_menOf_21 : decode cX0_menOf 21 = .ok (.invokestatic 246, 3) := dk_184 0 246 (dk_at dksX0_menOf_0 21 rfl rfl)
theorem dX0_menOf_24 : decode cX0_menOf 24 = .ok (.ifCond .eq 47, 3) := dk_153 0 47 (dk_at dksX0_menOf_1 0 rfl rfl)
theorem dX0_menOf_27 : decode cX0_menOf 27 = .ok (.aload_n 0, 1) := dk_42 (dk_at dksX0_menOf_1 3 rfl rfl)
theorem dX0_menOf_28 : decode cX0_menOf 28 = .ok (.iload 6, 2) := dk_21 6 (dk_at dksX0_menOf_1 4 rfl rfl)
theorem dX0_menOf_30 : decode cX0_menOf 30 = .ok (.invokevirtual 170, 3) := dk_182 0 170 (dk_at dksX0_menOf_1 6 rfl rfl)
theorem dX0_menOf_33 : decode cX0_menOf 33 = .ok (.getfield 174, 3) := dk_180 0 174 (dk_at dksX0_menOf_1 9 rfl rfl)
theorem dX0_menOf_36 : decode cX0_menOf 36 = .ok (.iload_n 1, 1) := dk_27 (dk_at dksX0_menOf_1 12 rfl rfl)
theorem dX0_menOf_37 : decode cX0_menOf 37 = .ok (.if_icmp .ne 34, 3) := dk_160 0 34 (dk_at dksX0_menOf_1 13 rfl rfl)
theorem dX0_menOf_40 : decode cX0_menOf 40 = .ok (.aload_n 0, 1) := dk_42 (dk_at dksX0_menOf_1 16 rfl rfl)
theorem dX0_menOf_41 : decode cX0_menOf 41 = .ok (.iload 6, 2) := dk_21 6 (dk_at dksX0_menOf_1 17 rfl rfl)
theorem dX0_menOf_43 : decode cX0_menOf 43 = .ok (.invokevirtual 170, 3) := dk_182 0 170 (dk_at dksX0_menOf_1 19 rfl rfl)
theorem dX0_menOf_46 : decode cX0_menOf 46 = .ok (.iload_n 3, 1) := dk_29 (dk_at dksX0_menOf_1 22 rfl rfl)
theorem dX0_menOf_47 : decode cX0_menOf 47 = .ok (.iload 6, 2) := dk_21 6 (dk_at dksX0_menOf_2 0 rfl rfl)
theorem dX0_menOf_49 : decode cX0_menOf 49 = .ok (.invokestatic 246, 3) := dk_184 0 246 (dk_at dksX0_menOf_2 2 rfl rfl)
theorem dX0_menOf_52 : decode cX0_menOf 52 = .ok (.invokevirtual 249, 3) := dk_182 0 249 (dk_at dksX0_menOf_2 5 rfl rfl)
theorem dX0_menOf_55 : decode cX0_menOf 55 = .ok (.iload_n 2, 1) := dk_28 (dk_at dksX0_menOf_2 8 rfl rfl)
theorem dX0_menOf_56 : decode cX0_menOf 56 = .ok (.if_icmp .gt 15, 3) := dk_163 0 15 (dk_at dksX0_menOf_2 9 rfl rfl)
theorem dX0_menOf_59 : decode cX0_menOf 59 = .ok (.aload_n 0, 1) := dk_42 (dk_at dksX0_menOf_2 12 rfl rfl)
theorem dX0_menOf_60 : decode cX0_menOf 60 = .ok (.iload 6, 2) := dk_21 6 (dk_at dksX0_menOf_2 13 rfl rfl)
theorem dX0_menOf_62 : decode cX0_menOf 62 = .ok (.invokevirtual 170, 3) := dk_182 0 170 (dk_at dksX0_menOf_2 15 rfl rfl)
theorem dX0_menOf_65 : decode cX0_menOf 65 = .ok (.getfield 177, 3) := dk_180 0 177 (dk_at dksX0_menOf_2 18 rfl rfl)
theorem dX0_menOf_68 : decode cX0_menOf 68 = .ok (.goto 4, 3) := dk_167 0 4 (dk_at dksX0_menOf_2 21 rfl rfl)
theorem dX0_menOf_71 : decode cX0_menOf 71 = .ok (.iconst 0, 1) := dk_3 (dk_at dksX0_menOf_3 0 rfl rfl)
theorem dX0_menOf_72 : decode cX0_menOf 72 = .ok (.iadd, 1) := dk_96 (dk_at dksX0_menOf_3 1 rfl rfl)
theorem dX0_menOf_73 : decode cX0_menOf 73 = .ok (.istore 5, 2) := dk_54 5 (dk_at dksX0_menOf_3 2 rfl rfl)
theorem dX0_menOf_75 : decode cX0_menOf 75 = .ok (.iinc 6 1, 3) := dk_132 6 1 (dk_at dksX0_menOf_3 4 rfl rfl)
theorem dX0_menOf_78 : decode cX0_menOf 78 = .ok (.goto (-72), 3) := dk_167 255 184 (dk_at dksX0_menOf_3 7 rfl rfl)
theorem dX0_menOf_81 : decode cX0_menOf 81 = .ok (.iload 5, 2) := dk_21 5 (dk_at dksX0_menOf_3 10 rfl rfl)
theorem dX0_menOf_83 : decode cX0_menOf 83 = .ok (.ireturn, 1) := dk_172 (dk_at dksX0_menOf_3 12 rfl rfl)
abbrev cX0_isOn : ByteArray := prog_1_method_2_code
def yX0_isOn : MethodName := ⟨RX0, "isOn", "(II)Z"⟩
def dkwX0_isOn_0 : List UInt8 := [26, 27, 122, 4, 126, 4, 160, 0, 7, 4, 167, 0, 4, 3, 172]
abbrev dktX0_isOn_0 : List UInt8 := dkwX0_isOn_0 ++ []
theorem dksX0_isOn_0 : cX0_isOn.data.toList.drop 0 = dktX0_isOn_0 := by decide +kernel
theorem dX0_isOn_0 : decode cX0_isOn 0 = .ok (.iload_n 0, 1) := dk_26 (dk_at dksX0_isOn_0 0 rfl rfl)
theorem dX0_isOn_1 : decode cX0_isOn 1 = .ok (.iload_n 1, 1) := dk_27 (dk_at dksX0_isOn_0 1 rfl rfl)
theorem dX0_isOn_2 : decode cX0_isOn 2 = .ok (.ishr, 1) := dk_122 (dk_at dksX0_isOn_0 2 rfl rfl)
theorem dX0_isOn_3 : decode cX0_isOn 3 = .ok (.iconst 1, 1) := dk_4 (dk_at dksX0_isOn_0 3 rfl rfl)
theorem dX0_isOn_4 : decode cX0_isOn 4 = .ok (.iand, 1) := dk_126 (dk_at dksX0_isOn_0 4 rfl rfl)
theorem dX0_isOn_5 : decode cX0_isOn 5 = .ok (.iconst 1, 1) := dk_4 (dk_at dksX0_isOn_0 5 rfl rfl)
theorem dX0_isOn_6 : decode cX0_isOn 6 = .ok (.if_icmp .ne 7, 3) := dk_160 0 7 (dk_at dksX0_isOn_0 6 rfl rfl)
theorem dX0_isOn_9 : decode cX0_isOn 9 = .ok (.iconst 1, 1) := dk_4 (dk_at dksX0_isOn_0 9 rfl rfl)
theorem dX0_isOn_10 : decode cX0_isOn 10 = .ok (.goto 4, 3) := dk_167 0 4 (dk_at dksX0_isOn_0 10 rfl rfl)
theorem dX0_isOn_13 : decode cX0_isOn 13 = .ok (.iconst 0, 1) := dk_3 (dk_at dksX0_isOn_0 13 rfl rfl)
theorem dX0_isOn_14 : decode cX0_isOn 14 = .ok (.ireturn, 1) := dk_172 (dk_at dksX0_isOn_0 14 rfl rfl)
abbrev cX0_front : ByteArray := prog_1_method_29_code
def yX0_front : MethodName := ⟨RX0, "front", "(II)I"⟩
def dkwX0_front_1 : List UInt8 := [153, 0, 19, 42, 180, 0, 68, 28, 182, 1, 10, 180, 1, 14, 27, 46, 167, 0, 6, 17, 252, 24, 172]
abbrev dktX0_front_1 : List UInt8 := dkwX0_front_1 ++ []
def dkwX0_front_0 : List UInt8 := [42, 28, 182, 1, 1, 153, 0, 36, 27, 133, 9, 42, 180, 0, 47, 180, 0, 207, 133, 184, 0, 11]
abbrev dktX0_front_0 : List UInt8 := dkwX0_front_0 ++ dktX0_front_1
theorem dksX0_front_0 : cX0_front.data.toList.drop 0 = dktX0_front_0 := by decide +kernel
theorem dksX0_front_1 : cX0_front.data.toList.drop 22 = dktX0_front_1 := dk_seg dksX0_front_0 22 rfl rfl
theorem dX0_front_0 : decode cX0_front 0 = .ok (.aload_n 0, 1) := dk_42 (dk_at dksX0_front_0 0 rfl rfl)
theorem dX0_front_1 : decode cX0_front 1 = .ok (.iload_n 2, 1) := dk_28 (dk_at dksX0_front_0 1 rfl rfl)
theorem dX0_front_2 : decode cX0_front 2 = .ok (.invokevirtual 257, 3) := dk_182 1 1 (dk_at dksX0_front_0 2 rfl rfl)
theorem dX0_front_5 : decode cX0_front 5 = .ok (.ifCond .eq 36, 3) := dk_153 0 36 (dk_at dksX0_front_0 5 rfl rfl)
theorem dX0_front_8 : decode cX0_front 8 = .ok (.iload_n 1, 1) := dk_27 (dk_at dksX0_front_0 8 rfl rfl)
theorem dX0_front_9 : decode cX0_front 9 = .ok (.i2l, 1) := dk_133 (dk_at dksX0_front_0 9 rfl rfl)
theorem dX0_front_10 : decode cX0_front 10 = .ok (.lconst 0, 1) := dk_9 (dk_at dksX0_front_0 10 rfl rfl)
theorem dX0_front_11 : decode cX0_front 11 = .ok (.aload_n 0, 1) := dk_42 (dk_at dksX0_front_0 11 rfl rfl)
theorem dX0_front_12 : decode cX0_front 12 = .ok (.getfield 47, 3) := dk_180 0 47 (dk_at dksX0_front_0 12 rfl rfl)
theorem dX0_front_15 : decode cX0_front 15 = .ok (.getfield 207, 3) := dk_180 0 207 (dk_at dksX0_front_0 15 rfl rfl)
theorem dX0_front_18 : decode cX0_front 18 = .ok (.i2l, 1) := dk_133 (dk_at dksX0_front_0 18 rfl rfl)
theorem dX0_front_19 : decode cX0_front 19 = .ok (.invokestatic 11, 3) := dk_184 0 11 (dk_at dksX0_front_0 19 rfl rfl)
theorem dX0_front_22 : decode cX0_front 22 = .ok (.ifCond .eq 19, 3) := dk_153 0 19 (dk_at dksX0_front_1 0 rfl rfl)
theorem dX0_front_25 : decode cX0_front 25 = .ok (.aload_n 0, 1) := dk_42 (dk_at dksX0_front_1 3 rfl rfl)
theorem dX0_front_26 : decode cX0_front 26 = .ok (.getfield 68, 3) := dk_180 0 68 (dk_at dksX0_front_1 4 rfl rfl)
theorem dX0_front_29 : decode cX0_front 29 = .ok (.iload_n 2, 1) := dk_28 (dk_at dksX0_front_1 7 rfl rfl)
theorem dX0_front_30 : decode cX0_front 30 = .ok (.invokevirtual 266, 3) := dk_182 1 10 (dk_at dksX0_front_1 8 rfl rfl)
theorem dX0_front_33 : decode cX0_front 33 = .ok (.getfield 270, 3) := dk_180 1 14 (dk_at dksX0_front_1 11 rfl rfl)
theorem dX0_front_36 : decode cX0_front 36 = .ok (.iload_n 1, 1) := dk_27 (dk_at dksX0_front_1 14 rfl rfl)
theorem dX0_front_37 : decode cX0_front 37 = .ok (.iaload, 1) := dk_46 (dk_at dksX0_front_1 15 rfl rfl)
theorem dX0_front_38 : decode cX0_front 38 = .ok (.goto 6, 3) := dk_167 0 6 (dk_at dksX0_front_1 16 rfl rfl)
theorem dX0_front_41 : decode cX0_front 41 = .ok (.sipush (-1000), 3) := dk_17 252 24 (dk_at dksX0_front_1 19 rfl rfl)
theorem dX0_front_44 : decode cX0_front 44 = .ok (.ireturn, 1) := dk_172 (dk_at dksX0_front_1 22 rfl rfl)
abbrev cX0_late : ByteArray := prog_1_method_32_code
def yX0_late : MethodName := ⟨RX0, "late", "(I)I"⟩
def dkwX0_late_0 : List UInt8 := [42, 27, 182, 1, 1, 153, 0, 11, 42, 27, 182, 1, 19, 167, 0, 5, 16, 254, 172]
abbrev dktX0_late_0 : List UInt8 := dkwX0_late_0 ++ []
theorem dksX0_late_0 : cX0_late.data.toList.drop 0 = dktX0_late_0 := by decide +kernel
theorem dX0_late_0 : decode cX0_late 0 = .ok (.aload_n 0, 1) := dk_42 (dk_at dksX0_late_0 0 rfl rfl)
theorem dX0_late_1 : decode cX0_late 1 = .ok (.iload_n 1, 1) := dk_27 (dk_at dksX0_late_0 1 rfl rfl)
theorem dX0_late_2 : decode cX0_late 2 = .ok (.invokevirtual 257, 3) := dk_182 1 1 (dk_at dksX0_late_0 2 rfl rfl)
theorem dX0_late_5 : decode cX0_late 5 = .ok (.ifCond .eq 11, 3) := dk_153 0 11 (dk_at dksX0_late_0 5 rfl rfl)
theorem dX0_late_8 : decode cX0_late 8 = .ok (.aload_n 0, 1) := dk_42 (dk_at dksX0_late_0 8 rfl rfl)
theorem dX0_late_9 : decode cX0_late 9 = .ok (.iload_n 1, 1) := dk_27 (dk_at dksX0_late_0 9 rfl rfl)
theorem dX0_late_10 : decode cX0_late 10 = .ok (.invokevirtual 275, 3) := dk_182 1 19 (dk_at dksX0_late_0 10 rfl rfl)
theorem dX0_late_13 : decode cX0_late 13 = .ok (.goto 5, 3) := dk_167 0 5 (dk_at dksX0_late_0 13 rfl rfl)
theorem dX0_late_16 : decode cX0_late 16 = .ok (.bipush (-2), 2) := dk_16 254 (dk_at dksX0_late_0 16 rfl rfl)
theorem dX0_late_18 : decode cX0_late 18 = .ok (.ireturn, 1) := dk_172 (dk_at dksX0_late_0 18 rfl rfl)
abbrev cX0_lateOf : ByteArray := prog_1_method_30_code
def yX0_lateOf : MethodName := ⟨RX0, "lateOf", "(I)I"⟩
def dkwX0_lateOf_2 : List UInt8 := [167, 255, 213, 28, 172]
abbrev dktX0_lateOf_2 : List UInt8 := dkwX0_lateOf_2 ++ []
def dkwX0_lateOf_1 : List UInt8 := [180, 0, 47, 180, 0, 195, 29, 46, 162, 0, 9, 4, 29, 120, 167, 0, 4, 3, 128, 61, 132, 3, 1]
abbrev dktX0_lateOf_1 : List UInt8 := dkwX0_lateOf_1 ++ dktX0_lateOf_2
def dkwX0_lateOf_0 : List UInt8 := [3, 61, 3, 62, 29, 5, 162, 0, 44, 28, 42, 29, 42, 180, 0, 47, 180, 1, 16, 27, 182, 1, 6, 42]
abbrev dktX0_lateOf_0 : List UInt8 := dkwX0_lateOf_0 ++ dktX0_lateOf_1
theorem dksX0_lateOf_0 : cX0_lateOf.data.toList.drop 0 = dktX0_lateOf_0 := by decide +kernel
theorem dksX0_lateOf_1 : cX0_lateOf.data.toList.drop 24 = dktX0_lateOf_1 := dk_seg dksX0_lateOf_0 24 rfl rfl
theorem dksX0_lateOf_2 : cX0_lateOf.data.toList.drop 47 = dktX0_lateOf_2 := dk_seg dksX0_lateOf_1 23 rfl rfl
theorem dX0_lateOf_0 : decode cX0_lateOf 0 = .ok (.iconst 0, 1) := dk_3 (dk_at dksX0_lateOf_0 0 rfl rfl)
theorem dX0_lateOf_1 : decode cX0_lateOf 1 = .ok (.istore_n 2, 1) := dk_61 (dk_at dksX0_lateOf_0 1 rfl rfl)
theorem dX0_lateOf_2 : decode cX0_lateOf 2 = .ok (.iconst 0, 1) := dk_3 (dk_at dksX0_lateOf_0 2 rfl rfl)
theorem dX0_lateOf_3 : decode cX0_lateOf 3 = .ok (.istore_n 3, 1) := dk_62 (dk_at dksX0_lateOf_0 3 rfl rfl)
theorem dX0_lateOf_4 : decode cX0_lateOf 4 = .ok (.iload_n 3, 1) := dk_29 (dk_at dksX0_lateOf_0 4 rfl rfl)
theorem dX0_lateOf_5 : decode cX0_lateOf 5 = .ok (.iconst 2, 1) := dk_5 (dk_at dksX0_lateOf_0 5 rfl rfl)
theorem dX0_lateOf_6 : decode cX0_lateOf 6 = .ok (.if_icmp .ge 44, 3) := dk_162 0 44 (dk_at dksX0_lateOf_0 6 rfl rfl)
theorem dX0_lateOf_9 : decode cX0_lateOf 9 = .ok (.iload_n 2, 1) := dk_28 (dk_at dksX0_lateOf_0 9 rfl rfl)
theorem dX0_lateOf_10 : decode cX0_lateOf 10 = .ok (.aload_n 0, 1) := dk_42 (dk_at dksX0_lateOf_0 10 rfl rfl)
theorem dX0_lateOf_11 : decode cX0_lateOf 11 = .ok (.iload_n 3, 1) := dk_29 (dk_at dksX0_lateOf_0 11 rfl rfl)
theorem dX0_lateOf_12 : decode cX0_lateOf 12 = .ok (.aload_n 0, 1) := dk_42 (dk_at dksX0_lateOf_0 12 rfl rfl)
theorem dX0_lateOf_13 : decode cX0_lateOf 13 = .ok (.getfield 47, 3) := dk_180 0 47 (dk_at dksX0_lateOf_0 13 rfl rfl)
theorem dX0_lateOf_16 : decode cX0_lateOf 16 = .ok (.getfield 272, 3) := dk_180 1 16 (dk_at dksX0_lateOf_0 16 rfl rfl)
theorem dX0_lateOf_19 : decode cX0_lateOf 19 = .ok (.iload_n 1, 1) := dk_27 (dk_at dksX0_lateOf_0 19 rfl rfl)
theorem dX0_lateOf_20 : decode cX0_lateOf 20 = .ok (.invokevirtual 262, 3) := dk_182 1 6 (dk_at dksX0_lateOf_0 20 rfl rfl)
theorem dX0_lateOf_23 : decode cX0_lateOf 23 = .ok (.aload_n 0, 1) := dk_42 (dk_at dksX0_lateOf_0 23 rfl rfl)
theorem dX0_lateOf_24 : decode cX0_lateOf 24 = .ok (.getfield 47, 3) := dk_180 0 47 (dk_at dksX0_lateOf_1 0 rfl rfl)
theorem dX0_lateOf_27 : decode cX0_lateOf 27 = .ok (.getfield 195, 3) := dk_180 0 195 (dk_at dksX0_lateOf_1 3 rfl rfl)
theorem dX0_lateOf_30 : decode cX0_lateOf 30 = .ok (.iload_n 3, 1) := dk_29 (dk_at dksX0_lateOf_1 6 rfl rfl)
theorem dX0_lateOf_31 : decode cX0_lateOf 31 = .ok (.iaload, 1) := dk_46 (dk_at dksX0_lateOf_1 7 rfl rfl)
theorem dX0_lateOf_32 : decode cX0_lateOf 32 = .ok (.if_icmp .ge 9, 3) := dk_162 0 9 (dk_at dksX0_lateOf_1 8 rfl rfl)
theorem dX0_lateOf_35 : decode cX0_lateOf 35 = .ok (.iconst 1, 1) := dk_4 (dk_at dksX0_lateOf_1 11 rfl rfl)
theorem dX0_lateOf_36 : decode cX0_lateOf 36 = .ok (.iload_n 3, 1) := dk_29 (dk_at dksX0_lateOf_1 12 rfl rfl)
theorem dX0_lateOf_37 : decode cX0_lateOf 37 = .ok (.ishl, 1) := dk_120 (dk_at dksX0_lateOf_1 13 rfl rfl)
theorem dX0_lateOf_38 : decode cX0_lateOf 38 = .ok (.goto 4, 3) := dk_167 0 4 (dk_at dksX0_lateOf_1 14 rfl rfl)
theorem dX0_lateOf_41 : decode cX0_lateOf 41 = .ok (.iconst 0, 1) := dk_3 (dk_at dksX0_lateOf_1 17 rfl rfl)
theorem dX0_lateOf_42 : decode cX0_lateOf 42 = .ok (.ior, 1) := dk_128 (dk_at dksX0_lateOf_1 18 rfl rfl)
theorem dX0_lateOf_43 : decode cX0_lateOf 43 = .ok (.istore_n 2, 1) := dk_61 (dk_at dksX0_lateOf_1 19 rfl rfl)
theorem dX0_lateOf_44 : decode cX0_lateOf 44 = .ok (.iinc 3 1, 3) := dk_132 3 1 (dk_at dksX0_lateOf_1 20 rfl rfl)
theorem dX0_lateOf_47 : decode cX0_lateOf 47 = .ok (.goto (-43), 3) := dk_167 255 213 (dk_at dksX0_lateOf_2 0 rfl rfl)
theorem dX0_lateOf_50 : decode cX0_lateOf 50 = .ok (.iload_n 2, 1) := dk_28 (dk_at dksX0_lateOf_2 3 rfl rfl)
theorem dX0_lateOf_51 : decode cX0_lateOf 51 = .ok (.ireturn, 1) := dk_172 (dk_at dksX0_lateOf_2 4 rfl rfl)
abbrev cX0_wins : ByteArray := prog_1_method_33_code
def yX0_wins : MethodName := ⟨RX0, "wins", "(I)I"⟩
def dkwX0_wins_0 : List UInt8 := [42, 27, 182, 1, 1, 153, 0, 11, 42, 27, 182, 1, 25, 167, 0, 5, 16, 254, 172]
abbrev dktX0_wins_0 : List UInt8 := dkwX0_wins_0 ++ []
theorem dksX0_wins_0 : cX0_wins.data.toList.drop 0 = dktX0_wins_0 := by decide +kernel
theorem dX0_wins_0 : decode cX0_wins 0 = .ok (.aload_n 0, 1) := dk_42 (dk_at dksX0_wins_0 0 rfl rfl)
theorem dX0_wins_1 : decode cX0_wins 1 = .ok (.iload_n 1, 1) := dk_27 (dk_at dksX0_wins_0 1 rfl rfl)
theorem dX0_wins_2 : decode cX0_wins 2 = .ok (.invokevirtual 257, 3) := dk_182 1 1 (dk_at dksX0_wins_0 2 rfl rfl)
theorem dX0_wins_5 : decode cX0_wins 5 = .ok (.ifCond .eq 11, 3) := dk_153 0 11 (dk_at dksX0_wins_0 5 rfl rfl)
theorem dX0_wins_8 : decode cX0_wins 8 = .ok (.aload_n 0, 1) := dk_42 (dk_at dksX0_wins_0 8 rfl rfl)
theorem dX0_wins_9 : decode cX0_wins 9 = .ok (.iload_n 1, 1) := dk_27 (dk_at dksX0_wins_0 9 rfl rfl)
theorem dX0_wins_10 : decode cX0_wins 10 = .ok (.invokevirtual 281, 3) := dk_182 1 25 (dk_at dksX0_wins_0 10 rfl rfl)
theorem dX0_wins_13 : decode cX0_wins 13 = .ok (.goto 5, 3) := dk_167 0 5 (dk_at dksX0_wins_0 13 rfl rfl)
theorem dX0_wins_16 : decode cX0_wins 16 = .ok (.bipush (-2), 2) := dk_16 254 (dk_at dksX0_wins_0 16 rfl rfl)
theorem dX0_wins_18 : decode cX0_wins 18 = .ok (.ireturn, 1) := dk_172 (dk_at dksX0_wins_0 18 rfl rfl)
abbrev cX0_winsOf : ByteArray := prog_1_method_31_code
def yX0_winsOf : MethodName := ⟨RX0, "winsOf", "(I)I"⟩
def dkwX0_winsOf_2 : List UInt8 := [2, 172]
abbrev dktX0_winsOf_2 : List UInt8 := dkwX0_winsOf_2 ++ []
def dkwX0_winsOf_1 : List UInt8 := [27, 182, 1, 10, 182, 1, 22, 62, 29, 158, 0, 7, 3, 167, 0, 12, 29, 156, 0, 7, 4, 167, 0, 4]
abbrev dktX0_winsOf_1 : List UInt8 := dkwX0_winsOf_1 ++ dktX0_winsOf_2
def dkwX0_winsOf_0 : List UInt8 := [42, 27, 182, 1, 19, 61, 28, 4, 159, 0, 8, 28, 5, 160, 0, 7, 5, 28, 100, 172, 42, 180, 0, 68]
abbrev dktX0_winsOf_0 : List UInt8 := dkwX0_winsOf_0 ++ dktX0_winsOf_1
theorem dksX0_winsOf_0 : cX0_winsOf.data.toList.drop 0 = dktX0_winsOf_0 := by decide +kernel
theorem dksX0_winsOf_1 : cX0_winsOf.data.toList.drop 24 = dktX0_winsOf_1 := dk_seg dksX0_winsOf_0 24 rfl rfl
theorem dksX0_winsOf_2 : cX0_winsOf.data.toList.drop 48 = dktX0_winsOf_2 := dk_seg dksX0_winsOf_1 24 rfl rfl
theorem dX0_winsOf_0 : decode cX0_winsOf 0 = .ok (.aload_n 0, 1) := dk_42 (dk_at dksX0_winsOf_0 0 rfl rfl)
theorem dX0_winsOf_1 : decode cX0_winsOf 1 = .ok (.iload_n 1, 1) := dk_27 (dk_at dksX0_winsOf_0 1 rfl rfl)
theorem dX0_winsOf_2 : decode cX0_winsOf 2 = .ok (.invokevirtual 275, 3) := dk_182 1 19 (dk_at dksX0_winsOf_0 2 rfl rfl)
theorem dX0_winsOf_5 : decode cX0_winsOf 5 = .ok (.istore_n 2, 1) := dk_61 (dk_at dksX0_winsOf_0 5 rfl rfl)
theorem dX0_winsOf_6 : decode cX0_winsOf 6 = .ok (.iload_n 2, 1) := dk_28 (dk_at dksX0_winsOf_0 6 rfl rfl)
theorem dX0_winsOf_7 : decode cX0_winsOf 7 = .ok (.iconst 1, 1) := dk_4 (dk_at dksX0_winsOf_0 7 rfl rfl)
theorem dX0_winsOf_8 : decode cX0_winsOf 8 = .ok (.if_icmp .eq 8, 3) := dk_159 0 8 (dk_at dksX0_winsOf_0 8 rfl rfl)
theorem dX0_winsOf_11 : decode cX0_winsOf 11 = .ok (.iload_n 2, 1) := dk_28 (dk_at dksX0_winsOf_0 11 rfl rfl)
theorem dX0_winsOf_12 : decode cX0_winsOf 12 = .ok (.iconst 2, 1) := dk_5 (dk_at dksX0_winsOf_0 12 rfl rfl)
theorem dX0_winsOf_13 : decode cX0_winsOf 13 = .ok (.if_icmp .ne 7, 3) := dk_160 0 7 (dk_at dksX0_winsOf_0 13 rfl rfl)
theorem dX0_winsOf_16 : decode cX0_winsOf 16 = .ok (.iconst 2, 1) := dk_5 (dk_at dksX0_winsOf_0 16 rfl rfl)
theorem dX0_winsOf_17 : decode cX0_winsOf 17 = .ok (.iload_n 2, 1) := dk_28 (dk_at dksX0_winsOf_0 17 rfl rfl)
theorem dX0_winsOf_18 : decode cX0_winsOf 18 = .ok (.isub, 1) := dk_100 (dk_at dksX0_winsOf_0 18 rfl rfl)
theorem dX0_winsOf_19 : decode cX0_winsOf 19 = .ok (.ireturn, 1) := dk_172 (dk_at dksX0_winsOf_0 19 rfl rfl)
theorem dX0_winsOf_20 : decode cX0_winsOf 20 = .ok (.aload_n 0, 1) := dk_42 (dk_at dksX0_winsOf_0 20 rfl rfl)
theorem dX0_winsOf_21 : decode cX0_winsOf 21 = .ok (.getfield 68, 3) := dk_180 0 68 (dk_at dksX0_winsOf_0 21 rfl rfl)
theorem dX0_winsOf_24 : decode cX0_winsOf 24 = .ok (.iload_n 1, 1) := dk_27 (dk_at dksX0_winsOf_1 0 rfl rfl)
theorem dX0_winsOf_25 : decode cX0_winsOf 25 = .ok (.invokevirtual 266, 3) := dk_182 1 10 (dk_at dksX0_winsOf_1 1 rfl rfl)
theorem dX0_winsOf_28 : decode cX0_winsOf 28 = .ok (.invokevirtual 278, 3) := dk_182 1 22 (dk_at dksX0_winsOf_1 4 rfl rfl)
theorem dX0_winsOf_31 : decode cX0_winsOf 31 = .ok (.istore_n 3, 1) := dk_62 (dk_at dksX0_winsOf_1 7 rfl rfl)
theorem dX0_winsOf_32 : decode cX0_winsOf 32 = .ok (.iload_n 3, 1) := dk_29 (dk_at dksX0_winsOf_1 8 rfl rfl)
theorem dX0_winsOf_33 : decode cX0_winsOf 33 = .ok (.ifCond .le 7, 3) := dk_158 0 7 (dk_at dksX0_winsOf_1 9 rfl rfl)
theorem dX0_winsOf_36 : decode cX0_winsOf 36 = .ok (.iconst 0, 1) := dk_3 (dk_at dksX0_winsOf_1 12 rfl rfl)
theorem dX0_winsOf_37 : decode cX0_winsOf 37 = .ok (.goto 12, 3) := dk_167 0 12 (dk_at dksX0_winsOf_1 13 rfl rfl)
theorem dX0_winsOf_40 : decode cX0_winsOf 40 = .ok (.iload_n 3, 1) := dk_29 (dk_at dksX0_winsOf_1 16 rfl rfl)
theorem dX0_winsOf_41 : decode cX0_winsOf 41 = .ok (.ifCond .ge 7, 3) := dk_156 0 7 (dk_at dksX0_winsOf_1 17 rfl rfl)
theorem dX0_winsOf_44 : decode cX0_winsOf 44 = .ok (.iconst 1, 1) := dk_4 (dk_at dksX0_winsOf_1 20 rfl rfl)
theorem dX0_winsOf_45 : decode cX0_winsOf 45 = .ok (.goto 4, 3) := dk_167 0 4 (dk_at dksX0_winsOf_1 21 rfl rfl)
theorem dX0_winsOf_48 : decode cX0_winsOf 48 = .ok (.iconst (-1), 1) := dk_2 (dk_at dksX0_winsOf_2 0 rfl rfl)
theorem dX0_winsOf_49 : decode cX0_winsOf 49 = .ok (.ireturn, 1) := dk_172 (dk_at dksX0_winsOf_2 1 rfl rfl)
abbrev cX0_peak : ByteArray := prog_1_method_34_code
def yX0_peak : MethodName := ⟨RX0, "peak", "(II)I"⟩
def dkwX0_peak_3 : List UInt8 := [132, 4, 1, 167, 255, 216, 29, 172]
abbrev dktX0_peak_3 : List UInt8 := dkwX0_peak_3 ++ []
def dkwX0_peak_2 : List UInt8 := [180, 0, 68, 27, 21, 4, 182, 1, 28, 42, 180, 0, 68, 27, 29, 182, 1, 28, 164, 0, 6, 21, 4, 62]
abbrev dktX0_peak_2 : List UInt8 := dkwX0_peak_2 ++ dktX0_peak_3
def dkwX0_peak_1 : List UInt8 := [182, 1, 10, 87, 3, 62, 4, 54, 4, 21, 4, 42, 180, 0, 47, 180, 0, 207, 163, 0, 34, 42]
abbrev dktX0_peak_1 : List UInt8 := dkwX0_peak_1 ++ dktX0_peak_2
def dkwX0_peak_0 : List UInt8 := [42, 27, 182, 0, 192, 153, 0, 11, 42, 28, 182, 1, 1, 154, 0, 6, 16, 254, 172, 42, 180, 0, 68, 28]
abbrev dktX0_peak_0 : List UInt8 := dkwX0_peak_0 ++ dktX0_peak_1
theorem dksX0_peak_0 : cX0_peak.data.toList.drop 0 = dktX0_peak_0 := by decide +kernel
theorem dksX0_peak_1 : cX0_peak.data.toList.drop 24 = dktX0_peak_1 := dk_seg dksX0_peak_0 24 rfl rfl
theorem dksX0_peak_2 : cX0_peak.data.toList.drop 46 = dktX0_peak_2 := dk_seg dksX0_peak_1 22 rfl rfl
theorem dksX0_peak_3 : cX0_peak.data.toList.drop 70 = dktX0_peak_3 := dk_seg dksX0_peak_2 24 rfl rfl
theorem dX0_peak_0 : decode cX0_peak 0 = .ok (.aload_n 0, 1) := dk_42 (dk_at dksX0_peak_0 0 rfl rfl)
theorem dX0_peak_1 : decode cX0_peak 1 = .ok (.iload_n 1, 1) := dk_27 (dk_at dksX0_peak_0 1 rfl rfl)
theorem dX0_peak_2 : decode cX0_peak 2 = .ok (.invokevirtual 192, 3) := dk_182 0 192 (dk_at dksX0_peak_0 2 rfl rfl)
theorem dX0_peak_5 : decode cX0_peak 5 = .ok (.ifCond .eq 11, 3) := dk_153 0 11 (dk_at dksX0_peak_0 5 rfl rfl)
theorem dX0_peak_8 : decode cX0_peak 8 = .ok (.aload_n 0, 1) := dk_42 (dk_at dksX0_peak_0 8 rfl rfl)
theorem dX0_peak_9 : decode cX0_peak 9 = .ok (.iload_n 2, 1) := dk_28 (dk_at dksX0_peak_0 9 rfl rfl)
theorem dX0_peak_10 : decode cX0_peak 10 = .ok (.invokevirtual 257, 3) := dk_182 1 1 (dk_at dksX0_peak_0 10 rfl rfl)
theorem dX0_peak_13 : decode cX0_peak 13 = .ok (.ifCond .ne 6, 3) := dk_154 0 6 (dk_at dksX0_peak_0 13 rfl rfl)
theorem dX0_peak_16 : decode cX0_peak 16 = .ok (.bipush (-2), 2) := dk_16 254 (dk_at dksX0_peak_0 16 rfl rfl)
theorem dX0_peak_18 : decode cX0_peak 18 = .ok (.ireturn, 1) := dk_172 (dk_at dksX0_peak_0 18 rfl rfl)
theorem dX0_peak_19 : decode cX0_peak 19 = .ok (.aload_n 0, 1) := dk_42 (dk_at dksX0_peak_0 19 rfl rfl)
theorem dX0_peak_20 : decode cX0_peak 20 = .ok (.getfield 68, 3) := dk_180 0 68 (dk_at dksX0_peak_0 20 rfl rfl)
theorem dX0_peak_23 : decode cX0_peak 23 = .ok (.iload_n 2, 1) := dk_28 (dk_at dksX0_peak_0 23 rfl rfl)
theorem dX0_peak_24 : decode cX0_peak 24 = .ok (.invokevirtual 266, 3) := dk_182 1 10 (dk_at dksX0_peak_1 0 rfl rfl)
theorem dX0_peak_27 : decode cX0_peak 27 = .ok (.pop, 1) := dk_87 (dk_at dksX0_peak_1 3 rfl rfl)
theorem dX0_peak_28 : decode cX0_peak 28 = .ok (.iconst 0, 1) := dk_3 (dk_at dksX0_peak_1 4 rfl rfl)
theorem dX0_peak_29 : decode cX0_peak 29 = .ok (.istore_n 3, 1) := dk_62 (dk_at dksX0_peak_1 5 rfl rfl)
theorem dX0_peak_30 : decode cX0_peak 30 = .ok (.iconst 1, 1) := dk_4 (dk_at dksX0_peak_1 6 rfl rfl)
theorem dX0_peak_31 : decode cX0_peak 31 = .ok (.istore 4, 2) := dk_54 4 (dk_at dksX0_peak_1 7 rfl rfl)
theorem dX0_peak_33 : decode cX0_peak 33 = .ok (.iload 4, 2) := dk_21 4 (dk_at dksX0_peak_1 9 rfl rfl)
theorem dX0_peak_35 : decode cX0_peak 35 = .ok (.aload_n 0, 1) := dk_42 (dk_at dksX0_peak_1 11 rfl rfl)
theorem dX0_peak_36 : decode cX0_peak 36 = .ok (.getfield 47, 3) := dk_180 0 47 (dk_at dksX0_peak_1 12 rfl rfl)
theorem dX0_peak_39 : decode cX0_peak 39 = .ok (.getfield 207, 3) := dk_180 0 207 (dk_at dksX0_peak_1 15 rfl rfl)
theorem dX0_peak_42 : decode cX0_peak 42 = .ok (.if_icmp .gt 34, 3) := dk_163 0 34 (dk_at dksX0_peak_1 18 rfl rfl)
theorem dX0_peak_45 : decode cX0_peak 45 = .ok (.aload_n 0, 1) := dk_42 (dk_at dksX0_peak_1 21 rfl rfl)
theorem dX0_peak_46 : decode cX0_peak 46 = .ok (.getfield 68, 3) := dk_180 0 68 (dk_at dksX0_peak_2 0 rfl rfl)
theorem dX0_peak_49 : decode cX0_peak 49 = .ok (.iload_n 1, 1) := dk_27 (dk_at dksX0_peak_2 3 rfl rfl)
theorem dX0_peak_50 : decode cX0_peak 50 = .ok (.iload 4, 2) := dk_21 4 (dk_at dksX0_peak_2 4 rfl rfl)
theorem dX0_peak_52 : decode cX0_peak 52 = .ok (.invokevirtual 284, 3) := dk_182 1 28 (dk_at dksX0_peak_2 6 rfl rfl)
theorem dX0_peak_55 : decode cX0_peak 55 = .ok (.aload_n 0, 1) := dk_42 (dk_at dksX0_peak_2 9 rfl rfl)
theorem dX0_peak_56 : decode cX0_peak 56 = .ok (.getfield 68, 3) := dk_180 0 68 (dk_at dksX0_peak_2 10 rfl rfl)
theorem dX0_peak_59 : decode cX0_peak 59 = .ok (.iload_n 1, 1) := dk_27 (dk_at dksX0_peak_2 13 rfl rfl)
theorem dX0_peak_60 : decode cX0_peak 60 = .ok (.iload_n 3, 1) := dk_29 (dk_at dksX0_peak_2 14 rfl rfl)
theorem dX0_peak_61 : decode cX0_peak 61 = .ok (.invokevirtual 284, 3) := dk_182 1 28 (dk_at dksX0_peak_2 15 rfl rfl)
theorem dX0_peak_64 : decode cX0_peak 64 = .ok (.if_icmp .le 6, 3) := dk_164 0 6 (dk_at dksX0_peak_2 18 rfl rfl)
theorem dX0_peak_67 : decode cX0_peak 67 = .ok (.iload 4, 2) := dk_21 4 (dk_at dksX0_peak_2 21 rfl rfl)
theorem dX0_peak_69 : decode cX0_peak 69 = .ok (.istore_n 3, 1) := dk_62 (dk_at dksX0_peak_2 23 rfl rfl)
theorem dX0_peak_70 : decode cX0_peak 70 = .ok (.iinc 4 1, 3) := dk_132 4 1 (dk_at dksX0_peak_3 0 rfl rfl)
theorem dX0_peak_73 : decode cX0_peak 73 = .ok (.goto (-40), 3) := dk_167 255 216 (dk_at dksX0_peak_3 3 rfl rfl)
theorem dX0_peak_76 : decode cX0_peak 76 = .ok (.iload_n 3, 1) := dk_29 (dk_at dksX0_peak_3 6 rfl rfl)
theorem dX0_peak_77 : decode cX0_peak 77 = .ok (.ireturn, 1) := dk_172 (dk_at dksX0_peak_3 7 rfl rfl)
abbrev cX0_swings : ByteArray := prog_1_method_35_code
def yX0_swings : MethodName := ⟨RX0, "swings", "(I)I"⟩
def dkwX0_swings_3 : List UInt8 := [159, 0, 7, 4, 167, 0, 4, 3, 96, 61, 21, 5, 62, 132, 4, 1, 167, 255, 197, 28, 172]
abbrev dktX0_swings_3 : List UInt8 := dkwX0_swings_3 ++ []
def dkwX0_swings_2 : List UInt8 := [46, 184, 1, 32, 54, 5, 21, 5, 154, 0, 6, 167, 0, 24, 28, 29, 153, 0, 13, 21, 5, 29]
abbrev dktX0_swings_2 : List UInt8 := dkwX0_swings_2 ++ dktX0_swings_3
def dkwX0_swings_1 : List UInt8 := [4, 54, 4, 21, 4, 42, 180, 0, 47, 180, 0, 207, 163, 0, 53, 42, 180, 0, 68, 180, 1, 14, 21, 4]
abbrev dktX0_swings_1 : List UInt8 := dkwX0_swings_1 ++ dktX0_swings_2
def dkwX0_swings_0 : List UInt8 := [42, 27, 182, 1, 1, 154, 0, 6, 16, 254, 172, 42, 180, 0, 68, 27, 182, 1, 10, 87, 3, 61, 3, 62]
abbrev dktX0_swings_0 : List UInt8 := dkwX0_swings_0 ++ dktX0_swings_1
theorem dksX0_swings_0 : cX0_swings.data.toList.drop 0 = dktX0_swings_0 := by decide +kernel
theorem dksX0_swings_1 : cX0_swings.data.toList.drop 24 = dktX0_swings_1 := dk_seg dksX0_swings_0 24 rfl rfl
theorem dksX0_swings_2 : cX0_swings.data.toList.drop 48 = dktX0_swings_2 := dk_seg dksX0_swings_1 24 rfl rfl
theorem dksX0_swings_3 : cX0_swings.data.toList.drop 70 = dktX0_swings_3 := dk_seg dksX0_swings_2 22 rfl rfl
theorem dX0_swings_0 : decode cX0_swings 0 = .ok (.aload_n 0, 1) := dk_42 (dk_at dksX0_swings_0 0 rfl rfl)
theorem dX0_swings_1 : decode cX0_swings 1 = .ok (.iload_n 1, 1) := dk_27 (dk_at dksX0_swings_0 1 rfl rfl)
theorem dX0_swings_2 : decode cX0_swings 2 = .ok (.invokevirtual 257, 3) := dk_182 1 1 (dk_at dksX0_swings_0 2 rfl rfl)
theorem dX0_swings_5 : decode cX0_swings 5 = .ok (.ifCond .ne 6, 3) := dk_154 0 6 (dk_at dksX0_swings_0 5 rfl rfl)
theorem dX0_swings_8 : decode cX0_swings 8 = .ok (.bipush (-2), 2) := dk_16 254 (dk_at dksX0_swings_0 8 rfl rfl)
theorem dX0_swings_10 : decode cX0_swings 10 = .ok (.ireturn, 1) := dk_172 (dk_at dksX0_swings_0 10 rfl rfl)
theorem dX0_swings_11 : decode cX0_swings 11 = .ok (.aload_n 0, 1) := dk_42 (dk_at dksX0_swings_0 11 rfl rfl)
theorem dX0_swings_12 : decode cX0_swings 12 = .ok (.getfield 68, 3) := dk_180 0 68 (dk_at dksX0_swings_0 12 rfl rfl)
theorem dX0_swings_15 : decode cX0_swings 15 = .ok (.iload_n 1, 1) := dk_27 (dk_at dksX0_swings_0 15 rfl rfl)
theorem dX0_swings_16 : decode cX0_swings 16 = .ok (.invokevirtual 266, 3) := dk_182 1 10 (dk_at dksX0_swings_0 16 rfl rfl)
theorem dX0_swings_19 : decode cX0_swings 19 = .ok (.pop, 1) := dk_87 (dk_at dksX0_swings_0 19 rfl rfl)
theorem dX0_swings_20 : decode cX0_swings 20 = .ok (.iconst 0, 1) := dk_3 (dk_at dksX0_swings_0 20 rfl rfl)
theorem dX0_swings_21 : decode cX0_swings 21 = .ok (.istore_n 2, 1) := dk_61 (dk_at dksX0_swings_0 21 rfl rfl)
theorem dX0_swings_22 : decode cX0_swings 22 = .ok (.iconst 0, 1) := dk_3 (dk_at dksX0_swings_0 22 rfl rfl)
theorem dX0_swings_23 : decode cX0_swings 23 = .ok (.istore_n 3, 1) := dk_62 (dk_at dksX0_swings_0 23 rfl rfl)
theorem dX0_swings_24 : decode cX0_swings 24 = .ok (.iconst 1, 1) := dk_4 (dk_at dksX0_swings_1 0 rfl rfl)
theorem dX0_swings_25 : decode cX0_swings 25 = .ok (.istore 4, 2) := dk_54 4 (dk_at dksX0_swings_1 1 rfl rfl)
theorem dX0_swings_27 : decode cX0_swings 27 = .ok (.iload 4, 2) := dk_21 4 (dk_at dksX0_swings_1 3 rfl rfl)
theorem dX0_swings_29 : decode cX0_swings 29 = .ok (.aload_n 0, 1) := dk_42 (dk_at dksX0_swings_1 5 rfl rfl)
theorem dX0_swings_30 : decode cX0_swings 30 = .ok (.getfield 47, 3) := dk_180 0 47 (dk_at dksX0_swings_1 6 rfl rfl)
theorem dX0_swings_33 : decode cX0_swings 33 = .ok (.getfield 207, 3) := dk_180 0 207 (dk_at dksX0_swings_1 9 rfl rfl)
theorem dX0_swings_36 : decode cX0_swings 36 = .ok (.if_icmp .gt 53, 3) := dk_163 0 53 (dk_at dksX0_swings_1 12 rfl rfl)
theorem dX0_swings_39 : decode cX0_swings 39 = .ok (.aload_n 0, 1) := dk_42 (dk_at dksX0_swings_1 15 rfl rfl)
theorem dX0_swings_40 : decode cX0_swings 40 = .ok (.getfield 68, 3) := dk_180 0 68 (dk_at dksX0_swings_1 16 rfl rfl)
theorem dX0_swings_43 : decode cX0_swings 43 = .ok (.getfield 270, 3) := dk_180 1 14 (dk_at dksX0_swings_1 19 rfl rfl)
theorem dX0_swings_46 : decode cX0_swings 46 = .ok (.iload 4, 2) := dk_21 4 (dk_at dksX0_swings_1 22 rfl rfl)
theorem dX0_swings_48 : decode cX0_swings 48 = .ok (.iaload, 1) := dk_46 (dk_at dksX0_swings_2 0 rfl rfl)
theorem dX0_swings_49 : decode cX0_swings 49 = .ok (.invokestatic 288, 3) := dk_184 1 32 (dk_at dksX0_swings_2 1 rfl rfl)
theorem dX0_swings_52 : decode cX0_swings 52 = .ok (.istore 5, 2) := dk_54 5 (dk_at dksX0_swings_2 4 rfl rfl)
theorem dX0_swings_54 : decode cX0_swings 54 = .ok (.iload 5, 2) := dk_21 5 (dk_at dksX0_swings_2 6 rfl rfl)
theorem dX0_swings_56 : decode cX0_swings 56 = .ok (.ifCond .ne 6, 3) := dk_154 0 6 (dk_at dksX0_swings_2 8 rfl rfl)
theorem dX0_swings_59 : decode cX0_swings 59 = .ok (.goto 24, 3) := dk_167 0 24 (dk_at dksX0_swings_2 11 rfl rfl)
theorem dX0_swings_62 : decode cX0_swings 62 = .ok (.iload_n 2, 1) := dk_28 (dk_at dksX0_swings_2 14 rfl rfl)
theorem dX0_swings_63 : decode cX0_swings 63 = .ok (.iload_n 3, 1) := dk_29 (dk_at dksX0_swings_2 15 rfl rfl)
theorem dX0_swings_64 : decode cX0_swings 64 = .ok (.ifCond .eq 13, 3) := dk_153 0 13 (dk_at dksX0_swings_2 16 rfl rfl)
theorem dX0_swings_67 : decode cX0_swings 67 = .ok (.iload 5, 2) := dk_21 5 (dk_at dksX0_swings_2 19 rfl rfl)
theorem dX0_swings_69 : decode cX0_swings 69 = .ok (.iload_n 3, 1) := dk_29 (dk_at dksX0_swings_2 21 rfl rfl)
theorem dX0_swings_70 : decode cX0_swings 70 = .ok (.if_icmp .eq 7, 3) := dk_159 0 7 (dk_at dksX0_swings_3 0 rfl rfl)
theorem dX0_swings_73 : decode cX0_swings 73 = .ok (.iconst 1, 1) := dk_4 (dk_at dksX0_swings_3 3 rfl rfl)
theorem dX0_swings_74 : decode cX0_swings 74 = .ok (.goto 4, 3) := dk_167 0 4 (dk_at dksX0_swings_3 4 rfl rfl)
theorem dX0_swings_77 : decode cX0_swings 77 = .ok (.iconst 0, 1) := dk_3 (dk_at dksX0_swings_3 7 rfl rfl)
theorem dX0_swings_78 : decode cX0_swings 78 = .ok (.iadd, 1) := dk_96 (dk_at dksX0_swings_3 8 rfl rfl)
theorem dX0_swings_79 : decode cX0_swings 79 = .ok (.istore_n 2, 1) := dk_61 (dk_at dksX0_swings_3 9 rfl rfl)
theorem dX0_swings_80 : decode cX0_swings 80 = .ok (.iload 5, 2) := dk_21 5 (dk_at dksX0_swings_3 10 rfl rfl)
theorem dX0_swings_82 : decode cX0_swings 82 = .ok (.istore_n 3, 1) := dk_62 (dk_at dksX0_swings_3 12 rfl rfl)
theorem dX0_swings_83 : decode cX0_swings 83 = .ok (.iinc 4 1, 3) := dk_132 4 1 (dk_at dksX0_swings_3 13 rfl rfl)
theorem dX0_swings_86 : decode cX0_swings 86 = .ok (.goto (-59), 3) := dk_167 255 197 (dk_at dksX0_swings_3 16 rfl rfl)
theorem dX0_swings_89 : decode cX0_swings 89 = .ok (.iload_n 2, 1) := dk_28 (dk_at dksX0_swings_3 19 rfl rfl)
theorem dX0_swings_90 : decode cX0_swings 90 = .ok (.ireturn, 1) := dk_172 (dk_at dksX0_swings_3 20 rfl rfl)
abbrev cX0_worst : ByteArray := prog_1_method_37_code
def yX0_worst : MethodName := ⟨RX0, "worst", "(I)I"⟩
def dkwX0_worst_0 : List UInt8 := [42, 27, 182, 0, 192, 154, 0, 7, 17, 252, 24, 172, 42, 27, 182, 1, 43, 42, 180, 1, 38, 172]
abbrev dktX0_worst_0 : List UInt8 := dkwX0_worst_0 ++ []
theorem dksX0_worst_0 : cX0_worst.data.toList.drop 0 = dktX0_worst_0 := by decide +kernel
theorem dX0_worst_0 : decode cX0_worst 0 = .ok (.aload_n 0, 1) := dk_42 (dk_at dksX0_worst_0 0 rfl rfl)
theorem dX0_worst_1 : decode cX0_worst 1 = .ok (.iload_n 1, 1) := dk_27 (dk_at dksX0_worst_0 1 rfl rfl)
theorem dX0_worst_2 : decode cX0_worst 2 = .ok (.invokevirtual 192, 3) := dk_182 0 192 (dk_at dksX0_worst_0 2 rfl rfl)
theorem dX0_worst_5 : decode cX0_worst 5 = .ok (.ifCond .ne 7, 3) := dk_154 0 7 (dk_at dksX0_worst_0 5 rfl rfl)
theorem dX0_worst_8 : decode cX0_worst 8 = .ok (.sipush (-1000), 3) := dk_17 252 24 (dk_at dksX0_worst_0 8 rfl rfl)
theorem dX0_worst_11 : decode cX0_worst 11 = .ok (.ireturn, 1) := dk_172 (dk_at dksX0_worst_0 11 rfl rfl)
theorem dX0_worst_12 : decode cX0_worst 12 = .ok (.aload_n 0, 1) := dk_42 (dk_at dksX0_worst_0 12 rfl rfl)
theorem dX0_worst_13 : decode cX0_worst 13 = .ok (.iload_n 1, 1) := dk_27 (dk_at dksX0_worst_0 13 rfl rfl)
theorem dX0_worst_14 : decode cX0_worst 14 = .ok (.invokevirtual 299, 3) := dk_182 1 43 (dk_at dksX0_worst_0 14 rfl rfl)
theorem dX0_worst_17 : decode cX0_worst 17 = .ok (.aload_n 0, 1) := dk_42 (dk_at dksX0_worst_0 17 rfl rfl)
theorem dX0_worst_18 : decode cX0_worst 18 = .ok (.getfield 294, 3) := dk_180 1 38 (dk_at dksX0_worst_0 18 rfl rfl)
theorem dX0_worst_21 : decode cX0_worst 21 = .ok (.ireturn, 1) := dk_172 (dk_at dksX0_worst_0 21 rfl rfl)
abbrev cX0_laysWorst : ByteArray := prog_1_method_36_code
def yX0_laysWorst : MethodName := ⟨RX0, "laysWorst", "(I)V"⟩
def dkwX0_laysWorst_4 : List UInt8 := [132, 2, 1, 167, 255, 171, 177]
abbrev dktX0_laysWorst_4 : List UInt8 := dkwX0_laysWorst_4 ++ []
def dkwX0_laysWorst_3 : List UInt8 := [180, 1, 35, 184, 1, 41, 161, 0, 6, 167, 0, 13, 42, 29, 181, 1, 38, 42, 28, 181, 1, 35]
abbrev dktX0_laysWorst_3 : List UInt8 := dkwX0_laysWorst_3 ++ dktX0_laysWorst_4
def dkwX0_laysWorst_2 : List UInt8 := [159, 0, 36, 29, 42, 180, 1, 38, 163, 0, 38, 29, 42, 180, 1, 38, 160, 0, 20, 28, 184, 1, 41, 42]
abbrev dktX0_laysWorst_2 : List UInt8 := dkwX0_laysWorst_2 ++ dktX0_laysWorst_3
def dkwX0_laysWorst_1 : List UInt8 := [180, 0, 68, 28, 182, 1, 10, 27, 42, 180, 0, 47, 180, 0, 207, 182, 1, 28, 62, 42, 180, 1, 35, 2]
abbrev dktX0_laysWorst_1 : List UInt8 := dkwX0_laysWorst_1 ++ dktX0_laysWorst_2
def dkwX0_laysWorst_0 : List UInt8 := [42, 2, 181, 1, 35, 42, 3, 181, 1, 38, 3, 61, 28, 42, 180, 0, 47, 182, 0, 162, 163, 0, 80, 42]
abbrev dktX0_laysWorst_0 : List UInt8 := dkwX0_laysWorst_0 ++ dktX0_laysWorst_1
theorem dksX0_laysWorst_0 : cX0_laysWorst.data.toList.drop 0 = dktX0_laysWorst_0 := by decide +kernel
theorem dksX0_laysWorst_1 : cX0_laysWorst.data.toList.drop 24 = dktX0_laysWorst_1 := dk_seg dksX0_laysWorst_0 24 rfl rfl
theorem dksX0_laysWorst_2 : cX0_laysWorst.data.toList.drop 48 = dktX0_laysWorst_2 := dk_seg dksX0_laysWorst_1 24 rfl rfl
theorem dksX0_laysWorst_3 : cX0_laysWorst.data.toList.drop 72 = dktX0_laysWorst_3 := dk_seg dksX0_laysWorst_2 24 rfl rfl
theorem dksX0_laysWorst_4 : cX0_laysWorst.data.toList.drop 94 = dktX0_laysWorst_4 := dk_seg dksX0_laysWorst_3 22 rfl rfl
theorem dX0_laysWorst_0 : decode cX0_laysWorst 0 = .ok (.aload_n 0, 1) := dk_42 (dk_at dksX0_laysWorst_0 0 rfl rfl)
theorem dX0_laysWorst_1 : decode cX0_laysWorst 1 = .ok (.iconst (-1), 1) := dk_2 (dk_at dksX0_laysWorst_0 1 rfl rfl)
theorem dX0_laysWorst_2 : decode cX0_laysWorst 2 = .ok (.putfield 291, 3) := dk_181 1 35 (dk_at dksX0_laysWorst_0 2 rfl rfl)
theorem dX0_laysWorst_5 : decode cX0_laysWorst 5 = .ok (.aload_n 0, 1) := dk_42 (dk_at dksX0_laysWorst_0 5 rfl rfl)
theorem dX0_laysWorst_6 : decode cX0_laysWorst 6 = .ok (.iconst 0, 1) := dk_3 (dk_at dksX0_laysWorst_0 6 rfl rfl)
theorem dX0_laysWorst_7 : decode cX0_laysWorst 7 = .ok (.putfield 294, 3) := dk_181 1 38 (dk_at dksX0_laysWorst_0 7 rfl rfl)
theorem dX0_laysWorst_10 : decode cX0_laysWorst 10 = .ok (.iconst 0, 1) := dk_3 (dk_at dksX0_laysWorst_0 10 rfl rfl)
theorem dX0_laysWorst_11 : decode cX0_laysWorst 11 = .ok (.istore_n 2, 1) := dk_61 (dk_at dksX0_laysWorst_0 11 rfl rfl)
theorem dX0_laysWorst_12 : decode cX0_laysWorst 12 = .ok (.iload_n 2, 1) := dk_28 (dk_at dksX0_laysWorst_0 12 rfl rfl)
theorem dX0_laysWorst_13 : decode cX0_laysWorst 13 = .ok (.aload_n 0, 1) := dk_42 (dk_at dksX0_laysWorst_0 13 rfl rfl)
theorem dX0_laysWorst_14 : decode cX0_laysWorst 14 = .ok (.getfield 47, 3) := dk_180 0 47 (dk_at dksX0_laysWorst_0 14 rfl rfl)
theorem dX0_laysWorst_17 : decode cX0_laysWorst 17 = .ok (.invokevirtual 162, 3) := dk_182 0 162 (dk_at dksX0_laysWorst_0 17 rfl rfl)
theorem dX0_laysWorst_20 : decode cX0_laysWorst 20 = .ok (.if_icmp .gt 80, 3) := dk_163 0 80 (dk_at dksX0_laysWorst_0 20 rfl rfl)
theorem dX0_laysWorst_23 : decode cX0_laysWorst 23 = .ok (.aload_n 0, 1) := dk_42 (dk_at dksX0_laysWorst_0 23 rfl rfl)
theorem dX0_laysWorst_24 : decode cX0_laysWorst 24 = .ok (.getfield 68, 3) := dk_180 0 68 (dk_at dksX0_laysWorst_1 0 rfl rfl)
theorem dX0_laysWorst_27 : decode cX0_laysWorst 27 = .ok (.iload_n 2, 1) := dk_28 (dk_at dksX0_laysWorst_1 3 rfl rfl)
theorem dX0_laysWorst_28 : decode cX0_laysWorst 28 = .ok (.invokevirtual 266, 3) := dk_182 1 10 (dk_at dksX0_laysWorst_1 4 rfl rfl)
theorem dX0_laysWorst_31 : decode cX0_laysWorst 31 = .ok (.iload_n 1, 1) := dk_27 (dk_at dksX0_laysWorst_1 7 rfl rfl)
theorem dX0_laysWorst_32 : decode cX0_laysWorst 32 = .ok (.aload_n 0, 1) := dk_42 (dk_at dksX0_laysWorst_1 8 rfl rfl)
theorem dX0_laysWorst_33 : decode cX0_laysWorst 33 = .ok (.getfield 47, 3) := dk_180 0 47 (dk_at dksX0_laysWorst_1 9 rfl rfl)
theorem dX0_laysWorst_36 : decode cX0_laysWorst 36 = .ok (.getfield 207, 3) := dk_180 0 207 (dk_at dksX0_laysWorst_1 12 rfl rfl)
theorem dX0_laysWorst_39 : decode cX0_laysWorst 39 = .ok (.invokevirtual 284, 3) := dk_182 1 28 (dk_at dksX0_laysWorst_1 15 rfl rfl)
theorem dX0_laysWorst_42 : decode cX0_laysWorst 42 = .ok (.istore_n 3, 1) := dk_62 (dk_at dksX0_laysWorst_1 18 rfl rfl)
theorem dX0_laysWorst_43 : decode cX0_laysWorst 43 = .ok (.aload_n 0, 1) := dk_42 (dk_at dksX0_laysWorst_1 19 rfl rfl)
theorem dX0_laysWorst_44 : decode cX0_laysWorst 44 = .ok (.getfield 291, 3) := dk_180 1 35 (dk_at dksX0_laysWorst_1 20 rfl rfl)
theorem dX0_laysWorst_47 : decode cX0_laysWorst 47 = .ok (.iconst (-1), 1) := dk_2 (dk_at dksX0_laysWorst_1 23 rfl rfl)
theorem dX0_laysWorst_48 : decode cX0_laysWorst 48 = .ok (.if_icmp .eq 36, 3) := dk_159 0 36 (dk_at dksX0_laysWorst_2 0 rfl rfl)
theorem dX0_laysWorst_51 : decode cX0_laysWorst 51 = .ok (.iload_n 3, 1) := dk_29 (dk_at dksX0_laysWorst_2 3 rfl rfl)
theorem dX0_laysWorst_52 : decode cX0_laysWorst 52 = .ok (.aload_n 0, 1) := dk_42 (dk_at dksX0_laysWorst_2 4 rfl rfl)
theorem dX0_laysWorst_53 : decode cX0_laysWorst 53 = .ok (.getfield 294, 3) := dk_180 1 38 (dk_at dksX0_laysWorst_2 5 rfl rfl)
theorem dX0_laysWorst_56 : decode cX0_laysWorst 56 = .ok (.if_icmp .gt 38, 3) := dk_163 0 38 (dk_at dksX0_laysWorst_2 8 rfl rfl)
theorem dX0_laysWorst_59 : decode cX0_laysWorst 59 = .ok (.iload_n 3, 1) := dk_29 (dk_at dksX0_laysWorst_2 11 rfl rfl)
theorem dX0_laysWorst_60 : decode cX0_laysWorst 60 = .ok (.aload_n 0, 1) := dk_42 (dk_at dksX0_laysWorst_2 12 rfl rfl)
theorem dX0_laysWorst_61 : decode cX0_laysWorst 61 = .ok (.getfield 294, 3) := dk_180 1 38 (dk_at dksX0_laysWorst_2 13 rfl rfl)
theorem dX0_laysWorst_64 : decode cX0_laysWorst 64 = .ok (.if_icmp .ne 20, 3) := dk_160 0 20 (dk_at dksX0_laysWorst_2 16 rfl rfl)
theorem dX0_laysWorst_67 : decode cX0_laysWorst 67 = .ok (.iload_n 2, 1) := dk_28 (dk_at dksX0_laysWorst_2 19 rfl rfl)
theorem dX0_laysWorst_68 : decode cX0_laysWorst 68 = .ok (.invokestatic 297, 3) := dk_184 1 41 (dk_at dksX0_laysWorst_2 20 rfl rfl)
theorem dX0_laysWorst_71 : decode cX0_laysWorst 71 = .ok (.aload_n 0, 1) := dk_42 (dk_at dksX0_laysWorst_2 23 rfl rfl)
theorem dX0_laysWorst_72 : decode cX0_laysWorst 72 = .ok (.getfield 291, 3) := dk_180 1 35 (dk_at dksX0_laysWorst_3 0 rfl rfl)
theorem dX0_laysWorst_75 : decode cX0_laysWorst 75 = .ok (.invokestatic 297, 3) := dk_184 1 41 (dk_at dksX0_laysWorst_3 3 rfl rfl)
theorem dX0_laysWorst_78 : decode cX0_laysWorst 78 = .ok (.if_icmp .lt 6, 3) := dk_161 0 6 (dk_at dksX0_laysWorst_3 6 rfl rfl)
theorem dX0_laysWorst_81 : decode cX0_laysWorst 81 = .ok (.goto 13, 3) := dk_167 0 13 (dk_at dksX0_laysWorst_3 9 rfl rfl)
theorem dX0_laysWorst_84 : decode cX0_laysWorst 84 = .ok (.aload_n 0, 1) := dk_42 (dk_at dksX0_laysWorst_3 12 rfl rfl)
theorem dX0_laysWorst_85 : decode cX0_laysWorst 85 = .ok (.iload_n 3, 1) := dk_29 (dk_at dksX0_laysWorst_3 13 rfl rfl)
theorem dX0_laysWorst_86 : decode cX0_laysWorst 86 = .ok (.putfield 294, 3) := dk_181 1 38 (dk_at dksX0_laysWorst_3 14 rfl rfl)
theorem dX0_laysWorst_89 : decode cX0_laysWorst 89 = .ok (.aload_n 0, 1) := dk_42 (dk_at dksX0_laysWorst_3 17 rfl rfl)
theorem dX0_laysWorst_90 : decode cX0_laysWorst 90 = .ok (.iload_n 2, 1) := dk_28 (dk_at dksX0_laysWorst_3 18 rfl rfl)
theorem dX0_laysWorst_91 : decode cX0_laysWorst 91 = .ok (.putfield 291, 3) := dk_181 1 35 (dk_at dksX0_laysWorst_3 19 rfl rfl)
theorem dX0_laysWorst_94 : decode cX0_laysWorst 94 = .ok (.iinc 2 1, 3) := dk_132 2 1 (dk_at dksX0_laysWorst_4 0 rfl rfl)
theorem dX0_laysWorst_97 : decode cX0_laysWorst 97 = .ok (.goto (-85), 3) := dk_167 255 171 (dk_at dksX0_laysWorst_4 3 rfl rfl)
theorem dX0_laysWorst_100 : decode cX0_laysWorst 100 = .ok (.return_, 1) := dk_177 (dk_at dksX0_laysWorst_4 6 rfl rfl)
abbrev cX0_size : ByteArray := prog_1_method_3_code
def yX0_size : MethodName := ⟨RX0, "size", "(I)I"⟩
theorem dX0_size_0 : decode cX0_size 0 = .ok (.iload_n 0, 1) := by decide +kernel
theorem dX0_size_1 : decode cX0_size 1 = .ok (.invokestatic 1, 3) := by decide +kernel
theorem dX0_size_4 : decode cX0_size 4 = .ok (.ireturn, 1) := by decide +kernel
abbrev cX0_by : ByteArray := prog_1_method_38_code
def yX0_by : MethodName := ⟨RX0, "by", "(I)I"⟩
def dkwX0_by_0 : List UInt8 := [42, 27, 182, 0, 192, 154, 0, 6, 16, 254, 172, 42, 27, 182, 1, 43, 42, 180, 1, 35, 172]
abbrev dktX0_by_0 : List UInt8 := dkwX0_by_0 ++ []
theorem dksX0_by_0 : cX0_by.data.toList.drop 0 = dktX0_by_0 := by decide +kernel
theorem dX0_by_0 : decode cX0_by 0 = .ok (.aload_n 0, 1) := dk_42 (dk_at dksX0_by_0 0 rfl rfl)
theorem dX0_by_1 : decode cX0_by 1 = .ok (.iload_n 1, 1) := dk_27 (dk_at dksX0_by_0 1 rfl rfl)
theorem dX0_by_2 : decode cX0_by 2 = .ok (.invokevirtual 192, 3) := dk_182 0 192 (dk_at dksX0_by_0 2 rfl rfl)
theorem dX0_by_5 : decode cX0_by 5 = .ok (.ifCond .ne 6, 3) := dk_154 0 6 (dk_at dksX0_by_0 5 rfl rfl)
theorem dX0_by_8 : decode cX0_by 8 = .ok (.bipush (-2), 2) := dk_16 254 (dk_at dksX0_by_0 8 rfl rfl)
theorem dX0_by_10 : decode cX0_by 10 = .ok (.ireturn, 1) := dk_172 (dk_at dksX0_by_0 10 rfl rfl)
theorem dX0_by_11 : decode cX0_by 11 = .ok (.aload_n 0, 1) := dk_42 (dk_at dksX0_by_0 11 rfl rfl)
theorem dX0_by_12 : decode cX0_by 12 = .ok (.iload_n 1, 1) := dk_27 (dk_at dksX0_by_0 12 rfl rfl)
theorem dX0_by_13 : decode cX0_by 13 = .ok (.invokevirtual 299, 3) := dk_182 1 43 (dk_at dksX0_by_0 13 rfl rfl)
theorem dX0_by_16 : decode cX0_by 16 = .ok (.aload_n 0, 1) := dk_42 (dk_at dksX0_by_0 16 rfl rfl)
theorem dX0_by_17 : decode cX0_by 17 = .ok (.getfield 291, 3) := dk_180 1 35 (dk_at dksX0_by_0 17 rfl rfl)
theorem dX0_by_20 : decode cX0_by 20 = .ok (.ireturn, 1) := dk_172 (dk_at dksX0_by_0 20 rfl rfl)
abbrev cX0_ways : ByteArray := prog_1_method_39_code
def yX0_ways : MethodName := ⟨RX0, "ways", "(I)I"⟩
def dkwX0_ways_2 : List UInt8 := [167, 255, 225, 28, 172]
abbrev dktX0_ways_2 : List UInt8 := dkwX0_ways_2 ++ []
def dkwX0_ways_1 : List UInt8 := [163, 0, 26, 28, 42, 29, 182, 1, 25, 27, 160, 0, 7, 4, 167, 0, 4, 3, 96, 61, 132, 3, 1]
abbrev dktX0_ways_1 : List UInt8 := dkwX0_ways_1 ++ dktX0_ways_2
def dkwX0_ways_0 : List UInt8 := [42, 27, 182, 0, 192, 154, 0, 6, 16, 254, 172, 3, 61, 3, 62, 29, 42, 180, 0, 47, 182, 0, 162]
abbrev dktX0_ways_0 : List UInt8 := dkwX0_ways_0 ++ dktX0_ways_1
theorem dksX0_ways_0 : cX0_ways.data.toList.drop 0 = dktX0_ways_0 := by decide +kernel
theorem dksX0_ways_1 : cX0_ways.data.toList.drop 23 = dktX0_ways_1 := dk_seg dksX0_ways_0 23 rfl rfl
theorem dksX0_ways_2 : cX0_ways.data.toList.drop 46 = dktX0_ways_2 := dk_seg dksX0_ways_1 23 rfl rfl
theorem dX0_ways_0 : decode cX0_ways 0 = .ok (.aload_n 0, 1) := dk_42 (dk_at dksX0_ways_0 0 rfl rfl)
theorem dX0_ways_1 : decode cX0_ways 1 = .ok (.iload_n 1, 1) := dk_27 (dk_at dksX0_ways_0 1 rfl rfl)
theorem dX0_ways_2 : decode cX0_ways 2 = .ok (.invokevirtual 192, 3) := dk_182 0 192 (dk_at dksX0_ways_0 2 rfl rfl)
theorem dX0_ways_5 : decode cX0_ways 5 = .ok (.ifCond .ne 6, 3) := dk_154 0 6 (dk_at dksX0_ways_0 5 rfl rfl)
theorem dX0_ways_8 : decode cX0_ways 8 = .ok (.bipush (-2), 2) := dk_16 254 (dk_at dksX0_ways_0 8 rfl rfl)
theorem dX0_ways_10 : decode cX0_ways 10 = .ok (.ireturn, 1) := dk_172 (dk_at dksX0_ways_0 10 rfl rfl)
theorem dX0_ways_11 : decode cX0_ways 11 = .ok (.iconst 0, 1) := dk_3 (dk_at dksX0_ways_0 11 rfl rfl)
theorem dX0_ways_12 : decode cX0_ways 12 = .ok (.istore_n 2, 1) := dk_61 (dk_at dksX0_ways_0 12 rfl rfl)
theorem dX0_ways_13 : decode cX0_ways 13 = .ok (.iconst 0, 1) := dk_3 (dk_at dksX0_ways_0 13 rfl rfl)
theorem dX0_ways_14 : decode cX0_ways 14 = .ok (.istore_n 3, 1) := dk_62 (dk_at dksX0_ways_0 14 rfl rfl)
theorem dX0_ways_15 : decode cX0_ways 15 = .ok (.iload_n 3, 1) := dk_29 (dk_at dksX0_ways_0 15 rfl rfl)
theorem dX0_ways_16 : decode cX0_ways 16 = .ok (.aload_n 0, 1) := dk_42 (dk_at dksX0_ways_0 16 rfl rfl)
theorem dX0_ways_17 : decode cX0_ways 17 = .ok (.getfield 47, 3) := dk_180 0 47 (dk_at dksX0_ways_0 17 rfl rfl)
theorem dX0_ways_20 : decode cX0_ways 20 = .ok (.invokevirtual 162, 3) := dk_182 0 162 (dk_at dksX0_ways_0 20 rfl rfl)
theorem dX0_ways_23 : decode cX0_ways 23 = .ok (.if_icmp .gt 26, 3) := dk_163 0 26 (dk_at dksX0_ways_1 0 rfl rfl)
theorem dX0_ways_26 : decode cX0_ways 26 = .ok (.iload_n 2, 1) := dk_28 (dk_at dksX0_ways_1 3 rfl rfl)
theorem dX0_ways_27 : decode cX0_ways 27 = .ok (.aload_n 0, 1) := dk_42 (dk_at dksX0_ways_1 4 rfl rfl)
theorem dX0_ways_28 : decode cX0_ways 28 = .ok (.iload_n 3, 1) := dk_29 (dk_at dksX0_ways_1 5 rfl rfl)
theorem dX0_ways_29 : decode cX0_ways 29 = .ok (.invokevirtual 281, 3) := dk_182 1 25 (dk_at dksX0_ways_1 6 rfl rfl)
theorem dX0_ways_32 : decode cX0_ways 32 = .ok (.iload_n 1, 1) := dk_27 (dk_at dksX0_ways_1 9 rfl rfl)
theorem dX0_ways_33 : decode cX0_ways 33 = .ok (.if_icmp .ne 7, 3) := dk_160 0 7 (dk_at dksX0_ways_1 10 rfl rfl)
theorem dX0_ways_36 : decode cX0_ways 36 = .ok (.iconst 1, 1) := dk_4 (dk_at dksX0_ways_1 13 rfl rfl)
theorem dX0_ways_37 : decode cX0_ways 37 = .ok (.goto 4, 3) := dk_167 0 4 (dk_at dksX0_ways_1 14 rfl rfl)
theorem dX0_ways_40 : decode cX0_ways 40 = .ok (.iconst 0, 1) := dk_3 (dk_at dksX0_ways_1 17 rfl rfl)
theorem dX0_ways_41 : decode cX0_ways 41 = .ok (.iadd, 1) := dk_96 (dk_at dksX0_ways_1 18 rfl rfl)
theorem dX0_ways_42 : decode cX0_ways 42 = .ok (.istore_n 2, 1) := dk_61 (dk_at dksX0_ways_1 19 rfl rfl)
theorem dX0_ways_43 : decode cX0_ways 43 = .ok (.iinc 3 1, 3) := dk_132 3 1 (dk_at dksX0_ways_1 20 rfl rfl)
theorem dX0_ways_46 : decode cX0_ways 46 = .ok (.goto (-31), 3) := dk_167 255 225 (dk_at dksX0_ways_2 0 rfl rfl)
theorem dX0_ways_49 : decode cX0_ways 49 = .ok (.iload_n 2, 1) := dk_28 (dk_at dksX0_ways_2 3 rfl rfl)
theorem dX0_ways_50 : decode cX0_ways 50 = .ok (.ireturn, 1) := dk_172 (dk_at dksX0_ways_2 4 rfl rfl)
abbrev cX0_idle : ByteArray := prog_1_method_40_code
def yX0_idle : MethodName := ⟨RX0, "idle", "()I"⟩
def dkwX0_idle_4 : List UInt8 := [4, 21, 4, 120, 2, 130, 126, 61, 132, 4, 1, 167, 255, 221, 132, 3, 1, 167, 255, 201, 28, 172]
abbrev dktX0_idle_4 : List UInt8 := dkwX0_idle_4 ++ []
def dkwX0_idle_3 : List UInt8 := [21, 4, 42, 182, 0, 160, 162, 0, 32, 43, 29, 46, 43, 29, 4, 21, 4, 120, 130, 46, 159, 0, 12, 28]
abbrev dktX0_idle_3 : List UInt8 := dkwX0_idle_3 ++ dktX0_idle_4
def dkwX0_idle_2 : List UInt8 := [180, 0, 47, 182, 0, 162, 61, 3, 62, 29, 42, 180, 0, 47, 182, 0, 162, 163, 0, 50, 3, 54, 4]
abbrev dktX0_idle_2 : List UInt8 := dkwX0_idle_2 ++ dktX0_idle_3
def dkwX0_idle_1 : List UInt8 := [180, 0, 47, 182, 0, 162, 163, 0, 17, 43, 28, 42, 28, 182, 1, 25, 79, 132, 2, 1, 167, 255, 234, 42]
abbrev dktX0_idle_1 : List UInt8 := dkwX0_idle_1 ++ dktX0_idle_2
def dkwX0_idle_0 : List UInt8 := [42, 180, 0, 47, 182, 0, 126, 154, 0, 6, 16, 254, 172, 17, 2, 0, 188, 10, 76, 3, 61, 28, 42]
abbrev dktX0_idle_0 : List UInt8 := dkwX0_idle_0 ++ dktX0_idle_1
theorem dksX0_idle_0 : cX0_idle.data.toList.drop 0 = dktX0_idle_0 := by decide +kernel
theorem dksX0_idle_1 : cX0_idle.data.toList.drop 23 = dktX0_idle_1 := dk_seg dksX0_idle_0 23 rfl rfl
theorem dksX0_idle_2 : cX0_idle.data.toList.drop 47 = dktX0_idle_2 := dk_seg dksX0_idle_1 24 rfl rfl
theorem dksX0_idle_3 : cX0_idle.data.toList.drop 70 = dktX0_idle_3 := dk_seg dksX0_idle_2 23 rfl rfl
theorem dksX0_idle_4 : cX0_idle.data.toList.drop 94 = dktX0_idle_4 := dk_seg dksX0_idle_3 24 rfl rfl
theorem dX0_idle_0 : decode cX0_idle 0 = .ok (.aload_n 0, 1) := dk_42 (dk_at dksX0_idle_0 0 rfl rfl)
theorem dX0_idle_1 : decode cX0_idle 1 = .ok (.getfield 47, 3) := dk_180 0 47 (dk_at dksX0_idle_0 1 rfl rfl)
theorem dX0_idle_4 : decode cX0_idle 4 = .ok (.invokevirtual 126, 3) := dk_182 0 126 (dk_at dksX0_idle_0 4 rfl rfl)
theorem dX0_idle_7 : decode cX0_idle 7 = .ok (.ifCond .ne 6, 3) := dk_154 0 6 (dk_at dksX0_idle_0 7 rfl rfl)
theorem dX0_idle_10 : decode cX0_idle 10 = .ok (.bipush (-2), 2) := dk_16 254 (dk_at dksX0_idle_0 10 rfl rfl)
theorem dX0_idle_12 : decode cX0_idle 12 = .ok (.ireturn, 1) := dk_172 (dk_at dksX0_idle_0 12 rfl rfl)
theorem dX0_idle_13 : decode cX0_idle 13 = .ok (.sipush 512, 3) := dk_17 2 0 (dk_at dksX0_idle_0 13 rfl rfl)
theorem dX0_idle_16 : decode cX0_idle 16 = .ok (.newarray .int, 2) := dk_188_10 (dk_at dksX0_idle_0 16 rfl rfl)
theorem dX0_idle_18 : decode cX0_idle 18 = .ok (.astore_n 1, 1) := dk_76 (dk_at dksX0_idle_0 18 rfl rfl)
theorem dX0_idle_19 : decode cX0_idle 19 = .ok (.iconst 0, 1) := dk_3 (dk_at dksX0_idle_0 19 rfl rfl)
theorem dX0_idle_20 : decode cX0_idle 20 = .ok (.istore_n 2, 1) := dk_61 (dk_at dksX0_idle_0 20 rfl rfl)
theorem dX0_idle_21 : decode cX0_idle 21 = .ok (.iload_n 2, 1) := dk_28 (dk_at dksX0_idle_0 21 rfl rfl)
theorem dX0_idle_22 : decode cX0_idle 22 = .ok (.aload_n 0, 1) := dk_42 (dk_at dksX0_idle_0 22 rfl rfl)
theorem dX0_idle_23 : decode cX0_idle 23 = .ok (.getfield 47, 3) := dk_180 0 47 (dk_at dksX0_idle_1 0 rfl rfl)
theorem dX0_idle_26 : decode cX0_idle 26 = .ok (.invokevirtual 162, 3) := dk_182 0 162 (dk_at dksX0_idle_1 3 rfl rfl)
theorem dX0_idle_29 : decode cX0_idle 29 = .ok (.if_icmp .gt 17, 3) := dk_163 0 17 (dk_at dksX0_idle_1 6 rfl rfl)
theorem dX0_idle_32 : decode cX0_idle 32 = .ok (.aload_n 1, 1) := dk_43 (dk_at dksX0_idle_1 9 rfl rfl)
theorem dX0_idle_33 : decode cX0_idle 33 = .ok (.iload_n 2, 1) := dk_28 (dk_at dksX0_idle_1 10 rfl rfl)
theorem dX0_idle_34 : decode cX0_idle 34 = .ok (.aload_n 0, 1) := dk_42 (dk_at dksX0_idle_1 11 rfl rfl)
theorem dX0_idle_35 : decode cX0_idle 35 = .ok (.iload_n 2, 1) := dk_28 (dk_at dksX0_idle_1 12 rfl rfl)
theorem dX0_idle_36 : decode cX0_idle 36 = .ok (.invokevirtual 281, 3) := dk_182 1 25 (dk_at dksX0_idle_1 13 rfl rfl)
theorem dX0_idle_39 : decode cX0_idle 39 = .ok (.iastore, 1) := dk_79 (dk_at dksX0_idle_1 16 rfl rfl)
theorem dX0_idle_40 : decode cX0_idle 40 = .ok (.iinc 2 1, 3) := dk_132 2 1 (dk_at dksX0_idle_1 17 rfl rfl)
theorem dX0_idle_43 : decode cX0_idle 43 = .ok (.goto (-22), 3) := dk_167 255 234 (dk_at dksX0_idle_1 20 rfl rfl)
theorem dX0_idle_46 : decode cX0_idle 46 = .ok (.aload_n 0, 1) := dk_42 (dk_at dksX0_idle_1 23 rfl rfl)
theorem dX0_idle_47 : decode cX0_idle 47 = .ok (.getfield 47, 3) := dk_180 0 47 (dk_at dksX0_idle_2 0 rfl rfl)
theorem dX0_idle_50 : decode cX0_idle 50 = .ok (.invokevirtual 162, 3) := dk_182 0 162 (dk_at dksX0_idle_2 3 rfl rfl)
theorem dX0_idle_53 : decode cX0_idle 53 = .ok (.istore_n 2, 1) := dk_61 (dk_at dksX0_idle_2 6 rfl rfl)
theorem dX0_idle_54 : decode cX0_idle 54 = .ok (.iconst 0, 1) := dk_3 (dk_at dksX0_idle_2 7 rfl rfl)
theorem dX0_idle_55 : decode cX0_idle 55 = .ok (.istore_n 3, 1) := dk_62 (dk_at dksX0_idle_2 8 rfl rfl)
theorem dX0_idle_56 : decode cX0_idle 56 = .ok (.iload_n 3, 1) := dk_29 (dk_at dksX0_idle_2 9 rfl rfl)
theorem dX0_idle_57 : decode cX0_idle 57 = .ok (.aload_n 0, 1) := dk_42 (dk_at dksX0_idle_2 10 rfl rfl)
theorem dX0_idle_58 : decode cX0_idle 58 = .ok (.getfield 47, 3) := dk_180 0 47 (dk_at dksX0_idle_2 11 rfl rfl)
theorem dX0_idle_61 : decode cX0_idle 61 = .ok (.invokevirtual 162, 3) := dk_182 0 162 (dk_at dksX0_idle_2 14 rfl rfl)
theorem dX0_idle_64 : decode cX0_idle 64 = .ok (.if_icmp .gt 50, 3) := dk_163 0 50 (dk_at dksX0_idle_2 17 rfl rfl)
theorem dX0_idle_67 : decode cX0_idle 67 = .ok (.iconst 0, 1) := dk_3 (dk_at dksX0_idle_2 20 rfl rfl)
theorem dX0_idle_68 : decode cX0_idle 68 = .ok (.istore 4, 2) := dk_54 4 (dk_at dksX0_idle_2 21 rfl rfl)
theorem dX0_idle_70 : decode cX0_idle 70 = .ok (.iload 4, 2) := dk_21 4 (dk_at dksX0_idle_3 0 rfl rfl)
theorem dX0_idle_72 : decode cX0_idle 72 = .ok (.aload_n 0, 1) := dk_42 (dk_at dksX0_idle_3 2 rfl rfl)
theorem dX0_idle_73 : decode cX0_idle 73 = .ok (.invokevirtual 160, 3) := dk_182 0 160 (dk_at dksX0_idle_3 3 rfl rfl)
theorem dX0_idle_76 : decode cX0_idle 76 = .ok (.if_icmp .ge 32, 3) := dk_162 0 32 (dk_at dksX0_idle_3 6 rfl rfl)
theorem dX0_idle_79 : decode cX0_idle 79 = .ok (.aload_n 1, 1) := dk_43 (dk_at dksX0_idle_3 9 rfl rfl)
theorem dX0_idle_80 : decode cX0_idle 80 = .ok (.iload_n 3, 1) := dk_29 (dk_at dksX0_idle_3 10 rfl rfl)
theorem dX0_idle_81 : decode cX0_idle 81 = .ok (.iaload, 1) := dk_46 (dk_at dksX0_idle_3 11 rfl rfl)
theorem dX0_idle_82 : decode cX0_idle 82 = .ok (.aload_n 1, 1) := dk_43 (dk_at dksX0_idle_3 12 rfl rfl)
theorem dX0_idle_83 : decode cX0_idle 83 = .ok (.iload_n 3, 1) := dk_29 (dk_at dksX0_idle_3 13 rfl rfl)
theorem dX0_idle_84 : decode cX0_idle 84 = .ok (.iconst 1, 1) := dk_4 (dk_at dksX0_idle_3 14 rfl rfl)
theorem dX0_idle_85 : decode cX0_idle 85 = .ok (.iload 4, 2) := dk_21 4 (dk_at dksX0_idle_3 15 rfl rfl)
theorem dX0_idle_87 : decode cX0_idle 87 = .ok (.ishl, 1) := dk_120 (dk_at dksX0_idle_3 17 rfl rfl)
theorem dX0_idle_88 : decode cX0_idle 88 = .ok (.ixor, 1) := dk_130 (dk_at dksX0_idle_3 18 rfl rfl)
theorem dX0_idle_89 : decode cX0_idle 89 = .ok (.iaload, 1) := dk_46 (dk_at dksX0_idle_3 19 rfl rfl)
theorem dX0_idle_90 : decode cX0_idle 90 = .ok (.if_icmp .eq 12, 3) := dk_159 0 12 (dk_at dksX0_idle_3 20 rfl rfl)
theorem dX0_idle_93 : decode cX0_idle 93 = .ok (.iload_n 2, 1) := dk_28 (dk_at dksX0_idle_3 23 rfl rfl)
theorem dX0_idle_94 : decode cX0_idle 94 = .ok (.iconst 1, 1) := dk_4 (dk_at dksX0_idle_4 0 rfl rfl)
theorem dX0_idle_95 : decode cX0_idle 95 = .ok (.iload 4, 2) := dk_21 4 (dk_at dksX0_idle_4 1 rfl rfl)
theorem dX0_idle_97 : decode cX0_idle 97 = .ok (.ishl, 1) := dk_120 (dk_at dksX0_idle_4 3 rfl rfl)
theorem dX0_idle_98 : decode cX0_idle 98 = .ok (.iconst (-1), 1) := dk_2 (dk_at dksX0_idle_4 4 rfl rfl)
theorem dX0_idle_99 : decode cX0_idle 99 = .ok (.ixor, 1) := dk_130 (dk_at dksX0_idle_4 5 rfl rfl)
theorem dX0_idle_100 : decode cX0_idle 100 = .ok (.iand, 1) := dk_126 (dk_at dksX0_idle_4 6 rfl rfl)
theorem dX0_idle_101 : decode cX0_idle 101 = .ok (.istore_n 2, 1) := dk_61 (dk_at dksX0_idle_4 7 rfl rfl)
theorem dX0_idle_102 : decode cX0_idle 102 = .ok (.iinc 4 1, 3) := dk_132 4 1 (dk_at dksX0_idle_4 8 rfl rfl)
theorem dX0_idle_105 : decode cX0_idle 105 = .ok (.goto (-35), 3) := dk_167 255 221 (dk_at dksX0_idle_4 11 rfl rfl)
theorem dX0_idle_108 : decode cX0_idle 108 = .ok (.iinc 3 1, 3) := dk_132 3 1 (dk_at dksX0_idle_4 14 rfl rfl)
theorem dX0_idle_111 : decode cX0_idle 111 = .ok (.goto (-55), 3) := dk_167 255 201 (dk_at dksX0_idle_4 17 rfl rfl)
theorem dX0_idle_114 : decode cX0_idle 114 = .ok (.iload_n 2, 1) := dk_28 (dk_at dksX0_idle_4 20 rfl rfl)
theorem dX0_idle_115 : decode cX0_idle 115 = .ok (.ireturn, 1) := dk_172 (dk_at dksX0_idle_4 21 rfl rfl)
abbrev cX0_enough : ByteArray := prog_1_method_47_code
def yX0_enough : MethodName := ⟨RX0, "enough", "(II)J"⟩
def dkwX0_enough_1 : List UInt8 := [62, 42, 27, 29, 182, 1, 62, 29, 184, 1, 41, 184, 1, 65, 28, 184, 1, 69, 173]
abbrev dktX0_enough_1 : List UInt8 := dkwX0_enough_1 ++ []
def dkwX0_enough_0 : List UInt8 := [42, 27, 182, 0, 192, 153, 0, 10, 28, 184, 0, 231, 154, 0, 7, 20, 1, 57, 173, 42, 27, 182, 1, 59]
abbrev dktX0_enough_0 : List UInt8 := dkwX0_enough_0 ++ dktX0_enough_1
theorem dksX0_enough_0 : cX0_enough.data.toList.drop 0 = dktX0_enough_0 := by decide +kernel
theorem dksX0_enough_1 : cX0_enough.data.toList.drop 24 = dktX0_enough_1 := dk_seg dksX0_enough_0 24 rfl rfl
theorem dX0_enough_0 : decode cX0_enough 0 = .ok (.aload_n 0, 1) := dk_42 (dk_at dksX0_enough_0 0 rfl rfl)
theorem dX0_enough_1 : decode cX0_enough 1 = .ok (.iload_n 1, 1) := dk_27 (dk_at dksX0_enough_0 1 rfl rfl)
theorem dX0_enough_2 : decode cX0_enough 2 = .ok (.invokevirtual 192, 3) := dk_182 0 192 (dk_at dksX0_enough_0 2 rfl rfl)
theorem dX0_enough_5 : decode cX0_enough 5 = .ok (.ifCond .eq 10, 3) := dk_153 0 10 (dk_at dksX0_enough_0 5 rfl rfl)
theorem dX0_enough_8 : decode cX0_enough 8 = .ok (.iload_n 2, 1) := dk_28 (dk_at dksX0_enough_0 8 rfl rfl)
theorem dX0_enough_9 : decode cX0_enough 9 = .ok (.invokestatic 231, 3) := dk_184 0 231 (dk_at dksX0_enough_0 9 rfl rfl)
theorem dX0_enough_12 : decode cX0_enough 12 = .ok (.ifCond .ne 7, 3) := dk_154 0 7 (dk_at dksX0_enough_0 12 rfl rfl)
theorem dX0_enough_15 : decode cX0_enough 15 = .ok (.ldc2_w 313, 3) := dk_20 1 57 (dk_at dksX0_enough_0 15 rfl rfl)
theorem dX0_enough_18 : decode cX0_enough 18 = .ok (.lreturn, 1) := dk_173 (dk_at dksX0_enough_0 18 rfl rfl)
theorem dX0_enough_19 : decode cX0_enough 19 = .ok (.aload_n 0, 1) := dk_42 (dk_at dksX0_enough_0 19 rfl rfl)
theorem dX0_enough_20 : decode cX0_enough 20 = .ok (.iload_n 1, 1) := dk_27 (dk_at dksX0_enough_0 20 rfl rfl)
theorem dX0_enough_21 : decode cX0_enough 21 = .ok (.invokevirtual 315, 3) := dk_182 1 59 (dk_at dksX0_enough_0 21 rfl rfl)
theorem dX0_enough_24 : decode cX0_enough 24 = .ok (.istore_n 3, 1) := dk_62 (dk_at dksX0_enough_1 0 rfl rfl)
theorem dX0_enough_25 : decode cX0_enough 25 = .ok (.aload_n 0, 1) := dk_42 (dk_at dksX0_enough_1 1 rfl rfl)
theorem dX0_enough_26 : decode cX0_enough 26 = .ok (.iload_n 1, 1) := dk_27 (dk_at dksX0_enough_1 2 rfl rfl)
theorem dX0_enough_27 : decode cX0_enough 27 = .ok (.iload_n 3, 1) := dk_29 (dk_at dksX0_enough_1 3 rfl rfl)
theorem dX0_enough_28 : decode cX0_enough 28 = .ok (.invokevirtual 318, 3) := dk_182 1 62 (dk_at dksX0_enough_1 4 rfl rfl)
theorem dX0_enough_31 : decode cX0_enough 31 = .ok (.iload_n 3, 1) := dk_29 (dk_at dksX0_enough_1 7 rfl rfl)
theorem dX0_enough_32 : decode cX0_enough 32 = .ok (.invokestatic 297, 3) := dk_184 1 41 (dk_at dksX0_enough_1 8 rfl rfl)
theorem dX0_enough_35 : decode cX0_enough 35 = .ok (.invokestatic 321, 3) := dk_184 1 65 (dk_at dksX0_enough_1 11 rfl rfl)
theorem dX0_enough_38 : decode cX0_enough 38 = .ok (.iload_n 2, 1) := dk_28 (dk_at dksX0_enough_1 14 rfl rfl)
theorem dX0_enough_39 : decode cX0_enough 39 = .ok (.invokestatic 325, 3) := dk_184 1 69 (dk_at dksX0_enough_1 15 rfl rfl)
theorem dX0_enough_42 : decode cX0_enough 42 = .ok (.lreturn, 1) := dk_173 (dk_at dksX0_enough_1 18 rfl rfl)
abbrev cX0_ofSide : ByteArray := prog_1_method_45_code
def yX0_ofSide : MethodName := ⟨RX0, "ofSide", "(I)I"⟩
def dkwX0_ofSide_1 : List UInt8 := [160, 0, 9, 4, 29, 120, 167, 0, 4, 3, 128, 61, 132, 3, 1, 167, 255, 223, 28, 172]
abbrev dktX0_ofSide_1 : List UInt8 := dkwX0_ofSide_1 ++ []
def dkwX0_ofSide_0 : List UInt8 := [3, 61, 3, 62, 29, 42, 182, 0, 160, 162, 0, 31, 28, 42, 29, 182, 0, 170, 180, 0, 174, 27]
abbrev dktX0_ofSide_0 : List UInt8 := dkwX0_ofSide_0 ++ dktX0_ofSide_1
theorem dksX0_ofSide_0 : cX0_ofSide.data.toList.drop 0 = dktX0_ofSide_0 := by decide +kernel
theorem dksX0_ofSide_1 : cX0_ofSide.data.toList.drop 22 = dktX0_ofSide_1 := dk_seg dksX0_ofSide_0 22 rfl rfl
theorem dX0_ofSide_0 : decode cX0_ofSide 0 = .ok (.iconst 0, 1) := dk_3 (dk_at dksX0_ofSide_0 0 rfl rfl)
theorem dX0_ofSide_1 : decode cX0_ofSide 1 = .ok (.istore_n 2, 1) := dk_61 (dk_at dksX0_ofSide_0 1 rfl rfl)
theorem dX0_ofSide_2 : decode cX0_ofSide 2 = .ok (.iconst 0, 1) := dk_3 (dk_at dksX0_ofSide_0 2 rfl rfl)
theorem dX0_ofSide_3 : decode cX0_ofSide 3 = .ok (.istore_n 3, 1) := dk_62 (dk_at dksX0_ofSide_0 3 rfl rfl)
theorem dX0_ofSide_4 : decode cX0_ofSide 4 = .ok (.iload_n 3, 1) := dk_29 (dk_at dksX0_ofSide_0 4 rfl rfl)
theorem dX0_ofSide_5 : decode cX0_ofSide 5 = .ok (.aload_n 0, 1) := dk_42 (dk_at dksX0_ofSide_0 5 rfl rfl)
theorem dX0_ofSide_6 : decode cX0_ofSide 6 = .ok (.invokevirtual 160, 3) := dk_182 0 160 (dk_at dksX0_ofSide_0 6 rfl rfl)
theorem dX0_ofSide_9 : decode cX0_ofSide 9 = .ok (.if_icmp .ge 31, 3) := dk_162 0 31 (dk_at dksX0_ofSide_0 9 rfl rfl)
theorem dX0_ofSide_12 : decode cX0_ofSide 12 = .ok (.iload_n 2, 1) := dk_28 (dk_at dksX0_ofSide_0 12 rfl rfl)
theorem dX0_ofSide_13 : decode cX0_ofSide 13 = .ok (.aload_n 0, 1) := dk_42 (dk_at dksX0_ofSide_0 13 rfl rfl)
theorem dX0_ofSide_14 : decode cX0_ofSide 14 = .ok (.iload_n 3, 1) := dk_29 (dk_at dksX0_ofSide_0 14 rfl rfl)
theorem dX0_ofSide_15 : decode cX0_ofSide 15 = .ok (.invokevirtual 170, 3) := dk_182 0 170 (dk_at dksX0_ofSide_0 15 rfl rfl)
theorem dX0_ofSide_18 : decode cX0_ofSide 18 = .ok (.getfield 174, 3) := dk_180 0 174 (dk_at dksX0_ofSide_0 18 rfl rfl)
theorem dX0_ofSide_21 : decode cX0_ofSide 21 = .ok (.iload_n 1, 1) := dk_27 (dk_at dksX0_ofSide_0 21 rfl rfl)
theorem dX0_ofSide_22 : decode cX0_ofSide 22 = .ok (.if_icmp .ne 9, 3) := dk_160 0 9 (dk_at dksX0_ofSide_1 0 rfl rfl)
theorem dX0_ofSide_25 : decode cX0_ofSide 25 = .ok (.iconst 1, 1) := dk_4 (dk_at dksX0_ofSide_1 3 rfl rfl)
theorem dX0_ofSide_26 : decode cX0_ofSide 26 = .ok (.iload_n 3, 1) := dk_29 (dk_at dksX0_ofSide_1 4 rfl rfl)
theorem dX0_ofSide_27 : decode cX0_ofSide 27 = .ok (.ishl, 1) := dk_120 (dk_at dksX0_ofSide_1 5 rfl rfl)
theorem dX0_ofSide_28 : decode cX0_ofSide 28 = .ok (.goto 4, 3) := dk_167 0 4 (dk_at dksX0_ofSide_1 6 rfl rfl)
theorem dX0_ofSide_31 : decode cX0_ofSide 31 = .ok (.iconst 0, 1) := dk_3 (dk_at dksX0_ofSide_1 9 rfl rfl)
theorem dX0_ofSide_32 : decode cX0_ofSide 32 = .ok (.ior, 1) := dk_128 (dk_at dksX0_ofSide_1 10 rfl rfl)
theorem dX0_ofSide_33 : decode cX0_ofSide 33 = .ok (.istore_n 2, 1) := dk_61 (dk_at dksX0_ofSide_1 11 rfl rfl)
theorem dX0_ofSide_34 : decode cX0_ofSide 34 = .ok (.iinc 3 1, 3) := dk_132 3 1 (dk_at dksX0_ofSide_1 12 rfl rfl)
theorem dX0_ofSide_37 : decode cX0_ofSide 37 = .ok (.goto (-33), 3) := dk_167 255 223 (dk_at dksX0_ofSide_1 15 rfl rfl)
theorem dX0_ofSide_40 : decode cX0_ofSide 40 = .ok (.iload_n 2, 1) := dk_28 (dk_at dksX0_ofSide_1 18 rfl rfl)
theorem dX0_ofSide_41 : decode cX0_ofSide 41 = .ok (.ireturn, 1) := dk_172 (dk_at dksX0_ofSide_1 19 rfl rfl)
abbrev cX0_enoughOf : ByteArray := prog_1_method_46_code
def yX0_enoughOf : MethodName := ⟨RX0, "enoughOf", "(II)J"⟩
def dkwX0_enoughOf_2 : List UInt8 := [173, 21, 5, 4, 100, 28, 126, 54, 5, 167, 255, 204]
abbrev dktX0_enoughOf_2 : List UInt8 := dkwX0_enoughOf_2 ++ []
def dkwX0_enoughOf_1 : List UInt8 := [180, 0, 195, 27, 46, 161, 0, 13, 33, 42, 28, 21, 5, 182, 1, 53, 97, 66, 21, 5, 154, 0, 5, 33]
abbrev dktX0_enoughOf_1 : List UInt8 := dkwX0_enoughOf_1 ++ dktX0_enoughOf_2
def dkwX0_enoughOf_0 : List UInt8 := [9, 66, 28, 54, 5, 42, 27, 42, 180, 0, 47, 180, 1, 16, 21, 5, 28, 182, 0, 253, 42, 180, 0, 47]
abbrev dktX0_enoughOf_0 : List UInt8 := dkwX0_enoughOf_0 ++ dktX0_enoughOf_1
theorem dksX0_enoughOf_0 : cX0_enoughOf.data.toList.drop 0 = dktX0_enoughOf_0 := by decide +kernel
theorem dksX0_enoughOf_1 : cX0_enoughOf.data.toList.drop 24 = dktX0_enoughOf_1 := dk_seg dksX0_enoughOf_0 24 rfl rfl
theorem dksX0_enoughOf_2 : cX0_enoughOf.data.toList.drop 48 = dktX0_enoughOf_2 := dk_seg dksX0_enoughOf_1 24 rfl rfl
theorem dX0_enoughOf_0 : decode cX0_enoughOf 0 = .ok (.lconst 0, 1) := dk_9 (dk_at dksX0_enoughOf_0 0 rfl rfl)
theorem dX0_enoughOf_1 : decode cX0_enoughOf 1 = .ok (.lstore_n 3, 1) := dk_66 (dk_at dksX0_enoughOf_0 1 rfl rfl)
theorem dX0_enoughOf_2 : decode cX0_enoughOf 2 = .ok (.iload_n 2, 1) := dk_28 (dk_at dksX0_enoughOf_0 2 rfl rfl)
theorem dX0_enoughOf_3 : decode cX0_enoughOf 3 = .ok (.istore 5, 2) := dk_54 5 (dk_at dksX0_enoughOf_0 3 rfl rfl)
theorem dX0_enoughOf_5 : decode cX0_enoughOf 5 = .ok (.aload_n 0, 1) := dk_42 (dk_at dksX0_enoughOf_0 5 rfl rfl)
theorem dX0_enoughOf_6 : decode cX0_enoughOf 6 = .ok (.iload_n 1, 1) := dk_27 (dk_at dksX0_enoughOf_0 6 rfl rfl)
theorem dX0_enoughOf_7 : decode cX0_enoughOf 7 = .ok (.aload_n 0, 1) := dk_42 (dk_at dksX0_enoughOf_0 7 rfl rfl)
theorem dX0_enoughOf_8 : decode cX0_enoughOf 8 = .ok (.getfield 47, 3) := dk_180 0 47 (dk_at dksX0_enoughOf_0 8 rfl rfl)
theorem dX0_enoughOf_11 : decode cX0_enoughOf 11 = .ok (.getfield 272, 3) := dk_180 1 16 (dk_at dksX0_enoughOf_0 11 rfl rfl)
theorem dX0_enoughOf_14 : decode cX0_enoughOf 14 = .ok (.iload 5, 2) := dk_21 5 (dk_at dksX0_enoughOf_0 14 rfl rfl)
theorem dX0_enoughOf_16 : decode cX0_enoughOf 16 = .ok (.iload_n 2, 1) := dk_28 (dk_at dksX0_enoughOf_0 16 rfl rfl)
theorem dX0_enoughOf_17 : decode cX0_enoughOf 17 = .ok (.invokevirtual 253, 3) := dk_182 0 253 (dk_at dksX0_enoughOf_0 17 rfl rfl)
theorem dX0_enoughOf_20 : decode cX0_enoughOf 20 = .ok (.aload_n 0, 1) := dk_42 (dk_at dksX0_enoughOf_0 20 rfl rfl)
theorem dX0_enoughOf_21 : decode cX0_enoughOf 21 = .ok (.getfield 47, 3) := dk_180 0 47 (dk_at dksX0_enoughOf_0 21 rfl rfl)
theorem dX0_enoughOf_24 : decode cX0_enoughOf 24 = .ok (.getfield 195, 3) := dk_180 0 195 (dk_at dksX0_enoughOf_1 0 rfl rfl)
theorem dX0_enoughOf_27 : decode cX0_enoughOf 27 = .ok (.iload_n 1, 1) := dk_27 (dk_at dksX0_enoughOf_1 3 rfl rfl)
theorem dX0_enoughOf_28 : decode cX0_enoughOf 28 = .ok (.iaload, 1) := dk_46 (dk_at dksX0_enoughOf_1 4 rfl rfl)
theorem dX0_enoughOf_29 : decode cX0_enoughOf 29 = .ok (.if_icmp .lt 13, 3) := dk_161 0 13 (dk_at dksX0_enoughOf_1 5 rfl rfl)
theorem dX0_enoughOf_32 : decode cX0_enoughOf 32 = .ok (.lload_n 3, 1) := dk_33 (dk_at dksX0_enoughOf_1 8 rfl rfl)
theorem dX0_enoughOf_33 : decode cX0_enoughOf 33 = .ok (.aload_n 0, 1) := dk_42 (dk_at dksX0_enoughOf_1 9 rfl rfl)
theorem dX0_enoughOf_34 : decode cX0_enoughOf 34 = .ok (.iload_n 2, 1) := dk_28 (dk_at dksX0_enoughOf_1 10 rfl rfl)
theorem dX0_enoughOf_35 : decode cX0_enoughOf 35 = .ok (.iload 5, 2) := dk_21 5 (dk_at dksX0_enoughOf_1 11 rfl rfl)
theorem dX0_enoughOf_37 : decode cX0_enoughOf 37 = .ok (.invokevirtual 309, 3) := dk_182 1 53 (dk_at dksX0_enoughOf_1 13 rfl rfl)
theorem dX0_enoughOf_40 : decode cX0_enoughOf 40 = .ok (.ladd, 1) := dk_97 (dk_at dksX0_enoughOf_1 16 rfl rfl)
theorem dX0_enoughOf_41 : decode cX0_enoughOf 41 = .ok (.lstore_n 3, 1) := dk_66 (dk_at dksX0_enoughOf_1 17 rfl rfl)
theorem dX0_enoughOf_42 : decode cX0_enoughOf 42 = .ok (.iload 5, 2) := dk_21 5 (dk_at dksX0_enoughOf_1 18 rfl rfl)
theorem dX0_enoughOf_44 : decode cX0_enoughOf 44 = .ok (.ifCond .ne 5, 3) := dk_154 0 5 (dk_at dksX0_enoughOf_1 20 rfl rfl)
theorem dX0_enoughOf_47 : decode cX0_enoughOf 47 = .ok (.lload_n 3, 1) := dk_33 (dk_at dksX0_enoughOf_1 23 rfl rfl)
theorem dX0_enoughOf_48 : decode cX0_enoughOf 48 = .ok (.lreturn, 1) := dk_173 (dk_at dksX0_enoughOf_2 0 rfl rfl)
theorem dX0_enoughOf_49 : decode cX0_enoughOf 49 = .ok (.iload 5, 2) := dk_21 5 (dk_at dksX0_enoughOf_2 1 rfl rfl)
theorem dX0_enoughOf_51 : decode cX0_enoughOf 51 = .ok (.iconst 1, 1) := dk_4 (dk_at dksX0_enoughOf_2 3 rfl rfl)
theorem dX0_enoughOf_52 : decode cX0_enoughOf 52 = .ok (.isub, 1) := dk_100 (dk_at dksX0_enoughOf_2 4 rfl rfl)
theorem dX0_enoughOf_53 : decode cX0_enoughOf 53 = .ok (.iload_n 2, 1) := dk_28 (dk_at dksX0_enoughOf_2 5 rfl rfl)
theorem dX0_enoughOf_54 : decode cX0_enoughOf 54 = .ok (.iand, 1) := dk_126 (dk_at dksX0_enoughOf_2 6 rfl rfl)
theorem dX0_enoughOf_55 : decode cX0_enoughOf 55 = .ok (.istore 5, 2) := dk_54 5 (dk_at dksX0_enoughOf_2 7 rfl rfl)
theorem dX0_enoughOf_57 : decode cX0_enoughOf 57 = .ok (.goto (-52), 3) := dk_167 255 204 (dk_at dksX0_enoughOf_2 9 rfl rfl)
abbrev cX0_oftenOf : ByteArray := prog_1_method_44_code
def yX0_oftenOf : MethodName := ⟨RX0, "oftenOf", "(II)J"⟩
def dkwX0_oftenOf_2 : List UInt8 := [42, 21, 5, 182, 0, 170, 180, 0, 183, 100, 133, 105, 66, 132, 5, 1, 167, 255, 197, 33, 173]
abbrev dktX0_oftenOf_2 : List UInt8 := dkwX0_oftenOf_2 ++ []
def dkwX0_oftenOf_1 : List UInt8 := [28, 21, 5, 184, 0, 246, 153, 0, 16, 42, 21, 5, 182, 0, 170, 180, 0, 183, 133, 167, 0, 16, 16, 100]
abbrev dktX0_oftenOf_1 : List UInt8 := dkwX0_oftenOf_1 ++ dktX0_oftenOf_2
def dkwX0_oftenOf_0 : List UInt8 := [10, 66, 3, 54, 5, 21, 5, 42, 182, 0, 160, 162, 0, 56, 27, 21, 5, 184, 0, 246, 153, 0, 41, 33]
abbrev dktX0_oftenOf_0 : List UInt8 := dkwX0_oftenOf_0 ++ dktX0_oftenOf_1
theorem dksX0_oftenOf_0 : cX0_oftenOf.data.toList.drop 0 = dktX0_oftenOf_0 := by decide +kernel
theorem dksX0_oftenOf_1 : cX0_oftenOf.data.toList.drop 24 = dktX0_oftenOf_1 := dk_seg dksX0_oftenOf_0 24 rfl rfl
theorem dksX0_oftenOf_2 : cX0_oftenOf.data.toList.drop 48 = dktX0_oftenOf_2 := dk_seg dksX0_oftenOf_1 24 rfl rfl
theorem dX0_oftenOf_0 : decode cX0_oftenOf 0 = .ok (.lconst 1, 1) := dk_10 (dk_at dksX0_oftenOf_0 0 rfl rfl)
theorem dX0_oftenOf_1 : decode cX0_oftenOf 1 = .ok (.lstore_n 3, 1) := dk_66 (dk_at dksX0_oftenOf_0 1 rfl rfl)
theorem dX0_oftenOf_2 : decode cX0_oftenOf 2 = .ok (.iconst 0, 1) := dk_3 (dk_at dksX0_oftenOf_0 2 rfl rfl)
theorem dX0_oftenOf_3 : decode cX0_oftenOf 3 = .ok (.istore 5, 2) := dk_54 5 (dk_at dksX0_oftenOf_0 3 rfl rfl)
theorem dX0_oftenOf_5 : decode cX0_oftenOf 5 = .ok (.iload 5, 2) := dk_21 5 (dk_at dksX0_oftenOf_0 5 rfl rfl)
theorem dX0_oftenOf_7 : decode cX0_oftenOf 7 = .ok (.aload_n 0, 1) := dk_42 (dk_at dksX0_oftenOf_0 7 rfl rfl)
theorem dX0_oftenOf_8 : decode cX0_oftenOf 8 = .ok (.invokevirtual 160, 3) := dk_182 0 160 (dk_at dksX0_oftenOf_0 8 rfl rfl)
theorem dX0_oftenOf_11 : decode cX0_oftenOf 11 = .ok (.if_icmp .ge 56, 3) := dk_162 0 56 (dk_at dksX0_oftenOf_0 11 rfl rfl)
theorem dX0_oftenOf_14 : decode cX0_oftenOf 14 = .ok (.iload_n 1, 1) := dk_27 (dk_at dksX0_oftenOf_0 14 rfl rfl)
theorem dX0_oftenOf_15 : decode cX0_oftenOf 15 = .ok (.iload 5, 2) := dk_21 5 (dk_at dksX0_oftenOf_0 15 rfl rfl)
theorem dX0_oftenOf_17 : decode cX0_oftenOf 17 = .ok (.invokestatic 246, 3) := dk_184 0 246 (dk_at dksX0_oftenOf_0 17 rfl rfl)
theorem dX0_oftenOf_20 : decode cX0_oftenOf 20 = .ok (.ifCond .eq 41, 3) := dk_153 0 41 (dk_at dksX0_oftenOf_0 20 rfl rfl)
theorem dX0_oftenOf_23 : decode cX0_oftenOf 23 = .ok (.lload_n 3, 1) := dk_33 (dk_at dksX0_oftenOf_0 23 rfl rfl)
theorem dX0_oftenOf_24 : decode cX0_oftenOf 24 = .ok (.iload_n 2, 1) := dk_28 (dk_at dksX0_oftenOf_1 0 rfl rfl)
theorem dX0_oftenOf_25 : decode cX0_oftenOf 25 = .ok (.iload 5, 2) := dk_21 5 (dk_at dksX0_oftenOf_1 1 rfl rfl)
theorem dX0_oftenOf_27 : decode cX0_oftenOf 27 = .ok (.invokestatic 246, 3) := dk_184 0 246 (dk_at dksX0_oftenOf_1 3 rfl rfl)
theorem dX0_oftenOf_30 : decode cX0_oftenOf 30 = .ok (.ifCond .eq 16, 3) := dk_153 0 16 (dk_at dksX0_oftenOf_1 6 rfl rfl)
theorem dX0_oftenOf_33 : decode cX0_oftenOf 33 = .ok (.aload_n 0, 1) := dk_42 (dk_at dksX0_oftenOf_1 9 rfl rfl)
theorem dX0_oftenOf_34 : decode cX0_oftenOf 34 = .ok (.iload 5, 2) := dk_21 5 (dk_at dksX0_oftenOf_1 10 rfl rfl)
theorem dX0_oftenOf_36 : decode cX0_oftenOf 36 = .ok (.invokevirtual 170, 3) := dk_182 0 170 (dk_at dksX0_oftenOf_1 12 rfl rfl)
theorem dX0_oftenOf_39 : decode cX0_oftenOf 39 = .ok (.getfield 183, 3) := dk_180 0 183 (dk_at dksX0_oftenOf_1 15 rfl rfl)
theorem dX0_oftenOf_42 : decode cX0_oftenOf 42 = .ok (.i2l, 1) := dk_133 (dk_at dksX0_oftenOf_1 18 rfl rfl)
theorem dX0_oftenOf_43 : decode cX0_oftenOf 43 = .ok (.goto 16, 3) := dk_167 0 16 (dk_at dksX0_oftenOf_1 19 rfl rfl)
theorem dX0_oftenOf_46 : decode cX0_oftenOf 46 = .ok (.bipush 100, 2) := dk_16 100 (dk_at dksX0_oftenOf_1 22 rfl rfl)
theorem dX0_oftenOf_48 : decode cX0_oftenOf 48 = .ok (.aload_n 0, 1) := dk_42 (dk_at dksX0_oftenOf_2 0 rfl rfl)
theorem dX0_oftenOf_49 : decode cX0_oftenOf 49 = .ok (.iload 5, 2) := dk_21 5 (dk_at dksX0_oftenOf_2 1 rfl rfl)
theorem dX0_oftenOf_51 : decode cX0_oftenOf 51 = .ok (.invokevirtual 170, 3) := dk_182 0 170 (dk_at dksX0_oftenOf_2 3 rfl rfl)
theorem dX0_oftenOf_54 : decode cX0_oftenOf 54 = .ok (.getfield 183, 3) := dk_180 0 183 (dk_at dksX0_oftenOf_2 6 rfl rfl)
theorem dX0_oftenOf_57 : decode cX0_oftenOf 57 = .ok (.isub, 1) := dk_100 (dk_at dksX0_oftenOf_2 9 rfl rfl)
theorem dX0_oftenOf_58 : decode cX0_oftenOf 58 = .ok (.i2l, 1) := dk_133 (dk_at dksX0_oftenOf_2 10 rfl rfl)
theorem dX0_oftenOf_59 : decode cX0_oftenOf 59 = .ok (.lmul, 1) := dk_105 (dk_at dksX0_oftenOf_2 11 rfl rfl)
theorem dX0_oftenOf_60 : decode cX0_oftenOf 60 = .ok (.lstore_n 3, 1) := dk_66 (dk_at dksX0_oftenOf_2 12 rfl rfl)
theorem dX0_oftenOf_61 : decode cX0_oftenOf 61 = .ok (.iinc 5 1, 3) := dk_132 5 1 (dk_at dksX0_oftenOf_2 13 rfl rfl)
theorem dX0_oftenOf_64 : decode cX0_oftenOf 64 = .ok (.goto (-59), 3) := dk_167 255 197 (dk_at dksX0_oftenOf_2 16 rfl rfl)
theorem dX0_oftenOf_67 : decode cX0_oftenOf 67 = .ok (.lload_n 3, 1) := dk_33 (dk_at dksX0_oftenOf_2 19 rfl rfl)
theorem dX0_oftenOf_68 : decode cX0_oftenOf 68 = .ok (.lreturn, 1) := dk_173 (dk_at dksX0_oftenOf_2 20 rfl rfl)
abbrev cX0_power : ByteArray := prog_1_method_43_code
def yX0_power : MethodName := ⟨RX0, "power", "(I)J"⟩
def dkwX0_power_0 : List UInt8 := [10, 64, 3, 62, 29, 26, 162, 0, 15, 31, 20, 1, 51, 105, 64, 132, 3, 1, 167, 255, 242, 31, 173]
abbrev dktX0_power_0 : List UInt8 := dkwX0_power_0 ++ []
theorem dksX0_power_0 : cX0_power.data.toList.drop 0 = dktX0_power_0 := by decide +kernel
theorem dX0_power_0 : decode cX0_power 0 = .ok (.lconst 1, 1) := dk_10 (dk_at dksX0_power_0 0 rfl rfl)
theorem dX0_power_1 : decode cX0_power 1 = .ok (.lstore_n 1, 1) := dk_64 (dk_at dksX0_power_0 1 rfl rfl)
theorem dX0_power_2 : decode cX0_power 2 = .ok (.iconst 0, 1) := dk_3 (dk_at dksX0_power_0 2 rfl rfl)
theorem dX0_power_3 : decode cX0_power 3 = .ok (.istore_n 3, 1) := dk_62 (dk_at dksX0_power_0 3 rfl rfl)
theorem dX0_power_4 : decode cX0_power 4 = .ok (.iload_n 3, 1) := dk_29 (dk_at dksX0_power_0 4 rfl rfl)
theorem dX0_power_5 : decode cX0_power 5 = .ok (.iload_n 0, 1) := dk_26 (dk_at dksX0_power_0 5 rfl rfl)
theorem dX0_power_6 : decode cX0_power 6 = .ok (.if_icmp .ge 15, 3) := dk_162 0 15 (dk_at dksX0_power_0 6 rfl rfl)
theorem dX0_power_9 : decode cX0_power 9 = .ok (.lload_n 1, 1) := dk_31 (dk_at dksX0_power_0 9 rfl rfl)
theorem dX0_power_10 : decode cX0_power 10 = .ok (.ldc2_w 307, 3) := dk_20 1 51 (dk_at dksX0_power_0 10 rfl rfl)
theorem dX0_power_13 : decode cX0_power 13 = .ok (.lmul, 1) := dk_105 (dk_at dksX0_power_0 13 rfl rfl)
theorem dX0_power_14 : decode cX0_power 14 = .ok (.lstore_n 1, 1) := dk_64 (dk_at dksX0_power_0 14 rfl rfl)
theorem dX0_power_15 : decode cX0_power 15 = .ok (.iinc 3 1, 3) := dk_132 3 1 (dk_at dksX0_power_0 15 rfl rfl)
theorem dX0_power_18 : decode cX0_power 18 = .ok (.goto (-14), 3) := dk_167 255 242 (dk_at dksX0_power_0 18 rfl rfl)
theorem dX0_power_21 : decode cX0_power 21 = .ok (.lload_n 1, 1) := dk_31 (dk_at dksX0_power_0 21 rfl rfl)
theorem dX0_power_22 : decode cX0_power 22 = .ok (.lreturn, 1) := dk_173 (dk_at dksX0_power_0 22 rfl rfl)
abbrev cX0_part : ByteArray := prog_1_method_42_code
def yX0_part : MethodName := ⟨RX0, "part", "(JJI)J"⟩
def dkwX0_part_0 : List UInt8 := [21, 4, 154, 0, 7, 30, 167, 0, 4, 32, 30, 32, 184, 1, 47, 109, 173]
abbrev dktX0_part_0 : List UInt8 := dkwX0_part_0 ++ []
theorem dksX0_part_0 : cX0_part.data.toList.drop 0 = dktX0_part_0 := by decide +kernel
theorem dX0_part_0 : decode cX0_part 0 = .ok (.iload 4, 2) := dk_21 4 (dk_at dksX0_part_0 0 rfl rfl)
theorem dX0_part_2 : decode cX0_part 2 = .ok (.ifCond .ne 7, 3) := dk_154 0 7 (dk_at dksX0_part_0 2 rfl rfl)
theorem dX0_part_5 : decode cX0_part 5 = .ok (.lload_n 0, 1) := dk_30 (dk_at dksX0_part_0 5 rfl rfl)
theorem dX0_part_6 : decode cX0_part 6 = .ok (.goto 4, 3) := dk_167 0 4 (dk_at dksX0_part_0 6 rfl rfl)
theorem dX0_part_9 : decode cX0_part 9 = .ok (.lload_n 2, 1) := dk_32 (dk_at dksX0_part_0 9 rfl rfl)
theorem dX0_part_10 : decode cX0_part 10 = .ok (.lload_n 0, 1) := dk_30 (dk_at dksX0_part_0 10 rfl rfl)
theorem dX0_part_11 : decode cX0_part 11 = .ok (.lload_n 2, 1) := dk_32 (dk_at dksX0_part_0 11 rfl rfl)
theorem dX0_part_12 : decode cX0_part 12 = .ok (.invokestatic 303, 3) := dk_184 1 47 (dk_at dksX0_part_0 12 rfl rfl)
theorem dX0_part_15 : decode cX0_part 15 = .ok (.ldiv, 1) := dk_109 (dk_at dksX0_part_0 15 rfl rfl)
theorem dX0_part_16 : decode cX0_part 16 = .ok (.lreturn, 1) := dk_173 (dk_at dksX0_part_0 16 rfl rfl)
abbrev cX0_common : ByteArray := prog_1_method_41_code
def yX0_common : MethodName := ⟨RX0, "common", "(JJ)J"⟩
def dkwX0_common_0 : List UInt8 := [32, 9, 148, 154, 0, 7, 30, 167, 0, 10, 32, 30, 32, 113, 184, 1, 47, 173]
abbrev dktX0_common_0 : List UInt8 := dkwX0_common_0 ++ []
theorem dksX0_common_0 : cX0_common.data.toList.drop 0 = dktX0_common_0 := by decide +kernel
theorem dX0_common_0 : decode cX0_common 0 = .ok (.lload_n 2, 1) := dk_32 (dk_at dksX0_common_0 0 rfl rfl)
theorem dX0_common_1 : decode cX0_common 1 = .ok (.lconst 0, 1) := dk_9 (dk_at dksX0_common_0 1 rfl rfl)
theorem dX0_common_2 : decode cX0_common 2 = .ok (.lcmp, 1) := dk_148 (dk_at dksX0_common_0 2 rfl rfl)
theorem dX0_common_3 : decode cX0_common 3 = .ok (.ifCond .ne 7, 3) := dk_154 0 7 (dk_at dksX0_common_0 3 rfl rfl)
theorem dX0_common_6 : decode cX0_common 6 = .ok (.lload_n 0, 1) := dk_30 (dk_at dksX0_common_0 6 rfl rfl)
theorem dX0_common_7 : decode cX0_common 7 = .ok (.goto 10, 3) := dk_167 0 10 (dk_at dksX0_common_0 7 rfl rfl)
theorem dX0_common_10 : decode cX0_common 10 = .ok (.lload_n 2, 1) := dk_32 (dk_at dksX0_common_0 10 rfl rfl)
theorem dX0_common_11 : decode cX0_common 11 = .ok (.lload_n 0, 1) := dk_30 (dk_at dksX0_common_0 11 rfl rfl)
theorem dX0_common_12 : decode cX0_common 12 = .ok (.lload_n 2, 1) := dk_32 (dk_at dksX0_common_0 12 rfl rfl)
theorem dX0_common_13 : decode cX0_common 13 = .ok (.lrem, 1) := dk_113 (dk_at dksX0_common_0 13 rfl rfl)
theorem dX0_common_14 : decode cX0_common 14 = .ok (.invokestatic 303, 3) := dk_184 1 47 (dk_at dksX0_common_0 14 rfl rfl)
theorem dX0_common_17 : decode cX0_common 17 = .ok (.lreturn, 1) := dk_173 (dk_at dksX0_common_0 17 rfl rfl)
abbrev cX0_chance : ByteArray := prog_1_method_48_code
def yX0_chance : MethodName := ⟨RX0, "chance", "(II)J"⟩
def dkwX0_chance_3 : List UInt8 := [182, 0, 160, 184, 1, 65, 28, 184, 1, 69, 173]
abbrev dktX0_chance_3 : List UInt8 := dkwX0_chance_3 ++ []
def dkwX0_chance_2 : List UInt8 := [42, 180, 0, 47, 182, 0, 162, 21, 5, 182, 1, 53, 97, 66, 132, 5, 1, 167, 255, 215, 33, 42]
abbrev dktX0_chance_2 : List UInt8 := dkwX0_chance_2 ++ dktX0_chance_3
def dkwX0_chance_1 : List UInt8 := [21, 5, 42, 180, 0, 47, 182, 0, 162, 163, 0, 35, 42, 21, 5, 182, 1, 25, 27, 160, 0, 19, 33, 42]
abbrev dktX0_chance_1 : List UInt8 := dkwX0_chance_1 ++ dktX0_chance_2
def dkwX0_chance_0 : List UInt8 := [42, 27, 182, 0, 192, 153, 0, 10, 28, 184, 0, 231, 154, 0, 7, 20, 1, 57, 173, 9, 66, 3, 54, 5]
abbrev dktX0_chance_0 : List UInt8 := dkwX0_chance_0 ++ dktX0_chance_1
theorem dksX0_chance_0 : cX0_chance.data.toList.drop 0 = dktX0_chance_0 := by decide +kernel
theorem dksX0_chance_1 : cX0_chance.data.toList.drop 24 = dktX0_chance_1 := dk_seg dksX0_chance_0 24 rfl rfl
theorem dksX0_chance_2 : cX0_chance.data.toList.drop 48 = dktX0_chance_2 := dk_seg dksX0_chance_1 24 rfl rfl
theorem dksX0_chance_3 : cX0_chance.data.toList.drop 70 = dktX0_chance_3 := dk_seg dksX0_chance_2 22 rfl rfl
theorem dX0_chance_0 : decode cX0_chance 0 = .ok (.aload_n 0, 1) := dk_42 (dk_at dksX0_chance_0 0 rfl rfl)
theorem dX0_chance_1 : decode cX0_chance 1 = .ok (.iload_n 1, 1) := dk_27 (dk_at dksX0_chance_0 1 rfl rfl)
theorem dX0_chance_2 : decode cX0_chance 2 = .ok (.invokevirtual 192, 3) := dk_182 0 192 (dk_at dksX0_chance_0 2 rfl rfl)
theorem dX0_chance_5 : decode cX0_chance 5 = .ok (.ifCond .eq 10, 3) := dk_153 0 10 (dk_at dksX0_chance_0 5 rfl rfl)
theorem dX0_chance_8 : decode cX0_chance 8 = .ok (.iload_n 2, 1) := dk_28 (dk_at dksX0_chance_0 8 rfl rfl)
theorem dX0_chance_9 : decode cX0_chance 9 = .ok (.invokestatic 231, 3) := dk_184 0 231 (dk_at dksX0_chance_0 9 rfl rfl)
theorem dX0_chance_12 : decode cX0_chance 12 = .ok (.ifCond .ne 7, 3) := dk_154 0 7 (dk_at dksX0_chance_0 12 rfl rfl)
theorem dX0_chance_15 : decode cX0_chance 15 = .ok (.ldc2_w 313, 3) := dk_20 1 57 (dk_at dksX0_chance_0 15 rfl rfl)
theorem dX0_chance_18 : decode cX0_chance 18 = .ok (.lreturn, 1) := dk_173 (dk_at dksX0_chance_0 18 rfl rfl)
theorem dX0_chance_19 : decode cX0_chance 19 = .ok (.lconst 0, 1) := dk_9 (dk_at dksX0_chance_0 19 rfl rfl)
theorem dX0_chance_20 : decode cX0_chance 20 = .ok (.lstore_n 3, 1) := dk_66 (dk_at dksX0_chance_0 20 rfl rfl)
theorem dX0_chance_21 : decode cX0_chance 21 = .ok (.iconst 0, 1) := dk_3 (dk_at dksX0_chance_0 21 rfl rfl)
theorem dX0_chance_22 : decode cX0_chance 22 = .ok (.istore 5, 2) := dk_54 5 (dk_at dksX0_chance_0 22 rfl rfl)
theorem dX0_chance_24 : decode cX0_chance 24 = .ok (.iload 5, 2) := dk_21 5 (dk_at dksX0_chance_1 0 rfl rfl)
theorem dX0_chance_26 : decode cX0_chance 26 = .ok (.aload_n 0, 1) := dk_42 (dk_at dksX0_chance_1 2 rfl rfl)
theorem dX0_chance_27 : decode cX0_chance 27 = .ok (.getfield 47, 3) := dk_180 0 47 (dk_at dksX0_chance_1 3 rfl rfl)
theorem dX0_chance_30 : decode cX0_chance 30 = .ok (.invokevirtual 162, 3) := dk_182 0 162 (dk_at dksX0_chance_1 6 rfl rfl)
theorem dX0_chance_33 : decode cX0_chance 33 = .ok (.if_icmp .gt 35, 3) := dk_163 0 35 (dk_at dksX0_chance_1 9 rfl rfl)
theorem dX0_chance_36 : decode cX0_chance 36 = .ok (.aload_n 0, 1) := dk_42 (dk_at dksX0_chance_1 12 rfl rfl)
theorem dX0_chance_37 : decode cX0_chance 37 = .ok (.iload 5, 2) := dk_21 5 (dk_at dksX0_chance_1 13 rfl rfl)
theorem dX0_chance_39 : decode cX0_chance 39 = .ok (.invokevirtual 281, 3) := dk_182 1 25 (dk_at dksX0_chance_1 15 rfl rfl)
theorem dX0_chance_42 : decode cX0_chance 42 = .ok (.iload_n 1, 1) := dk_27 (dk_at dksX0_chance_1 18 rfl rfl)
theorem dX0_chance_43 : decode cX0_chance 43 = .ok (.if_icmp .ne 19, 3) := dk_160 0 19 (dk_at dksX0_chance_1 19 rfl rfl)
theorem dX0_chance_46 : decode cX0_chance 46 = .ok (.lload_n 3, 1) := dk_33 (dk_at dksX0_chance_1 22 rfl rfl)
theorem dX0_chance_47 : decode cX0_chance 47 = .ok (.aload_n 0, 1) := dk_42 (dk_at dksX0_chance_1 23 rfl rfl)
theorem dX0_chance_48 : decode cX0_chance 48 = .ok (.aload_n 0, 1) := dk_42 (dk_at dksX0_chance_2 0 rfl rfl)
theorem dX0_chance_49 : decode cX0_chance 49 = .ok (.getfield 47, 3) := dk_180 0 47 (dk_at dksX0_chance_2 1 rfl rfl)
theorem dX0_chance_52 : decode cX0_chance 52 = .ok (.invokevirtual 162, 3) := dk_182 0 162 (dk_at dksX0_chance_2 4 rfl rfl)
theorem dX0_chance_55 : decode cX0_chance 55 = .ok (.iload 5, 2) := dk_21 5 (dk_at dksX0_chance_2 7 rfl rfl)
theorem dX0_chance_57 : decode cX0_chance 57 = .ok (.invokevirtual 309, 3) := dk_182 1 53 (dk_at dksX0_chance_2 9 rfl rfl)
theorem dX0_chance_60 : decode cX0_chance 60 = .ok (.ladd, 1) := dk_97 (dk_at dksX0_chance_2 12 rfl rfl)
theorem dX0_chance_61 : decode cX0_chance 61 = .ok (.lstore_n 3, 1) := dk_66 (dk_at dksX0_chance_2 13 rfl rfl)
theorem dX0_chance_62 : decode cX0_chance 62 = .ok (.iinc 5 1, 3) := dk_132 5 1 (dk_at dksX0_chance_2 14 rfl rfl)
theorem dX0_chance_65 : decode cX0_chance 65 = .ok (.goto (-41), 3) := dk_167 255 215 (dk_at dksX0_chance_2 17 rfl rfl)
theorem dX0_chance_68 : decode cX0_chance 68 = .ok (.lload_n 3, 1) := dk_33 (dk_at dksX0_chance_2 20 rfl rfl)
theorem dX0_chance_69 : decode cX0_chance 69 = .ok (.aload_n 0, 1) := dk_42 (dk_at dksX0_chance_2 21 rfl rfl)
theorem dX0_chance_70 : decode cX0_chance 70 = .ok (.invokevirtual 160, 3) := dk_182 0 160 (dk_at dksX0_chance_3 0 rfl rfl)
theorem dX0_chance_73 : decode cX0_chance 73 = .ok (.invokestatic 321, 3) := dk_184 1 65 (dk_at dksX0_chance_3 3 rfl rfl)
theorem dX0_chance_76 : decode cX0_chance 76 = .ok (.iload_n 2, 1) := dk_28 (dk_at dksX0_chance_3 6 rfl rfl)
theorem dX0_chance_77 : decode cX0_chance 77 = .ok (.invokestatic 325, 3) := dk_184 1 69 (dk_at dksX0_chance_3 7 rfl rfl)
theorem dX0_chance_80 : decode cX0_chance 80 = .ok (.lreturn, 1) := dk_173 (dk_at dksX0_chance_3 10 rfl rfl)
abbrev cX0_send : ByteArray := prog_1_method_50_code
def yX0_send : MethodName := ⟨RX0, "send", "(I)I"⟩
def dkwX0_send_0 : List UInt8 := [42, 27, 182, 0, 192, 153, 0, 14, 42, 180, 0, 75, 27, 182, 1, 73, 167, 0, 5, 16, 254, 172]
abbrev dktX0_send_0 : List UInt8 := dkwX0_send_0 ++ []
theorem dksX0_send_0 : cX0_send.data.toList.drop 0 = dktX0_send_0 := by decide +kernel
theorem dX0_send_0 : decode cX0_send 0 = .ok (.aload_n 0, 1) := dk_42 (dk_at dksX0_send_0 0 rfl rfl)
theorem dX0_send_1 : decode cX0_send 1 = .ok (.iload_n 1, 1) := dk_27 (dk_at dksX0_send_0 1 rfl rfl)
theorem dX0_send_2 : decode cX0_send 2 = .ok (.invokevirtual 192, 3) := dk_182 0 192 (dk_at dksX0_send_0 2 rfl rfl)
theorem dX0_send_5 : decode cX0_send 5 = .ok (.ifCond .eq 14, 3) := dk_153 0 14 (dk_at dksX0_send_0 5 rfl rfl)
theorem dX0_send_8 : decode cX0_send 8 = .ok (.aload_n 0, 1) := dk_42 (dk_at dksX0_send_0 8 rfl rfl)
theorem dX0_send_9 : decode cX0_send 9 = .ok (.getfield 75, 3) := dk_180 0 75 (dk_at dksX0_send_0 9 rfl rfl)
theorem dX0_send_12 : decode cX0_send 12 = .ok (.iload_n 1, 1) := dk_27 (dk_at dksX0_send_0 12 rfl rfl)
theorem dX0_send_13 : decode cX0_send 13 = .ok (.invokevirtual 329, 3) := dk_182 1 73 (dk_at dksX0_send_0 13 rfl rfl)
theorem dX0_send_16 : decode cX0_send 16 = .ok (.goto 5, 3) := dk_167 0 5 (dk_at dksX0_send_0 16 rfl rfl)
theorem dX0_send_19 : decode cX0_send 19 = .ok (.bipush (-2), 2) := dk_16 254 (dk_at dksX0_send_0 19 rfl rfl)
theorem dX0_send_21 : decode cX0_send 21 = .ok (.ireturn, 1) := dk_172 (dk_at dksX0_send_0 21 rfl rfl)
abbrev cX0_priceOf : ByteArray := prog_1_method_49_code
def yX0_priceOf : MethodName := ⟨RX0, "priceOf", "(I)I"⟩
def dkwX0_priceOf_1 : List UInt8 := [182, 0, 170, 180, 0, 189, 167, 0, 4, 3, 96, 61, 132, 3, 1, 167, 255, 222, 28, 172]
abbrev dktX0_priceOf_1 : List UInt8 := dkwX0_priceOf_1 ++ []
def dkwX0_priceOf_0 : List UInt8 := [3, 61, 3, 62, 29, 42, 182, 0, 160, 162, 0, 32, 28, 27, 29, 184, 0, 246, 153, 0, 14, 42, 29]
abbrev dktX0_priceOf_0 : List UInt8 := dkwX0_priceOf_0 ++ dktX0_priceOf_1
theorem dksX0_priceOf_0 : cX0_priceOf.data.toList.drop 0 = dktX0_priceOf_0 := by decide +kernel
theorem dksX0_priceOf_1 : cX0_priceOf.data.toList.drop 23 = dktX0_priceOf_1 := dk_seg dksX0_priceOf_0 23 rfl rfl
theorem dX0_priceOf_0 : decode cX0_priceOf 0 = .ok (.iconst 0, 1) := dk_3 (dk_at dksX0_priceOf_0 0 rfl rfl)
theorem dX0_priceOf_1 : decode cX0_priceOf 1 = .ok (.istore_n 2, 1) := dk_61 (dk_at dksX0_priceOf_0 1 rfl rfl)
theorem dX0_priceOf_2 : decode cX0_priceOf 2 = .ok (.iconst 0, 1) := dk_3 (dk_at dksX0_priceOf_0 2 rfl rfl)
theorem dX0_priceOf_3 : decode cX0_priceOf 3 = .ok (.istore_n 3, 1) := dk_62 (dk_at dksX0_priceOf_0 3 rfl rfl)
theorem dX0_priceOf_4 : decode cX0_priceOf 4 = .ok (.iload_n 3, 1) := dk_29 (dk_at dksX0_priceOf_0 4 rfl rfl)
theorem dX0_priceOf_5 : decode cX0_priceOf 5 = .ok (.aload_n 0, 1) := dk_42 (dk_at dksX0_priceOf_0 5 rfl rfl)
theorem dX0_priceOf_6 : decode cX0_priceOf 6 = .ok (.invokevirtual 160, 3) := dk_182 0 160 (dk_at dksX0_priceOf_0 6 rfl rfl)
theorem dX0_priceOf_9 : decode cX0_priceOf 9 = .ok (.if_icmp .ge 32, 3) := dk_162 0 32 (dk_at dksX0_priceOf_0 9 rfl rfl)
theorem dX0_priceOf_12 : decode cX0_priceOf 12 = .ok (.iload_n 2, 1) := dk_28 (dk_at dksX0_priceOf_0 12 rfl rfl)
theorem dX0_priceOf_13 : decode cX0_priceOf 13 = .ok (.iload_n 1, 1) := dk_27 (dk_at dksX0_priceOf_0 13 rfl rfl)
theorem dX0_priceOf_14 : decode cX0_priceOf 14 = .ok (.iload_n 3, 1) := dk_29 (dk_at dksX0_priceOf_0 14 rfl rfl)
theorem dX0_priceOf_15 : decode cX0_priceOf 15 = .ok (.invokestatic 246, 3) := dk_184 0 246 (dk_at dksX0_priceOf_0 15 rfl rfl)
theorem dX0_priceOf_18 : decode cX0_priceOf 18 = .ok (.ifCond .eq 14, 3) := dk_153 0 14 (dk_at dksX0_priceOf_0 18 rfl rfl)
theorem dX0_priceOf_21 : decode cX0_priceOf 21 = .ok (.aload_n 0, 1) := dk_42 (dk_at dksX0_priceOf_0 21 rfl rfl)
theorem dX0_priceOf_22 : decode cX0_priceOf 22 = .ok (.iload_n 3, 1) := dk_29 (dk_at dksX0_priceOf_0 22 rfl rfl)
theorem dX0_priceOf_23 : decode cX0_priceOf 23 = .ok (.invokevirtual 170, 3) := dk_182 0 170 (dk_at dksX0_priceOf_1 0 rfl rfl)
theorem dX0_priceOf_26 : decode cX0_priceOf 26 = .ok (.getfield 189, 3) := dk_180 0 189 (dk_at dksX0_priceOf_1 3 rfl rfl)
theorem dX0_priceOf_29 : decode cX0_priceOf 29 = .ok (.goto 4, 3) := dk_167 0 4 (dk_at dksX0_priceOf_1 6 rfl rfl)
theorem dX0_priceOf_32 : decode cX0_priceOf 32 = .ok (.iconst 0, 1) := dk_3 (dk_at dksX0_priceOf_1 9 rfl rfl)
theorem dX0_priceOf_33 : decode cX0_priceOf 33 = .ok (.iadd, 1) := dk_96 (dk_at dksX0_priceOf_1 10 rfl rfl)
theorem dX0_priceOf_34 : decode cX0_priceOf 34 = .ok (.istore_n 2, 1) := dk_61 (dk_at dksX0_priceOf_1 11 rfl rfl)
theorem dX0_priceOf_35 : decode cX0_priceOf 35 = .ok (.iinc 3 1, 3) := dk_132 3 1 (dk_at dksX0_priceOf_1 12 rfl rfl)
theorem dX0_priceOf_38 : decode cX0_priceOf 38 = .ok (.goto (-34), 3) := dk_167 255 222 (dk_at dksX0_priceOf_1 15 rfl rfl)
theorem dX0_priceOf_41 : decode cX0_priceOf 41 = .ok (.iload_n 2, 1) := dk_28 (dk_at dksX0_priceOf_1 18 rfl rfl)
theorem dX0_priceOf_42 : decode cX0_priceOf 42 = .ok (.ireturn, 1) := dk_172 (dk_at dksX0_priceOf_1 19 rfl rfl)
abbrev cX0_sent : ByteArray := prog_1_method_51_code
def yX0_sent : MethodName := ⟨RX0, "sent", "(I)I"⟩
def dkwX0_sent_0 : List UInt8 := [42, 27, 182, 0, 192, 153, 0, 14, 42, 180, 0, 75, 27, 182, 1, 76, 167, 0, 5, 16, 254, 172]
abbrev dktX0_sent_0 : List UInt8 := dkwX0_sent_0 ++ []
theorem dksX0_sent_0 : cX0_sent.data.toList.drop 0 = dktX0_sent_0 := by decide +kernel
theorem dX0_sent_0 : decode cX0_sent 0 = .ok (.aload_n 0, 1) := dk_42 (dk_at dksX0_sent_0 0 rfl rfl)
theorem dX0_sent_1 : decode cX0_sent 1 = .ok (.iload_n 1, 1) := dk_27 (dk_at dksX0_sent_0 1 rfl rfl)
theorem dX0_sent_2 : decode cX0_sent 2 = .ok (.invokevirtual 192, 3) := dk_182 0 192 (dk_at dksX0_sent_0 2 rfl rfl)
theorem dX0_sent_5 : decode cX0_sent 5 = .ok (.ifCond .eq 14, 3) := dk_153 0 14 (dk_at dksX0_sent_0 5 rfl rfl)
theorem dX0_sent_8 : decode cX0_sent 8 = .ok (.aload_n 0, 1) := dk_42 (dk_at dksX0_sent_0 8 rfl rfl)
theorem dX0_sent_9 : decode cX0_sent 9 = .ok (.getfield 75, 3) := dk_180 0 75 (dk_at dksX0_sent_0 9 rfl rfl)
theorem dX0_sent_12 : decode cX0_sent 12 = .ok (.iload_n 1, 1) := dk_27 (dk_at dksX0_sent_0 12 rfl rfl)
theorem dX0_sent_13 : decode cX0_sent 13 = .ok (.invokevirtual 332, 3) := dk_182 1 76 (dk_at dksX0_sent_0 13 rfl rfl)
theorem dX0_sent_16 : decode cX0_sent 16 = .ok (.goto 5, 3) := dk_167 0 5 (dk_at dksX0_sent_0 16 rfl rfl)
theorem dX0_sent_19 : decode cX0_sent 19 = .ok (.bipush (-2), 2) := dk_16 254 (dk_at dksX0_sent_0 19 rfl rfl)
theorem dX0_sent_21 : decode cX0_sent 21 = .ok (.ireturn, 1) := dk_172 (dk_at dksX0_sent_0 21 rfl rfl)
abbrev cX0_fewest : ByteArray := prog_1_method_52_code
def yX0_fewest : MethodName := ⟨RX0, "fewest", "(I)I"⟩
def dkwX0_fewest_0 : List UInt8 := [42, 27, 182, 0, 192, 153, 0, 14, 42, 180, 0, 82, 27, 182, 1, 79, 167, 0, 5, 16, 254, 172]
abbrev dktX0_fewest_0 : List UInt8 := dkwX0_fewest_0 ++ []
theorem dksX0_fewest_0 : cX0_fewest.data.toList.drop 0 = dktX0_fewest_0 := by decide +kernel
theorem dX0_fewest_0 : decode cX0_fewest 0 = .ok (.aload_n 0, 1) := dk_42 (dk_at dksX0_fewest_0 0 rfl rfl)
theorem dX0_fewest_1 : decode cX0_fewest 1 = .ok (.iload_n 1, 1) := dk_27 (dk_at dksX0_fewest_0 1 rfl rfl)
theorem dX0_fewest_2 : decode cX0_fewest 2 = .ok (.invokevirtual 192, 3) := dk_182 0 192 (dk_at dksX0_fewest_0 2 rfl rfl)
theorem dX0_fewest_5 : decode cX0_fewest 5 = .ok (.ifCond .eq 14, 3) := dk_153 0 14 (dk_at dksX0_fewest_0 5 rfl rfl)
theorem dX0_fewest_8 : decode cX0_fewest 8 = .ok (.aload_n 0, 1) := dk_42 (dk_at dksX0_fewest_0 8 rfl rfl)
theorem dX0_fewest_9 : decode cX0_fewest 9 = .ok (.getfield 82, 3) := dk_180 0 82 (dk_at dksX0_fewest_0 9 rfl rfl)
theorem dX0_fewest_12 : decode cX0_fewest 12 = .ok (.iload_n 1, 1) := dk_27 (dk_at dksX0_fewest_0 12 rfl rfl)
theorem dX0_fewest_13 : decode cX0_fewest 13 = .ok (.invokevirtual 335, 3) := dk_182 1 79 (dk_at dksX0_fewest_0 13 rfl rfl)
theorem dX0_fewest_16 : decode cX0_fewest 16 = .ok (.goto 5, 3) := dk_167 0 5 (dk_at dksX0_fewest_0 16 rfl rfl)
theorem dX0_fewest_19 : decode cX0_fewest 19 = .ok (.bipush (-2), 2) := dk_16 254 (dk_at dksX0_fewest_0 19 rfl rfl)
theorem dX0_fewest_21 : decode cX0_fewest 21 = .ok (.ireturn, 1) := dk_172 (dk_at dksX0_fewest_0 21 rfl rfl)
abbrev cX0_risk : ByteArray := prog_1_method_54_code
def yX0_risk : MethodName := ⟨RX0, "risk", "(II)I"⟩
def dkwX0_risk_1 : List UInt8 := [16, 254, 172]
abbrev dktX0_risk_1 : List UInt8 := dkwX0_risk_1 ++ []
def dkwX0_risk_0 : List UInt8 := [42, 27, 28, 182, 1, 80, 153, 0, 18, 42, 180, 0, 89, 28, 182, 1, 83, 27, 182, 1, 87, 167, 0, 5]
abbrev dktX0_risk_0 : List UInt8 := dkwX0_risk_0 ++ dktX0_risk_1
theorem dksX0_risk_0 : cX0_risk.data.toList.drop 0 = dktX0_risk_0 := by decide +kernel
theorem dksX0_risk_1 : cX0_risk.data.toList.drop 24 = dktX0_risk_1 := dk_seg dksX0_risk_0 24 rfl rfl
theorem dX0_risk_0 : decode cX0_risk 0 = .ok (.aload_n 0, 1) := dk_42 (dk_at dksX0_risk_0 0 rfl rfl)
theorem dX0_risk_1 : decode cX0_risk 1 = .ok (.iload_n 1, 1) := dk_27 (dk_at dksX0_risk_0 1 rfl rfl)
theorem dX0_risk_2 : decode cX0_risk 2 = .ok (.iload_n 2, 1) := dk_28 (dk_at dksX0_risk_0 2 rfl rfl)
theorem dX0_risk_3 : decode cX0_risk 3 = .ok (.invokevirtual 336, 3) := dk_182 1 80 (dk_at dksX0_risk_0 3 rfl rfl)
theorem dX0_risk_6 : decode cX0_risk 6 = .ok (.ifCond .eq 18, 3) := dk_153 0 18 (dk_at dksX0_risk_0 6 rfl rfl)
theorem dX0_risk_9 : decode cX0_risk 9 = .ok (.aload_n 0, 1) := dk_42 (dk_at dksX0_risk_0 9 rfl rfl)
theorem dX0_risk_10 : decode cX0_risk 10 = .ok (.getfield 89, 3) := dk_180 0 89 (dk_at dksX0_risk_0 10 rfl rfl)
theorem dX0_risk_13 : decode cX0_risk 13 = .ok (.iload_n 2, 1) := dk_28 (dk_at dksX0_risk_0 13 rfl rfl)
theorem dX0_risk_14 : decode cX0_risk 14 = .ok (.invokevirtual 339, 3) := dk_182 1 83 (dk_at dksX0_risk_0 14 rfl rfl)
theorem dX0_risk_17 : decode cX0_risk 17 = .ok (.iload_n 1, 1) := dk_27 (dk_at dksX0_risk_0 17 rfl rfl)
theorem dX0_risk_18 : decode cX0_risk 18 = .ok (.invokevirtual 343, 3) := dk_182 1 87 (dk_at dksX0_risk_0 18 rfl rfl)
theorem dX0_risk_21 : decode cX0_risk 21 = .ok (.goto 5, 3) := dk_167 0 5 (dk_at dksX0_risk_0 21 rfl rfl)
theorem dX0_risk_24 : decode cX0_risk 24 = .ok (.bipush (-2), 2) := dk_16 254 (dk_at dksX0_risk_1 0 rfl rfl)
theorem dX0_risk_26 : decode cX0_risk 26 = .ok (.ireturn, 1) := dk_172 (dk_at dksX0_risk_1 2 rfl rfl)
abbrev cX0_isRisk : ByteArray := prog_1_method_53_code
def yX0_isRisk : MethodName := ⟨RX0, "isRisk", "(II)Z"⟩
def dkwX0_isRisk_1 : List UInt8 := [3, 172]
abbrev dktX0_isRisk_1 : List UInt8 := dkwX0_isRisk_1 ++ []
def dkwX0_isRisk_0 : List UInt8 := [42, 27, 182, 0, 192, 153, 0, 19, 28, 133, 9, 20, 1, 51, 184, 0, 11, 153, 0, 7, 4, 167, 0, 4]
abbrev dktX0_isRisk_0 : List UInt8 := dkwX0_isRisk_0 ++ dktX0_isRisk_1
theorem dksX0_isRisk_0 : cX0_isRisk.data.toList.drop 0 = dktX0_isRisk_0 := by decide +kernel
theorem dksX0_isRisk_1 : cX0_isRisk.data.toList.drop 24 = dktX0_isRisk_1 := dk_seg dksX0_isRisk_0 24 rfl rfl
theorem dX0_isRisk_0 : decode cX0_isRisk 0 = .ok (.aload_n 0, 1) := dk_42 (dk_at dksX0_isRisk_0 0 rfl rfl)
theorem dX0_isRisk_1 : decode cX0_isRisk 1 = .ok (.iload_n 1, 1) := dk_27 (dk_at dksX0_isRisk_0 1 rfl rfl)
theorem dX0_isRisk_2 : decode cX0_isRisk 2 = .ok (.invokevirtual 192, 3) := dk_182 0 192 (dk_at dksX0_isRisk_0 2 rfl rfl)
theorem dX0_isRisk_5 : decode cX0_isRisk 5 = .ok (.ifCond .eq 19, 3) := dk_153 0 19 (dk_at dksX0_isRisk_0 5 rfl rfl)
theorem dX0_isRisk_8 : decode cX0_isRisk 8 = .ok (.iload_n 2, 1) := dk_28 (dk_at dksX0_isRisk_0 8 rfl rfl)
theorem dX0_isRisk_9 : decode cX0_isRisk 9 = .ok (.i2l, 1) := dk_133 (dk_at dksX0_isRisk_0 9 rfl rfl)
theorem dX0_isRisk_10 : decode cX0_isRisk 10 = .ok (.lconst 0, 1) := dk_9 (dk_at dksX0_isRisk_0 10 rfl rfl)
theorem dX0_isRisk_11 : decode cX0_isRisk 11 = .ok (.ldc2_w 307, 3) := dk_20 1 51 (dk_at dksX0_isRisk_0 11 rfl rfl)
theorem dX0_isRisk_14 : decode cX0_isRisk 14 = .ok (.invokestatic 11, 3) := dk_184 0 11 (dk_at dksX0_isRisk_0 14 rfl rfl)
theorem dX0_isRisk_17 : decode cX0_isRisk 17 = .ok (.ifCond .eq 7, 3) := dk_153 0 7 (dk_at dksX0_isRisk_0 17 rfl rfl)
theorem dX0_isRisk_20 : decode cX0_isRisk 20 = .ok (.iconst 1, 1) := dk_4 (dk_at dksX0_isRisk_0 20 rfl rfl)
theorem dX0_isRisk_21 : decode cX0_isRisk 21 = .ok (.goto 4, 3) := dk_167 0 4 (dk_at dksX0_isRisk_0 21 rfl rfl)
theorem dX0_isRisk_24 : decode cX0_isRisk 24 = .ok (.iconst 0, 1) := dk_3 (dk_at dksX0_isRisk_1 0 rfl rfl)
theorem dX0_isRisk_25 : decode cX0_isRisk 25 = .ok (.ireturn, 1) := dk_172 (dk_at dksX0_isRisk_1 1 rfl rfl)
abbrev cX0_risked : ByteArray := prog_1_method_55_code
def yX0_risked : MethodName := ⟨RX0, "risked", "(II)I"⟩
def dkwX0_risked_1 : List UInt8 := [16, 254, 172]
abbrev dktX0_risked_1 : List UInt8 := dkwX0_risked_1 ++ []
def dkwX0_risked_0 : List UInt8 := [42, 27, 28, 182, 1, 80, 153, 0, 18, 42, 180, 0, 89, 28, 182, 1, 83, 27, 182, 1, 88, 167, 0, 5]
abbrev dktX0_risked_0 : List UInt8 := dkwX0_risked_0 ++ dktX0_risked_1
theorem dksX0_risked_0 : cX0_risked.data.toList.drop 0 = dktX0_risked_0 := by decide +kernel
theorem dksX0_risked_1 : cX0_risked.data.toList.drop 24 = dktX0_risked_1 := dk_seg dksX0_risked_0 24 rfl rfl
theorem dX0_risked_0 : decode cX0_risked 0 = .ok (.aload_n 0, 1) := dk_42 (dk_at dksX0_risked_0 0 rfl rfl)
theorem dX0_risked_1 : decode cX0_risked 1 = .ok (.iload_n 1, 1) := dk_27 (dk_at dksX0_risked_0 1 rfl rfl)
theorem dX0_risked_2 : decode cX0_risked 2 = .ok (.iload_n 2, 1) := dk_28 (dk_at dksX0_risked_0 2 rfl rfl)
theorem dX0_risked_3 : decode cX0_risked 3 = .ok (.invokevirtual 336, 3) := dk_182 1 80 (dk_at dksX0_risked_0 3 rfl rfl)
theorem dX0_risked_6 : decode cX0_risked 6 = .ok (.ifCond .eq 18, 3) := dk_153 0 18 (dk_at dksX0_risked_0 6 rfl rfl)
theorem dX0_risked_9 : decode cX0_risked 9 = .ok (.aload_n 0, 1) := dk_42 (dk_at dksX0_risked_0 9 rfl rfl)
theorem dX0_risked_10 : decode cX0_risked 10 = .ok (.getfield 89, 3) := dk_180 0 89 (dk_at dksX0_risked_0 10 rfl rfl)
theorem dX0_risked_13 : decode cX0_risked 13 = .ok (.iload_n 2, 1) := dk_28 (dk_at dksX0_risked_0 13 rfl rfl)
theorem dX0_risked_14 : decode cX0_risked 14 = .ok (.invokevirtual 339, 3) := dk_182 1 83 (dk_at dksX0_risked_0 14 rfl rfl)
theorem dX0_risked_17 : decode cX0_risked 17 = .ok (.iload_n 1, 1) := dk_27 (dk_at dksX0_risked_0 17 rfl rfl)
theorem dX0_risked_18 : decode cX0_risked 18 = .ok (.invokevirtual 344, 3) := dk_182 1 88 (dk_at dksX0_risked_0 18 rfl rfl)
theorem dX0_risked_21 : decode cX0_risked 21 = .ok (.goto 5, 3) := dk_167 0 5 (dk_at dksX0_risked_0 21 rfl rfl)
theorem dX0_risked_24 : decode cX0_risked 24 = .ok (.bipush (-2), 2) := dk_16 254 (dk_at dksX0_risked_1 0 rfl rfl)
theorem dX0_risked_26 : decode cX0_risked 26 = .ok (.ireturn, 1) := dk_172 (dk_at dksX0_risked_1 2 rfl rfl)
abbrev cX0_bribe : ByteArray := prog_1_method_56_code
def yX0_bribe : MethodName := ⟨RX0, "bribe", "(I)I"⟩
def dkwX0_bribe_1 : List UInt8 := [16, 254, 172]
abbrev dktX0_bribe_1 : List UInt8 := dkwX0_bribe_1 ++ []
def dkwX0_bribe_0 : List UInt8 := [42, 27, 182, 0, 192, 153, 0, 18, 42, 180, 0, 96, 2, 182, 1, 89, 27, 182, 1, 93, 167, 0, 5]
abbrev dktX0_bribe_0 : List UInt8 := dkwX0_bribe_0 ++ dktX0_bribe_1
theorem dksX0_bribe_0 : cX0_bribe.data.toList.drop 0 = dktX0_bribe_0 := by decide +kernel
theorem dksX0_bribe_1 : cX0_bribe.data.toList.drop 23 = dktX0_bribe_1 := dk_seg dksX0_bribe_0 23 rfl rfl
theorem dX0_bribe_0 : decode cX0_bribe 0 = .ok (.aload_n 0, 1) := dk_42 (dk_at dksX0_bribe_0 0 rfl rfl)
theorem dX0_bribe_1 : decode cX0_bribe 1 = .ok (.iload_n 1, 1) := dk_27 (dk_at dksX0_bribe_0 1 rfl rfl)
theorem dX0_bribe_2 : decode cX0_bribe 2 = .ok (.invokevirtual 192, 3) := dk_182 0 192 (dk_at dksX0_bribe_0 2 rfl rfl)
theorem dX0_bribe_5 : decode cX0_bribe 5 = .ok (.ifCond .eq 18, 3) := dk_153 0 18 (dk_at dksX0_bribe_0 5 rfl rfl)
theorem dX0_bribe_8 : decode cX0_bribe 8 = .ok (.aload_n 0, 1) := dk_42 (dk_at dksX0_bribe_0 8 rfl rfl)
theorem dX0_bribe_9 : decode cX0_bribe 9 = .ok (.getfield 96, 3) := dk_180 0 96 (dk_at dksX0_bribe_0 9 rfl rfl)
theorem dX0_bribe_12 : decode cX0_bribe 12 = .ok (.iconst (-1), 1) := dk_2 (dk_at dksX0_bribe_0 12 rfl rfl)
theorem dX0_bribe_13 : decode cX0_bribe 13 = .ok (.invokevirtual 345, 3) := dk_182 1 89 (dk_at dksX0_bribe_0 13 rfl rfl)
theorem dX0_bribe_16 : decode cX0_bribe 16 = .ok (.iload_n 1, 1) := dk_27 (dk_at dksX0_bribe_0 16 rfl rfl)
theorem dX0_bribe_17 : decode cX0_bribe 17 = .ok (.invokevirtual 349, 3) := dk_182 1 93 (dk_at dksX0_bribe_0 17 rfl rfl)
theorem dX0_bribe_20 : decode cX0_bribe 20 = .ok (.goto 5, 3) := dk_167 0 5 (dk_at dksX0_bribe_0 20 rfl rfl)
theorem dX0_bribe_23 : decode cX0_bribe 23 = .ok (.bipush (-2), 2) := dk_16 254 (dk_at dksX0_bribe_1 0 rfl rfl)
theorem dX0_bribe_25 : decode cX0_bribe 25 = .ok (.ireturn, 1) := dk_172 (dk_at dksX0_bribe_1 2 rfl rfl)
abbrev cX0_bribed : ByteArray := prog_1_method_57_code
def yX0_bribed : MethodName := ⟨RX0, "bribed", "(I)I"⟩
def dkwX0_bribed_1 : List UInt8 := [16, 254, 172]
abbrev dktX0_bribed_1 : List UInt8 := dkwX0_bribed_1 ++ []
def dkwX0_bribed_0 : List UInt8 := [42, 27, 182, 0, 192, 153, 0, 18, 42, 180, 0, 96, 2, 182, 1, 89, 27, 182, 1, 94, 167, 0, 5]
abbrev dktX0_bribed_0 : List UInt8 := dkwX0_bribed_0 ++ dktX0_bribed_1
theorem dksX0_bribed_0 : cX0_bribed.data.toList.drop 0 = dktX0_bribed_0 := by decide +kernel
theorem dksX0_bribed_1 : cX0_bribed.data.toList.drop 23 = dktX0_bribed_1 := dk_seg dksX0_bribed_0 23 rfl rfl
theorem dX0_bribed_0 : decode cX0_bribed 0 = .ok (.aload_n 0, 1) := dk_42 (dk_at dksX0_bribed_0 0 rfl rfl)
theorem dX0_bribed_1 : decode cX0_bribed 1 = .ok (.iload_n 1, 1) := dk_27 (dk_at dksX0_bribed_0 1 rfl rfl)
theorem dX0_bribed_2 : decode cX0_bribed 2 = .ok (.invokevirtual 192, 3) := dk_182 0 192 (dk_at dksX0_bribed_0 2 rfl rfl)
theorem dX0_bribed_5 : decode cX0_bribed 5 = .ok (.ifCond .eq 18, 3) := dk_153 0 18 (dk_at dksX0_bribed_0 5 rfl rfl)
theorem dX0_bribed_8 : decode cX0_bribed 8 = .ok (.aload_n 0, 1) := dk_42 (dk_at dksX0_bribed_0 8 rfl rfl)
theorem dX0_bribed_9 : decode cX0_bribed 9 = .ok (.getfield 96, 3) := dk_180 0 96 (dk_at dksX0_bribed_0 9 rfl rfl)
theorem dX0_bribed_12 : decode cX0_bribed 12 = .ok (.iconst (-1), 1) := dk_2 (dk_at dksX0_bribed_0 12 rfl rfl)
theorem dX0_bribed_13 : decode cX0_bribed 13 = .ok (.invokevirtual 345, 3) := dk_182 1 89 (dk_at dksX0_bribed_0 13 rfl rfl)
theorem dX0_bribed_16 : decode cX0_bribed 16 = .ok (.iload_n 1, 1) := dk_27 (dk_at dksX0_bribed_0 16 rfl rfl)
theorem dX0_bribed_17 : decode cX0_bribed 17 = .ok (.invokevirtual 350, 3) := dk_182 1 94 (dk_at dksX0_bribed_0 17 rfl rfl)
theorem dX0_bribed_20 : decode cX0_bribed 20 = .ok (.goto 5, 3) := dk_167 0 5 (dk_at dksX0_bribed_0 20 rfl rfl)
theorem dX0_bribed_23 : decode cX0_bribed 23 = .ok (.bipush (-2), 2) := dk_16 254 (dk_at dksX0_bribed_1 0 rfl rfl)
theorem dX0_bribed_25 : decode cX0_bribed 25 = .ok (.ireturn, 1) := dk_172 (dk_at dksX0_bribed_1 2 rfl rfl)
abbrev cX0_guard : ByteArray := prog_1_method_60_code
def yX0_guard : MethodName := ⟨RX0, "guard", "(I)I"⟩
def dkwX0_guard_0 : List UInt8 := [42, 27, 182, 0, 192, 153, 0, 11, 42, 27, 182, 1, 99, 167, 0, 5, 16, 254, 172]
abbrev dktX0_guard_0 : List UInt8 := dkwX0_guard_0 ++ []
theorem dksX0_guard_0 : cX0_guard.data.toList.drop 0 = dktX0_guard_0 := by decide +kernel
theorem dX0_guard_0 : decode cX0_guard 0 = .ok (.aload_n 0, 1) := dk_42 (dk_at dksX0_guard_0 0 rfl rfl)
theorem dX0_guard_1 : decode cX0_guard 1 = .ok (.iload_n 1, 1) := dk_27 (dk_at dksX0_guard_0 1 rfl rfl)
theorem dX0_guard_2 : decode cX0_guard 2 = .ok (.invokevirtual 192, 3) := dk_182 0 192 (dk_at dksX0_guard_0 2 rfl rfl)
theorem dX0_guard_5 : decode cX0_guard 5 = .ok (.ifCond .eq 11, 3) := dk_153 0 11 (dk_at dksX0_guard_0 5 rfl rfl)
theorem dX0_guard_8 : decode cX0_guard 8 = .ok (.aload_n 0, 1) := dk_42 (dk_at dksX0_guard_0 8 rfl rfl)
theorem dX0_guard_9 : decode cX0_guard 9 = .ok (.iload_n 1, 1) := dk_27 (dk_at dksX0_guard_0 9 rfl rfl)
theorem dX0_guard_10 : decode cX0_guard 10 = .ok (.invokevirtual 355, 3) := dk_182 1 99 (dk_at dksX0_guard_0 10 rfl rfl)
theorem dX0_guard_13 : decode cX0_guard 13 = .ok (.goto 5, 3) := dk_167 0 5 (dk_at dksX0_guard_0 13 rfl rfl)
theorem dX0_guard_16 : decode cX0_guard 16 = .ok (.bipush (-2), 2) := dk_16 254 (dk_at dksX0_guard_0 16 rfl rfl)
theorem dX0_guard_18 : decode cX0_guard 18 = .ok (.ireturn, 1) := dk_172 (dk_at dksX0_guard_0 18 rfl rfl)
abbrev cX0_guardOf : ByteArray := prog_1_method_59_code
def yX0_guardOf : MethodName := ⟨RX0, "guardOf", "(I)I"⟩
def dkwX0_guardOf_2 : List UInt8 := [29, 163, 0, 6, 167, 0, 9, 21, 4, 61, 21, 5, 62, 132, 4, 1, 167, 255, 204, 28, 172]
abbrev dktX0_guardOf_2 : List UInt8 := dkwX0_guardOf_2 ++ []
def dkwX0_guardOf_1 : List UInt8 := [182, 0, 170, 180, 0, 174, 27, 159, 0, 6, 167, 0, 27, 42, 27, 21, 4, 182, 1, 96, 54, 5, 21, 5]
abbrev dktX0_guardOf_1 : List UInt8 := dkwX0_guardOf_1 ++ dktX0_guardOf_2
def dkwX0_guardOf_0 : List UInt8 := [2, 61, 42, 27, 2, 182, 1, 96, 62, 3, 54, 4, 21, 4, 42, 182, 0, 160, 162, 0, 49, 42, 21, 4]
abbrev dktX0_guardOf_0 : List UInt8 := dkwX0_guardOf_0 ++ dktX0_guardOf_1
theorem dksX0_guardOf_0 : cX0_guardOf.data.toList.drop 0 = dktX0_guardOf_0 := by decide +kernel
theorem dksX0_guardOf_1 : cX0_guardOf.data.toList.drop 24 = dktX0_guardOf_1 := dk_seg dksX0_guardOf_0 24 rfl rfl
theorem dksX0_guardOf_2 : cX0_guardOf.data.toList.drop 48 = dktX0_guardOf_2 := dk_seg dksX0_guardOf_1 24 rfl rfl
theorem dX0_guardOf_0 : decode cX0_guardOf 0 = .ok (.iconst (-1), 1) := dk_2 (dk_at dksX0_guardOf_0 0 rfl rfl)
theorem dX0_guardOf_1 : decode cX0_guardOf 1 = .ok (.istore_n 2, 1) := dk_61 (dk_at dksX0_guardOf_0 1 rfl rfl)
theorem dX0_guardOf_2 : decode cX0_guardOf 2 = .ok (.aload_n 0, 1) := dk_42 (dk_at dksX0_guardOf_0 2 rfl rfl)
theorem dX0_guardOf_3 : decode cX0_guardOf 3 = .ok (.iload_n 1, 1) := dk_27 (dk_at dksX0_guardOf_0 3 rfl rfl)
theorem dX0_guardOf_4 : decode cX0_guardOf 4 = .ok (.iconst (-1), 1) := dk_2 (dk_at dksX0_guardOf_0 4 rfl rfl)
theorem dX0_guardOf_5 : decode cX0_guardOf 5 = .ok (.invokevirtual 352, 3) := dk_182 1 96 (dk_at dksX0_guardOf_0 5 rfl rfl)
theorem dX0_guardOf_8 : decode cX0_guardOf 8 = .ok (.istore_n 3, 1) := dk_62 (dk_at dksX0_guardOf_0 8 rfl rfl)
theorem dX0_guardOf_9 : decode cX0_guardOf 9 = .ok (.iconst 0, 1) := dk_3 (dk_at dksX0_guardOf_0 9 rfl rfl)
theorem dX0_guardOf_10 : decode cX0_guardOf 10 = .ok (.istore 4, 2) := dk_54 4 (dk_at dksX0_guardOf_0 10 rfl rfl)
theorem dX0_guardOf_12 : decode cX0_guardOf 12 = .ok (.iload 4, 2) := dk_21 4 (dk_at dksX0_guardOf_0 12 rfl rfl)
theorem dX0_guardOf_14 : decode cX0_guardOf 14 = .ok (.aload_n 0, 1) := dk_42 (dk_at dksX0_guardOf_0 14 rfl rfl)
theorem dX0_guardOf_15 : decode cX0_guardOf 15 = .ok (.invokevirtual 160, 3) := dk_182 0 160 (dk_at dksX0_guardOf_0 15 rfl rfl)
theorem dX0_guardOf_18 : decode cX0_guardOf 18 = .ok (.if_icmp .ge 49, 3) := dk_162 0 49 (dk_at dksX0_guardOf_0 18 rfl rfl)
theorem dX0_guardOf_21 : decode cX0_guardOf 21 = .ok (.aload_n 0, 1) := dk_42 (dk_at dksX0_guardOf_0 21 rfl rfl)
theorem dX0_guardOf_22 : decode cX0_guardOf 22 = .ok (.iload 4, 2) := dk_21 4 (dk_at dksX0_guardOf_0 22 rfl rfl)
theorem dX0_guardOf_24 : decode cX0_guardOf 24 = .ok (.invokevirtual 170, 3) := dk_182 0 170 (dk_at dksX0_guardOf_1 0 rfl rfl)
theorem dX0_guardOf_27 : decode cX0_guardOf 27 = .ok (.getfield 174, 3) := dk_180 0 174 (dk_at dksX0_guardOf_1 3 rfl rfl)
theorem dX0_guardOf_30 : decode cX0_guardOf 30 = .ok (.iload_n 1, 1) := dk_27 (dk_at dksX0_guardOf_1 6 rfl rfl)
theorem dX0_guardOf_31 : decode cX0_guardOf 31 = .ok (.if_icmp .eq 6, 3) := dk_159 0 6 (dk_at dksX0_guardOf_1 7 rfl rfl)
theorem dX0_guardOf_34 : decode cX0_guardOf 34 = .ok (.goto 27, 3) := dk_167 0 27 (dk_at dksX0_guardOf_1 10 rfl rfl)
theorem dX0_guardOf_37 : decode cX0_guardOf 37 = .ok (.aload_n 0, 1) := dk_42 (dk_at dksX0_guardOf_1 13 rfl rfl)
theorem dX0_guardOf_38 : decode cX0_guardOf 38 = .ok (.iload_n 1, 1) := dk_27 (dk_at dksX0_guardOf_1 14 rfl rfl)
theorem dX0_guardOf_39 : decode cX0_guardOf 39 = .ok (.iload 4, 2) := dk_21 4 (dk_at dksX0_guardOf_1 15 rfl rfl)
theorem dX0_guardOf_41 : decode cX0_guardOf 41 = .ok (.invokevirtual 352, 3) := dk_182 1 96 (dk_at dksX0_guardOf_1 17 rfl rfl)
theorem dX0_guardOf_44 : decode cX0_guardOf 44 = .ok (.istore 5, 2) := dk_54 5 (dk_at dksX0_guardOf_1 20 rfl rfl)
theorem dX0_guardOf_46 : decode cX0_guardOf 46 = .ok (.iload 5, 2) := dk_21 5 (dk_at dksX0_guardOf_1 22 rfl rfl)
theorem dX0_guardOf_48 : decode cX0_guardOf 48 = .ok (.iload_n 3, 1) := dk_29 (dk_at dksX0_guardOf_2 0 rfl rfl)
theorem dX0_guardOf_49 : decode cX0_guardOf 49 = .ok (.if_icmp .gt 6, 3) := dk_163 0 6 (dk_at dksX0_guardOf_2 1 rfl rfl)
theorem dX0_guardOf_52 : decode cX0_guardOf 52 = .ok (.goto 9, 3) := dk_167 0 9 (dk_at dksX0_guardOf_2 4 rfl rfl)
theorem dX0_guardOf_55 : decode cX0_guardOf 55 = .ok (.iload 4, 2) := dk_21 4 (dk_at dksX0_guardOf_2 7 rfl rfl)
theorem dX0_guardOf_57 : decode cX0_guardOf 57 = .ok (.istore_n 2, 1) := dk_61 (dk_at dksX0_guardOf_2 9 rfl rfl)
theorem dX0_guardOf_58 : decode cX0_guardOf 58 = .ok (.iload 5, 2) := dk_21 5 (dk_at dksX0_guardOf_2 10 rfl rfl)
theorem dX0_guardOf_60 : decode cX0_guardOf 60 = .ok (.istore_n 3, 1) := dk_62 (dk_at dksX0_guardOf_2 12 rfl rfl)
theorem dX0_guardOf_61 : decode cX0_guardOf 61 = .ok (.iinc 4 1, 3) := dk_132 4 1 (dk_at dksX0_guardOf_2 13 rfl rfl)
theorem dX0_guardOf_64 : decode cX0_guardOf 64 = .ok (.goto (-52), 3) := dk_167 255 204 (dk_at dksX0_guardOf_2 16 rfl rfl)
theorem dX0_guardOf_67 : decode cX0_guardOf 67 = .ok (.iload_n 2, 1) := dk_28 (dk_at dksX0_guardOf_2 19 rfl rfl)
theorem dX0_guardOf_68 : decode cX0_guardOf 68 = .ok (.ireturn, 1) := dk_172 (dk_at dksX0_guardOf_2 20 rfl rfl)
abbrev cX0_bribeBut : ByteArray := prog_1_method_58_code
def yX0_bribeBut : MethodName := ⟨RX0, "bribeBut", "(II)I"⟩
def dkwX0_bribeBut_1 : List UInt8 := [29, 172]
abbrev dktX0_bribeBut_1 : List UInt8 := dkwX0_bribeBut_1 ++ []
def dkwX0_bribeBut_0 : List UInt8 := [42, 180, 0, 96, 28, 182, 1, 89, 27, 182, 1, 93, 62, 29, 2, 160, 0, 9, 19, 1, 95, 167, 0, 4]
abbrev dktX0_bribeBut_0 : List UInt8 := dkwX0_bribeBut_0 ++ dktX0_bribeBut_1
theorem dksX0_bribeBut_0 : cX0_bribeBut.data.toList.drop 0 = dktX0_bribeBut_0 := by decide +kernel
theorem dksX0_bribeBut_1 : cX0_bribeBut.data.toList.drop 24 = dktX0_bribeBut_1 := dk_seg dksX0_bribeBut_0 24 rfl rfl
theorem dX0_bribeBut_0 : decode cX0_bribeBut 0 = .ok (.aload_n 0, 1) := dk_42 (dk_at dksX0_bribeBut_0 0 rfl rfl)
theorem dX0_bribeBut_1 : decode cX0_bribeBut 1 = .ok (.getfield 96, 3) := dk_180 0 96 (dk_at dksX0_bribeBut_0 1 rfl rfl)
theorem dX0_bribeBut_4 : decode cX0_bribeBut 4 = .ok (.iload_n 2, 1) := dk_28 (dk_at dksX0_bribeBut_0 4 rfl rfl)
theorem dX0_bribeBut_5 : decode cX0_bribeBut 5 = .ok (.invokevirtual 345, 3) := dk_182 1 89 (dk_at dksX0_bribeBut_0 5 rfl rfl)
theorem dX0_bribeBut_8 : decode cX0_bribeBut 8 = .ok (.iload_n 1, 1) := dk_27 (dk_at dksX0_bribeBut_0 8 rfl rfl)
theorem dX0_bribeBut_9 : decode cX0_bribeBut 9 = .ok (.invokevirtual 349, 3) := dk_182 1 93 (dk_at dksX0_bribeBut_0 9 rfl rfl)
theorem dX0_bribeBut_12 : decode cX0_bribeBut 12 = .ok (.istore_n 3, 1) := dk_62 (dk_at dksX0_bribeBut_0 12 rfl rfl)
theorem dX0_bribeBut_13 : decode cX0_bribeBut 13 = .ok (.iload_n 3, 1) := dk_29 (dk_at dksX0_bribeBut_0 13 rfl rfl)
theorem dX0_bribeBut_14 : decode cX0_bribeBut 14 = .ok (.iconst (-1), 1) := dk_2 (dk_at dksX0_bribeBut_0 14 rfl rfl)
theorem dX0_bribeBut_15 : decode cX0_bribeBut 15 = .ok (.if_icmp .ne 9, 3) := dk_160 0 9 (dk_at dksX0_bribeBut_0 15 rfl rfl)
theorem dX0_bribeBut_18 : decode cX0_bribeBut 18 = .ok (.ldc_w 351, 3) := dk_19 1 95 (dk_at dksX0_bribeBut_0 18 rfl rfl)
theorem dX0_bribeBut_21 : decode cX0_bribeBut 21 = .ok (.goto 4, 3) := dk_167 0 4 (dk_at dksX0_bribeBut_0 21 rfl rfl)
theorem dX0_bribeBut_24 : decode cX0_bribeBut 24 = .ok (.iload_n 3, 1) := dk_29 (dk_at dksX0_bribeBut_1 0 rfl rfl)
theorem dX0_bribeBut_25 : decode cX0_bribeBut 25 = .ok (.ireturn, 1) := dk_172 (dk_at dksX0_bribeBut_1 1 rfl rfl)
abbrev cX0_guarded : ByteArray := prog_1_method_61_code
def yX0_guarded : MethodName := ⟨RX0, "guarded", "(I)I"⟩
def dkwX0_guarded_1 : List UInt8 := [42, 27, 182, 1, 99, 182, 1, 89, 27, 182, 1, 93, 172]
abbrev dktX0_guarded_1 : List UInt8 := dkwX0_guarded_1 ++ []
def dkwX0_guarded_0 : List UInt8 := [42, 27, 182, 0, 192, 153, 0, 12, 42, 27, 182, 1, 99, 2, 160, 0, 6, 16, 254, 172, 42, 180, 0, 96]
abbrev dktX0_guarded_0 : List UInt8 := dkwX0_guarded_0 ++ dktX0_guarded_1
theorem dksX0_guarded_0 : cX0_guarded.data.toList.drop 0 = dktX0_guarded_0 := by decide +kernel
theorem dksX0_guarded_1 : cX0_guarded.data.toList.drop 24 = dktX0_guarded_1 := dk_seg dksX0_guarded_0 24 rfl rfl
theorem dX0_guarded_0 : decode cX0_guarded 0 = .ok (.aload_n 0, 1) := dk_42 (dk_at dksX0_guarded_0 0 rfl rfl)
theorem dX0_guarded_1 : decode cX0_guarded 1 = .ok (.iload_n 1, 1) := dk_27 (dk_at dksX0_guarded_0 1 rfl rfl)
theorem dX0_guarded_2 : decode cX0_guarded 2 = .ok (.invokevirtual 192, 3) := dk_182 0 192 (dk_at dksX0_guarded_0 2 rfl rfl)
theorem dX0_guarded_5 : decode cX0_guarded 5 = .ok (.ifCond .eq 12, 3) := dk_153 0 12 (dk_at dksX0_guarded_0 5 rfl rfl)
theorem dX0_guarded_8 : decode cX0_guarded 8 = .ok (.aload_n 0, 1) := dk_42 (dk_at dksX0_guarded_0 8 rfl rfl)
theorem dX0_guarded_9 : decode cX0_guarded 9 = .ok (.iload_n 1, 1) := dk_27 (dk_at dksX0_guarded_0 9 rfl rfl)
theorem dX0_guarded_10 : decode cX0_guarded 10 = .ok (.invokevirtual 355, 3) := dk_182 1 99 (dk_at dksX0_guarded_0 10 rfl rfl)
theorem dX0_guarded_13 : decode cX0_guarded 13 = .ok (.iconst (-1), 1) := dk_2 (dk_at dksX0_guarded_0 13 rfl rfl)
theorem dX0_guarded_14 : decode cX0_guarded 14 = .ok (.if_icmp .ne 6, 3) := dk_160 0 6 (dk_at dksX0_guarded_0 14 rfl rfl)
theorem dX0_guarded_17 : decode cX0_guarded 17 = .ok (.bipush (-2), 2) := dk_16 254 (dk_at dksX0_guarded_0 17 rfl rfl)
theorem dX0_guarded_19 : decode cX0_guarded 19 = .ok (.ireturn, 1) := dk_172 (dk_at dksX0_guarded_0 19 rfl rfl)
theorem dX0_guarded_20 : decode cX0_guarded 20 = .ok (.aload_n 0, 1) := dk_42 (dk_at dksX0_guarded_0 20 rfl rfl)
theorem dX0_guarded_21 : decode cX0_guarded 21 = .ok (.getfield 96, 3) := dk_180 0 96 (dk_at dksX0_guarded_0 21 rfl rfl)
theorem dX0_guarded_24 : decode cX0_guarded 24 = .ok (.aload_n 0, 1) := dk_42 (dk_at dksX0_guarded_1 0 rfl rfl)
theorem dX0_guarded_25 : decode cX0_guarded 25 = .ok (.iload_n 1, 1) := dk_27 (dk_at dksX0_guarded_1 1 rfl rfl)
theorem dX0_guarded_26 : decode cX0_guarded 26 = .ok (.invokevirtual 355, 3) := dk_182 1 99 (dk_at dksX0_guarded_1 2 rfl rfl)
theorem dX0_guarded_29 : decode cX0_guarded 29 = .ok (.invokevirtual 345, 3) := dk_182 1 89 (dk_at dksX0_guarded_1 5 rfl rfl)
theorem dX0_guarded_32 : decode cX0_guarded 32 = .ok (.iload_n 1, 1) := dk_27 (dk_at dksX0_guarded_1 8 rfl rfl)
theorem dX0_guarded_33 : decode cX0_guarded 33 = .ok (.invokevirtual 349, 3) := dk_182 1 93 (dk_at dksX0_guarded_1 9 rfl rfl)
theorem dX0_guarded_36 : decode cX0_guarded 36 = .ok (.ireturn, 1) := dk_172 (dk_at dksX0_guarded_1 12 rfl rfl)
abbrev cX0_spoil : ByteArray := prog_1_method_64_code
def yX0_spoil : MethodName := ⟨RX0, "spoil", "(II)I"⟩
def dkwX0_spoil_1 : List UInt8 := [167, 0, 6, 17, 252, 24, 172]
abbrev dktX0_spoil_1 : List UInt8 := dkwX0_spoil_1 ++ []
def dkwX0_spoil_0 : List UInt8 := [42, 27, 28, 182, 1, 115, 153, 0, 21, 42, 180, 0, 103, 27, 42, 27, 28, 182, 1, 118, 3, 182, 1, 113]
abbrev dktX0_spoil_0 : List UInt8 := dkwX0_spoil_0 ++ dktX0_spoil_1
theorem dksX0_spoil_0 : cX0_spoil.data.toList.drop 0 = dktX0_spoil_0 := by decide +kernel
theorem dksX0_spoil_1 : cX0_spoil.data.toList.drop 24 = dktX0_spoil_1 := dk_seg dksX0_spoil_0 24 rfl rfl
theorem dX0_spoil_0 : decode cX0_spoil 0 = .ok (.aload_n 0, 1) := dk_42 (dk_at dksX0_spoil_0 0 rfl rfl)
theorem dX0_spoil_1 : decode cX0_spoil 1 = .ok (.iload_n 1, 1) := dk_27 (dk_at dksX0_spoil_0 1 rfl rfl)
theorem dX0_spoil_2 : decode cX0_spoil 2 = .ok (.iload_n 2, 1) := dk_28 (dk_at dksX0_spoil_0 2 rfl rfl)
theorem dX0_spoil_3 : decode cX0_spoil 3 = .ok (.invokevirtual 371, 3) := dk_182 1 115 (dk_at dksX0_spoil_0 3 rfl rfl)
theorem dX0_spoil_6 : decode cX0_spoil 6 = .ok (.ifCond .eq 21, 3) := dk_153 0 21 (dk_at dksX0_spoil_0 6 rfl rfl)
theorem dX0_spoil_9 : decode cX0_spoil 9 = .ok (.aload_n 0, 1) := dk_42 (dk_at dksX0_spoil_0 9 rfl rfl)
theorem dX0_spoil_10 : decode cX0_spoil 10 = .ok (.getfield 103, 3) := dk_180 0 103 (dk_at dksX0_spoil_0 10 rfl rfl)
theorem dX0_spoil_13 : decode cX0_spoil 13 = .ok (.iload_n 1, 1) := dk_27 (dk_at dksX0_spoil_0 13 rfl rfl)
theorem dX0_spoil_14 : decode cX0_spoil 14 = .ok (.aload_n 0, 1) := dk_42 (dk_at dksX0_spoil_0 14 rfl rfl)
theorem dX0_spoil_15 : decode cX0_spoil 15 = .ok (.iload_n 1, 1) := dk_27 (dk_at dksX0_spoil_0 15 rfl rfl)
theorem dX0_spoil_16 : decode cX0_spoil 16 = .ok (.iload_n 2, 1) := dk_28 (dk_at dksX0_spoil_0 16 rfl rfl)
theorem dX0_spoil_17 : decode cX0_spoil 17 = .ok (.invokevirtual 374, 3) := dk_182 1 118 (dk_at dksX0_spoil_0 17 rfl rfl)
theorem dX0_spoil_20 : decode cX0_spoil 20 = .ok (.iconst 0, 1) := dk_3 (dk_at dksX0_spoil_0 20 rfl rfl)
theorem dX0_spoil_21 : decode cX0_spoil 21 = .ok (.invokevirtual 369, 3) := dk_182 1 113 (dk_at dksX0_spoil_0 21 rfl rfl)
theorem dX0_spoil_24 : decode cX0_spoil 24 = .ok (.goto 6, 3) := dk_167 0 6 (dk_at dksX0_spoil_1 0 rfl rfl)
theorem dX0_spoil_27 : decode cX0_spoil 27 = .ok (.sipush (-1000), 3) := dk_17 252 24 (dk_at dksX0_spoil_1 3 rfl rfl)
theorem dX0_spoil_30 : decode cX0_spoil 30 = .ok (.ireturn, 1) := dk_172 (dk_at dksX0_spoil_1 6 rfl rfl)
abbrev cX0_isDuel : ByteArray := prog_1_method_62_code
def yX0_isDuel : MethodName := ⟨RX0, "isDuel", "(II)Z"⟩
def dkwX0_isDuel_1 : List UInt8 := [3, 172]
abbrev dktX0_isDuel_1 : List UInt8 := dkwX0_isDuel_1 ++ []
def dkwX0_isDuel_0 : List UInt8 := [42, 27, 182, 0, 192, 153, 0, 19, 28, 133, 9, 20, 1, 102, 184, 0, 11, 153, 0, 7, 4, 167, 0, 4]
abbrev dktX0_isDuel_0 : List UInt8 := dkwX0_isDuel_0 ++ dktX0_isDuel_1
theorem dksX0_isDuel_0 : cX0_isDuel.data.toList.drop 0 = dktX0_isDuel_0 := by decide +kernel
theorem dksX0_isDuel_1 : cX0_isDuel.data.toList.drop 24 = dktX0_isDuel_1 := dk_seg dksX0_isDuel_0 24 rfl rfl
theorem dX0_isDuel_0 : decode cX0_isDuel 0 = .ok (.aload_n 0, 1) := dk_42 (dk_at dksX0_isDuel_0 0 rfl rfl)
theorem dX0_isDuel_1 : decode cX0_isDuel 1 = .ok (.iload_n 1, 1) := dk_27 (dk_at dksX0_isDuel_0 1 rfl rfl)
theorem dX0_isDuel_2 : decode cX0_isDuel 2 = .ok (.invokevirtual 192, 3) := dk_182 0 192 (dk_at dksX0_isDuel_0 2 rfl rfl)
theorem dX0_isDuel_5 : decode cX0_isDuel 5 = .ok (.ifCond .eq 19, 3) := dk_153 0 19 (dk_at dksX0_isDuel_0 5 rfl rfl)
theorem dX0_isDuel_8 : decode cX0_isDuel 8 = .ok (.iload_n 2, 1) := dk_28 (dk_at dksX0_isDuel_0 8 rfl rfl)
theorem dX0_isDuel_9 : decode cX0_isDuel 9 = .ok (.i2l, 1) := dk_133 (dk_at dksX0_isDuel_0 9 rfl rfl)
theorem dX0_isDuel_10 : decode cX0_isDuel 10 = .ok (.lconst 0, 1) := dk_9 (dk_at dksX0_isDuel_0 10 rfl rfl)
theorem dX0_isDuel_11 : decode cX0_isDuel 11 = .ok (.ldc2_w 358, 3) := dk_20 1 102 (dk_at dksX0_isDuel_0 11 rfl rfl)
theorem dX0_isDuel_14 : decode cX0_isDuel 14 = .ok (.invokestatic 11, 3) := dk_184 0 11 (dk_at dksX0_isDuel_0 14 rfl rfl)
theorem dX0_isDuel_17 : decode cX0_isDuel 17 = .ok (.ifCond .eq 7, 3) := dk_153 0 7 (dk_at dksX0_isDuel_0 17 rfl rfl)
theorem dX0_isDuel_20 : decode cX0_isDuel 20 = .ok (.iconst 1, 1) := dk_4 (dk_at dksX0_isDuel_0 20 rfl rfl)
theorem dX0_isDuel_21 : decode cX0_isDuel 21 = .ok (.goto 4, 3) := dk_167 0 4 (dk_at dksX0_isDuel_0 21 rfl rfl)
theorem dX0_isDuel_24 : decode cX0_isDuel 24 = .ok (.iconst 0, 1) := dk_3 (dk_at dksX0_isDuel_1 0 rfl rfl)
theorem dX0_isDuel_25 : decode cX0_isDuel 25 = .ok (.ireturn, 1) := dk_172 (dk_at dksX0_isDuel_1 1 rfl rfl)
abbrev cX0_spoiltSet : ByteArray := prog_1_method_63_code
def yX0_spoiltSet : MethodName := ⟨RX0, "spoiltSet", "(II)I"⟩
def dkwX0_spoiltSet_3 : List UInt8 := [132, 4, 1, 167, 255, 196, 29, 172]
abbrev dktX0_spoiltSet_3 : List UInt8 := dkwX0_spoiltSet_3 ++ []
def dkwX0_spoiltSet_2 : List UInt8 := [180, 0, 103, 27, 29, 3, 182, 1, 113, 162, 0, 14, 42, 180, 0, 103, 27, 21, 4, 182, 1, 111, 62]
abbrev dktX0_spoiltSet_2 : List UInt8 := dkwX0_spoiltSet_2 ++ dktX0_spoiltSet_3
def dkwX0_spoiltSet_1 : List UInt8 := [46, 162, 0, 52, 42, 180, 0, 103, 27, 42, 180, 0, 103, 27, 21, 4, 182, 1, 111, 3, 182, 1, 113, 42]
abbrev dktX0_spoiltSet_1 : List UInt8 := dkwX0_spoiltSet_1 ++ dktX0_spoiltSet_2
def dkwX0_spoiltSet_0 : List UInt8 := [42, 180, 0, 103, 28, 182, 1, 104, 87, 3, 62, 4, 54, 4, 21, 4, 42, 180, 0, 103, 180, 1, 108, 27]
abbrev dktX0_spoiltSet_0 : List UInt8 := dkwX0_spoiltSet_0 ++ dktX0_spoiltSet_1
theorem dksX0_spoiltSet_0 : cX0_spoiltSet.data.toList.drop 0 = dktX0_spoiltSet_0 := by decide +kernel
theorem dksX0_spoiltSet_1 : cX0_spoiltSet.data.toList.drop 24 = dktX0_spoiltSet_1 := dk_seg dksX0_spoiltSet_0 24 rfl rfl
theorem dksX0_spoiltSet_2 : cX0_spoiltSet.data.toList.drop 48 = dktX0_spoiltSet_2 := dk_seg dksX0_spoiltSet_1 24 rfl rfl
theorem dksX0_spoiltSet_3 : cX0_spoiltSet.data.toList.drop 71 = dktX0_spoiltSet_3 := dk_seg dksX0_spoiltSet_2 23 rfl rfl
theorem dX0_spoiltSet_0 : decode cX0_spoiltSet 0 = .ok (.aload_n 0, 1) := dk_42 (dk_at dksX0_spoiltSet_0 0 rfl rfl)
theorem dX0_spoiltSet_1 : decode cX0_spoiltSet 1 = .ok (.getfield 103, 3) := dk_180 0 103 (dk_at dksX0_spoiltSet_0 1 rfl rfl)
theorem dX0_spoiltSet_4 : decode cX0_spoiltSet 4 = .ok (.iload_n 2, 1) := dk_28 (dk_at dksX0_spoiltSet_0 4 rfl rfl)
theorem dX0_spoiltSet_5 : decode cX0_spoiltSet 5 = .ok (.invokevirtual 360, 3) := dk_182 1 104 (dk_at dksX0_spoiltSet_0 5 rfl rfl)
theorem dX0_spoiltSet_8 : decode cX0_spoiltSet 8 = .ok (.pop, 1) := dk_87 (dk_at dksX0_spoiltSet_0 8 rfl rfl)
theorem dX0_spoiltSet_9 : decode cX0_spoiltSet 9 = .ok (.iconst 0, 1) := dk_3 (dk_at dksX0_spoiltSet_0 9 rfl rfl)
theorem dX0_spoiltSet_10 : decode cX0_spoiltSet 10 = .ok (.istore_n 3, 1) := dk_62 (dk_at dksX0_spoiltSet_0 10 rfl rfl)
theorem dX0_spoiltSet_11 : decode cX0_spoiltSet 11 = .ok (.iconst 1, 1) := dk_4 (dk_at dksX0_spoiltSet_0 11 rfl rfl)
theorem dX0_spoiltSet_12 : decode cX0_spoiltSet 12 = .ok (.istore 4, 2) := dk_54 4 (dk_at dksX0_spoiltSet_0 12 rfl rfl)
theorem dX0_spoiltSet_14 : decode cX0_spoiltSet 14 = .ok (.iload 4, 2) := dk_21 4 (dk_at dksX0_spoiltSet_0 14 rfl rfl)
theorem dX0_spoiltSet_16 : decode cX0_spoiltSet 16 = .ok (.aload_n 0, 1) := dk_42 (dk_at dksX0_spoiltSet_0 16 rfl rfl)
theorem dX0_spoiltSet_17 : decode cX0_spoiltSet 17 = .ok (.getfield 103, 3) := dk_180 0 103 (dk_at dksX0_spoiltSet_0 17 rfl rfl)
theorem dX0_spoiltSet_20 : decode cX0_spoiltSet 20 = .ok (.getfield 364, 3) := dk_180 1 108 (dk_at dksX0_spoiltSet_0 20 rfl rfl)
theorem dX0_spoiltSet_23 : decode cX0_spoiltSet 23 = .ok (.iload_n 1, 1) := dk_27 (dk_at dksX0_spoiltSet_0 23 rfl rfl)
theorem dX0_spoiltSet_24 : decode cX0_spoiltSet 24 = .ok (.iaload, 1) := dk_46 (dk_at dksX0_spoiltSet_1 0 rfl rfl)
theorem dX0_spoiltSet_25 : decode cX0_spoiltSet 25 = .ok (.if_icmp .ge 52, 3) := dk_162 0 52 (dk_at dksX0_spoiltSet_1 1 rfl rfl)
theorem dX0_spoiltSet_28 : decode cX0_spoiltSet 28 = .ok (.aload_n 0, 1) := dk_42 (dk_at dksX0_spoiltSet_1 4 rfl rfl)
theorem dX0_spoiltSet_29 : decode cX0_spoiltSet 29 = .ok (.getfield 103, 3) := dk_180 0 103 (dk_at dksX0_spoiltSet_1 5 rfl rfl)
theorem dX0_spoiltSet_32 : decode cX0_spoiltSet 32 = .ok (.iload_n 1, 1) := dk_27 (dk_at dksX0_spoiltSet_1 8 rfl rfl)
theorem dX0_spoiltSet_33 : decode cX0_spoiltSet 33 = .ok (.aload_n 0, 1) := dk_42 (dk_at dksX0_spoiltSet_1 9 rfl rfl)
theorem dX0_spoiltSet_34 : decode cX0_spoiltSet 34 = .ok (.getfield 103, 3) := dk_180 0 103 (dk_at dksX0_spoiltSet_1 10 rfl rfl)
theorem dX0_spoiltSet_37 : decode cX0_spoiltSet 37 = .ok (.iload_n 1, 1) := dk_27 (dk_at dksX0_spoiltSet_1 13 rfl rfl)
theorem dX0_spoiltSet_38 : decode cX0_spoiltSet 38 = .ok (.iload 4, 2) := dk_21 4 (dk_at dksX0_spoiltSet_1 14 rfl rfl)
theorem dX0_spoiltSet_40 : decode cX0_spoiltSet 40 = .ok (.invokevirtual 367, 3) := dk_182 1 111 (dk_at dksX0_spoiltSet_1 16 rfl rfl)
theorem dX0_spoiltSet_43 : decode cX0_spoiltSet 43 = .ok (.iconst 0, 1) := dk_3 (dk_at dksX0_spoiltSet_1 19 rfl rfl)
theorem dX0_spoiltSet_44 : decode cX0_spoiltSet 44 = .ok (.invokevirtual 369, 3) := dk_182 1 113 (dk_at dksX0_spoiltSet_1 20 rfl rfl)
theorem dX0_spoiltSet_47 : decode cX0_spoiltSet 47 = .ok (.aload_n 0, 1) := dk_42 (dk_at dksX0_spoiltSet_1 23 rfl rfl)
theorem dX0_spoiltSet_48 : decode cX0_spoiltSet 48 = .ok (.getfield 103, 3) := dk_180 0 103 (dk_at dksX0_spoiltSet_2 0 rfl rfl)
theorem dX0_spoiltSet_51 : decode cX0_spoiltSet 51 = .ok (.iload_n 1, 1) := dk_27 (dk_at dksX0_spoiltSet_2 3 rfl rfl)
theorem dX0_spoiltSet_52 : decode cX0_spoiltSet 52 = .ok (.iload_n 3, 1) := dk_29 (dk_at dksX0_spoiltSet_2 4 rfl rfl)
theorem dX0_spoiltSet_53 : decode cX0_spoiltSet 53 = .ok (.iconst 0, 1) := dk_3 (dk_at dksX0_spoiltSet_2 5 rfl rfl)
theorem dX0_spoiltSet_54 : decode cX0_spoiltSet 54 = .ok (.invokevirtual 369, 3) := dk_182 1 113 (dk_at dksX0_spoiltSet_2 6 rfl rfl)
theorem dX0_spoiltSet_57 : decode cX0_spoiltSet 57 = .ok (.if_icmp .ge 14, 3) := dk_162 0 14 (dk_at dksX0_spoiltSet_2 9 rfl rfl)
theorem dX0_spoiltSet_60 : decode cX0_spoiltSet 60 = .ok (.aload_n 0, 1) := dk_42 (dk_at dksX0_spoiltSet_2 12 rfl rfl)
theorem dX0_spoiltSet_61 : decode cX0_spoiltSet 61 = .ok (.getfield 103, 3) := dk_180 0 103 (dk_at dksX0_spoiltSet_2 13 rfl rfl)
theorem dX0_spoiltSet_64 : decode cX0_spoiltSet 64 = .ok (.iload_n 1, 1) := dk_27 (dk_at dksX0_spoiltSet_2 16 rfl rfl)
theorem dX0_spoiltSet_65 : decode cX0_spoiltSet 65 = .ok (.iload 4, 2) := dk_21 4 (dk_at dksX0_spoiltSet_2 17 rfl rfl)
theorem dX0_spoiltSet_67 : decode cX0_spoiltSet 67 = .ok (.invokevirtual 367, 3) := dk_182 1 111 (dk_at dksX0_spoiltSet_2 19 rfl rfl)
theorem dX0_spoiltSet_70 : decode cX0_spoiltSet 70 = .ok (.istore_n 3, 1) := dk_62 (dk_at dksX0_spoiltSet_2 22 rfl rfl)
theorem dX0_spoiltSet_71 : decode cX0_spoiltSet 71 = .ok (.iinc 4 1, 3) := dk_132 4 1 (dk_at dksX0_spoiltSet_3 0 rfl rfl)
theorem dX0_spoiltSet_74 : decode cX0_spoiltSet 74 = .ok (.goto (-60), 3) := dk_167 255 196 (dk_at dksX0_spoiltSet_3 3 rfl rfl)
theorem dX0_spoiltSet_77 : decode cX0_spoiltSet 77 = .ok (.iload_n 3, 1) := dk_29 (dk_at dksX0_spoiltSet_3 6 rfl rfl)
theorem dX0_spoiltSet_78 : decode cX0_spoiltSet 78 = .ok (.ireturn, 1) := dk_172 (dk_at dksX0_spoiltSet_3 7 rfl rfl)
abbrev cX0_spoils : ByteArray := prog_1_method_65_code
def yX0_spoils : MethodName := ⟨RX0, "spoils", "(II)I"⟩
def dkwX0_spoils_0 : List UInt8 := [42, 27, 28, 182, 1, 115, 153, 0, 12, 42, 27, 28, 182, 1, 118, 167, 0, 5, 16, 254, 172]
abbrev dktX0_spoils_0 : List UInt8 := dkwX0_spoils_0 ++ []
theorem dksX0_spoils_0 : cX0_spoils.data.toList.drop 0 = dktX0_spoils_0 := by decide +kernel
theorem dX0_spoils_0 : decode cX0_spoils 0 = .ok (.aload_n 0, 1) := dk_42 (dk_at dksX0_spoils_0 0 rfl rfl)
theorem dX0_spoils_1 : decode cX0_spoils 1 = .ok (.iload_n 1, 1) := dk_27 (dk_at dksX0_spoils_0 1 rfl rfl)
theorem dX0_spoils_2 : decode cX0_spoils 2 = .ok (.iload_n 2, 1) := dk_28 (dk_at dksX0_spoils_0 2 rfl rfl)
theorem dX0_spoils_3 : decode cX0_spoils 3 = .ok (.invokevirtual 371, 3) := dk_182 1 115 (dk_at dksX0_spoils_0 3 rfl rfl)
theorem dX0_spoils_6 : decode cX0_spoils 6 = .ok (.ifCond .eq 12, 3) := dk_153 0 12 (dk_at dksX0_spoils_0 6 rfl rfl)
theorem dX0_spoils_9 : decode cX0_spoils 9 = .ok (.aload_n 0, 1) := dk_42 (dk_at dksX0_spoils_0 9 rfl rfl)
theorem dX0_spoils_10 : decode cX0_spoils 10 = .ok (.iload_n 1, 1) := dk_27 (dk_at dksX0_spoils_0 10 rfl rfl)
theorem dX0_spoils_11 : decode cX0_spoils 11 = .ok (.iload_n 2, 1) := dk_28 (dk_at dksX0_spoils_0 11 rfl rfl)
theorem dX0_spoils_12 : decode cX0_spoils 12 = .ok (.invokevirtual 374, 3) := dk_182 1 118 (dk_at dksX0_spoils_0 12 rfl rfl)
theorem dX0_spoils_15 : decode cX0_spoils 15 = .ok (.goto 5, 3) := dk_167 0 5 (dk_at dksX0_spoils_0 15 rfl rfl)
theorem dX0_spoils_18 : decode cX0_spoils 18 = .ok (.bipush (-2), 2) := dk_16 254 (dk_at dksX0_spoils_0 18 rfl rfl)
theorem dX0_spoils_20 : decode cX0_spoils 20 = .ok (.ireturn, 1) := dk_172 (dk_at dksX0_spoils_0 20 rfl rfl)
abbrev cX0_answer : ByteArray := prog_1_method_66_code
def yX0_answer : MethodName := ⟨RX0, "answer", "(II)I"⟩
def dkwX0_answer_3 : List UInt8 := [167, 255, 216, 29, 172]
abbrev dktX0_answer_3 : List UInt8 := dkwX0_answer_3 ++ []
def dkwX0_answer_2 : List UInt8 := [180, 0, 103, 27, 42, 180, 0, 103, 27, 21, 4, 182, 1, 111, 182, 1, 121, 184, 1, 124, 62, 132, 4, 1]
abbrev dktX0_answer_2 : List UInt8 := dkwX0_answer_2 ++ dktX0_answer_3
def dkwX0_answer_1 : List UInt8 := [19, 1, 95, 62, 3, 54, 4, 21, 4, 42, 180, 0, 103, 180, 1, 108, 27, 46, 162, 0, 32, 29, 42]
abbrev dktX0_answer_1 : List UInt8 := dkwX0_answer_1 ++ dktX0_answer_2
def dkwX0_answer_0 : List UInt8 := [42, 27, 28, 182, 1, 115, 154, 0, 7, 17, 252, 24, 172, 42, 180, 0, 103, 28, 182, 1, 104, 87]
abbrev dktX0_answer_0 : List UInt8 := dkwX0_answer_0 ++ dktX0_answer_1
theorem dksX0_answer_0 : cX0_answer.data.toList.drop 0 = dktX0_answer_0 := by decide +kernel
theorem dksX0_answer_1 : cX0_answer.data.toList.drop 22 = dktX0_answer_1 := dk_seg dksX0_answer_0 22 rfl rfl
theorem dksX0_answer_2 : cX0_answer.data.toList.drop 45 = dktX0_answer_2 := dk_seg dksX0_answer_1 23 rfl rfl
theorem dksX0_answer_3 : cX0_answer.data.toList.drop 69 = dktX0_answer_3 := dk_seg dksX0_answer_2 24 rfl rfl
theorem dX0_answer_0 : decode cX0_answer 0 = .ok (.aload_n 0, 1) := dk_42 (dk_at dksX0_answer_0 0 rfl rfl)
theorem dX0_answer_1 : decode cX0_answer 1 = .ok (.iload_n 1, 1) := dk_27 (dk_at dksX0_answer_0 1 rfl rfl)
theorem dX0_answer_2 : decode cX0_answer 2 = .ok (.iload_n 2, 1) := dk_28 (dk_at dksX0_answer_0 2 rfl rfl)
theorem dX0_answer_3 : decode cX0_answer 3 = .ok (.invokevirtual 371, 3) := dk_182 1 115 (dk_at dksX0_answer_0 3 rfl rfl)
theorem dX0_answer_6 : decode cX0_answer 6 = .ok (.ifCond .ne 7, 3) := dk_154 0 7 (dk_at dksX0_answer_0 6 rfl rfl)
theorem dX0_answer_9 : decode cX0_answer 9 = .ok (.sipush (-1000), 3) := dk_17 252 24 (dk_at dksX0_answer_0 9 rfl rfl)
theorem dX0_answer_12 : decode cX0_answer 12 = .ok (.ireturn, 1) := dk_172 (dk_at dksX0_answer_0 12 rfl rfl)
theorem dX0_answer_13 : decode cX0_answer 13 = .ok (.aload_n 0, 1) := dk_42 (dk_at dksX0_answer_0 13 rfl rfl)
theorem dX0_answer_14 : decode cX0_answer 14 = .ok (.getfield 103, 3) := dk_180 0 103 (dk_at dksX0_answer_0 14 rfl rfl)
theorem dX0_answer_17 : decode cX0_answer 17 = .ok (.iload_n 2, 1) := dk_28 (dk_at dksX0_answer_0 17 rfl rfl)
theorem dX0_answer_18 : decode cX0_answer 18 = .ok (.invokevirtual 360, 3) := dk_182 1 104 (dk_at dksX0_answer_0 18 rfl rfl)
theorem dX0_answer_21 : decode cX0_answer 21 = .ok (.pop, 1) := dk_87 (dk_at dksX0_answer_0 21 rfl rfl)
theorem dX0_answer_22 : decode cX0_answer 22 = .ok (.ldc_w 351, 3) := dk_19 1 95 (dk_at dksX0_answer_1 0 rfl rfl)
theorem dX0_answer_25 : decode cX0_answer 25 = .ok (.istore_n 3, 1) := dk_62 (dk_at dksX0_answer_1 3 rfl rfl)
theorem dX0_answer_26 : decode cX0_answer 26 = .ok (.iconst 0, 1) := dk_3 (dk_at dksX0_answer_1 4 rfl rfl)
theorem dX0_answer_27 : decode cX0_answer 27 = .ok (.istore 4, 2) := dk_54 4 (dk_at dksX0_answer_1 5 rfl rfl)
theorem dX0_answer_29 : decode cX0_answer 29 = .ok (.iload 4, 2) := dk_21 4 (dk_at dksX0_answer_1 7 rfl rfl)
theorem dX0_answer_31 : decode cX0_answer 31 = .ok (.aload_n 0, 1) := dk_42 (dk_at dksX0_answer_1 9 rfl rfl)
theorem dX0_answer_32 : decode cX0_answer 32 = .ok (.getfield 103, 3) := dk_180 0 103 (dk_at dksX0_answer_1 10 rfl rfl)
theorem dX0_answer_35 : decode cX0_answer 35 = .ok (.getfield 364, 3) := dk_180 1 108 (dk_at dksX0_answer_1 13 rfl rfl)
theorem dX0_answer_38 : decode cX0_answer 38 = .ok (.iload_n 1, 1) := dk_27 (dk_at dksX0_answer_1 16 rfl rfl)
theorem dX0_answer_39 : decode cX0_answer 39 = .ok (.iaload, 1) := dk_46 (dk_at dksX0_answer_1 17 rfl rfl)
theorem dX0_answer_40 : decode cX0_answer 40 = .ok (.if_icmp .ge 32, 3) := dk_162 0 32 (dk_at dksX0_answer_1 18 rfl rfl)
theorem dX0_answer_43 : decode cX0_answer 43 = .ok (.iload_n 3, 1) := dk_29 (dk_at dksX0_answer_1 21 rfl rfl)
theorem dX0_answer_44 : decode cX0_answer 44 = .ok (.aload_n 0, 1) := dk_42 (dk_at dksX0_answer_1 22 rfl rfl)
theorem dX0_answer_45 : decode cX0_answer 45 = .ok (.getfield 103, 3) := dk_180 0 103 (dk_at dksX0_answer_2 0 rfl rfl)
theorem dX0_answer_48 : decode cX0_answer 48 = .ok (.iload_n 1, 1) := dk_27 (dk_at dksX0_answer_2 3 rfl rfl)
theorem dX0_answer_49 : decode cX0_answer 49 = .ok (.aload_n 0, 1) := dk_42 (dk_at dksX0_answer_2 4 rfl rfl)
theorem dX0_answer_50 : decode cX0_answer 50 = .ok (.getfield 103, 3) := dk_180 0 103 (dk_at dksX0_answer_2 5 rfl rfl)
theorem dX0_answer_53 : decode cX0_answer 53 = .ok (.iload_n 1, 1) := dk_27 (dk_at dksX0_answer_2 8 rfl rfl)
theorem dX0_answer_54 : decode cX0_answer 54 = .ok (.iload 4, 2) := dk_21 4 (dk_at dksX0_answer_2 9 rfl rfl)
theorem dX0_answer_56 : decode cX0_answer 56 = .ok (.invokevirtual 367, 3) := dk_182 1 111 (dk_at dksX0_answer_2 11 rfl rfl)
theorem dX0_answer_59 : decode cX0_answer 59 = .ok (.invokevirtual 377, 3) := dk_182 1 121 (dk_at dksX0_answer_2 14 rfl rfl)
theorem dX0_answer_62 : decode cX0_answer 62 = .ok (.invokestatic 380, 3) := dk_184 1 124 (dk_at dksX0_answer_2 17 rfl rfl)
theorem dX0_answer_65 : decode cX0_answer 65 = .ok (.istore_n 3, 1) := dk_62 (dk_at dksX0_answer_2 20 rfl rfl)
theorem dX0_answer_66 : decode cX0_answer 66 = .ok (.iinc 4 1, 3) := dk_132 4 1 (dk_at dksX0_answer_2 21 rfl rfl)
theorem dX0_answer_69 : decode cX0_answer 69 = .ok (.goto (-40), 3) := dk_167 255 216 (dk_at dksX0_answer_3 0 rfl rfl)
theorem dX0_answer_72 : decode cX0_answer 72 = .ok (.iload_n 3, 1) := dk_29 (dk_at dksX0_answer_3 3 rfl rfl)
theorem dX0_answer_73 : decode cX0_answer 73 = .ok (.ireturn, 1) := dk_172 (dk_at dksX0_answer_3 4 rfl rfl)
abbrev cX0_rests : ByteArray := prog_1_method_67_code
def yX0_rests : MethodName := ⟨RX0, "rests", "(I)I"⟩
def dkwX0_rests_1 : List UInt8 := [16, 254, 172]
abbrev dktX0_rests_1 : List UInt8 := dkwX0_rests_1 ++ []
def dkwX0_rests_0 : List UInt8 := [42, 3, 27, 182, 1, 115, 153, 0, 17, 42, 180, 0, 103, 27, 182, 1, 104, 182, 1, 129, 167, 0, 5]
abbrev dktX0_rests_0 : List UInt8 := dkwX0_rests_0 ++ dktX0_rests_1
theorem dksX0_rests_0 : cX0_rests.data.toList.drop 0 = dktX0_rests_0 := by decide +kernel
theorem dksX0_rests_1 : cX0_rests.data.toList.drop 23 = dktX0_rests_1 := dk_seg dksX0_rests_0 23 rfl rfl
theorem dX0_rests_0 : decode cX0_rests 0 = .ok (.aload_n 0, 1) := dk_42 (dk_at dksX0_rests_0 0 rfl rfl)
theorem dX0_rests_1 : decode cX0_rests 1 = .ok (.iconst 0, 1) := dk_3 (dk_at dksX0_rests_0 1 rfl rfl)
theorem dX0_rests_2 : decode cX0_rests 2 = .ok (.iload_n 1, 1) := dk_27 (dk_at dksX0_rests_0 2 rfl rfl)
theorem dX0_rests_3 : decode cX0_rests 3 = .ok (.invokevirtual 371, 3) := dk_182 1 115 (dk_at dksX0_rests_0 3 rfl rfl)
theorem dX0_rests_6 : decode cX0_rests 6 = .ok (.ifCond .eq 17, 3) := dk_153 0 17 (dk_at dksX0_rests_0 6 rfl rfl)
theorem dX0_rests_9 : decode cX0_rests 9 = .ok (.aload_n 0, 1) := dk_42 (dk_at dksX0_rests_0 9 rfl rfl)
theorem dX0_rests_10 : decode cX0_rests 10 = .ok (.getfield 103, 3) := dk_180 0 103 (dk_at dksX0_rests_0 10 rfl rfl)
theorem dX0_rests_13 : decode cX0_rests 13 = .ok (.iload_n 1, 1) := dk_27 (dk_at dksX0_rests_0 13 rfl rfl)
theorem dX0_rests_14 : decode cX0_rests 14 = .ok (.invokevirtual 360, 3) := dk_182 1 104 (dk_at dksX0_rests_0 14 rfl rfl)
theorem dX0_rests_17 : decode cX0_rests 17 = .ok (.invokevirtual 385, 3) := dk_182 1 129 (dk_at dksX0_rests_0 17 rfl rfl)
theorem dX0_rests_20 : decode cX0_rests 20 = .ok (.goto 5, 3) := dk_167 0 5 (dk_at dksX0_rests_0 20 rfl rfl)
theorem dX0_rests_23 : decode cX0_rests 23 = .ok (.bipush (-2), 2) := dk_16 254 (dk_at dksX0_rests_1 0 rfl rfl)
theorem dX0_rests_25 : decode cX0_rests 25 = .ok (.ireturn, 1) := dk_172 (dk_at dksX0_rests_1 2 rfl rfl)
abbrev cX0_since : ByteArray := prog_1_method_68_code
def yX0_since : MethodName := ⟨RX0, "since", "(II)I"⟩
def dkwX0_since_2 : List UInt8 := [132, 3, 1, 167, 255, 226, 2, 172]
abbrev dktX0_since_2 : List UInt8 := dkwX0_since_2 ++ []
def dkwX0_since_1 : List UInt8 := [163, 0, 30, 42, 27, 29, 28, 182, 1, 6, 42, 180, 0, 47, 180, 0, 195, 27, 46, 161, 0, 5, 29, 172]
abbrev dktX0_since_1 : List UInt8 := dkwX0_since_1 ++ dktX0_since_2
def dkwX0_since_0 : List UInt8 := [42, 27, 182, 0, 192, 153, 0, 11, 42, 28, 182, 1, 1, 154, 0, 6, 16, 254, 172, 3, 62, 29, 16, 99]
abbrev dktX0_since_0 : List UInt8 := dkwX0_since_0 ++ dktX0_since_1
theorem dksX0_since_0 : cX0_since.data.toList.drop 0 = dktX0_since_0 := by decide +kernel
theorem dksX0_since_1 : cX0_since.data.toList.drop 24 = dktX0_since_1 := dk_seg dksX0_since_0 24 rfl rfl
theorem dksX0_since_2 : cX0_since.data.toList.drop 48 = dktX0_since_2 := dk_seg dksX0_since_1 24 rfl rfl
theorem dX0_since_0 : decode cX0_since 0 = .ok (.aload_n 0, 1) := dk_42 (dk_at dksX0_since_0 0 rfl rfl)
theorem dX0_since_1 : decode cX0_since 1 = .ok (.iload_n 1, 1) := dk_27 (dk_at dksX0_since_0 1 rfl rfl)
theorem dX0_since_2 : decode cX0_since 2 = .ok (.invokevirtual 192, 3) := dk_182 0 192 (dk_at dksX0_since_0 2 rfl rfl)
theorem dX0_since_5 : decode cX0_since 5 = .ok (.ifCond .eq 11, 3) := dk_153 0 11 (dk_at dksX0_since_0 5 rfl rfl)
theorem dX0_since_8 : decode cX0_since 8 = .ok (.aload_n 0, 1) := dk_42 (dk_at dksX0_since_0 8 rfl rfl)
theorem dX0_since_9 : decode cX0_since 9 = .ok (.iload_n 2, 1) := dk_28 (dk_at dksX0_since_0 9 rfl rfl)
theorem dX0_since_10 : decode cX0_since 10 = .ok (.invokevirtual 257, 3) := dk_182 1 1 (dk_at dksX0_since_0 10 rfl rfl)
theorem dX0_since_13 : decode cX0_since 13 = .ok (.ifCond .ne 6, 3) := dk_154 0 6 (dk_at dksX0_since_0 13 rfl rfl)
theorem dX0_since_16 : decode cX0_since 16 = .ok (.bipush (-2), 2) := dk_16 254 (dk_at dksX0_since_0 16 rfl rfl)
theorem dX0_since_18 : decode cX0_since 18 = .ok (.ireturn, 1) := dk_172 (dk_at dksX0_since_0 18 rfl rfl)
theorem dX0_since_19 : decode cX0_since 19 = .ok (.iconst 0, 1) := dk_3 (dk_at dksX0_since_0 19 rfl rfl)
theorem dX0_since_20 : decode cX0_since 20 = .ok (.istore_n 3, 1) := dk_62 (dk_at dksX0_since_0 20 rfl rfl)
theorem dX0_since_21 : decode cX0_since 21 = .ok (.iload_n 3, 1) := dk_29 (dk_at dksX0_since_0 21 rfl rfl)
theorem dX0_since_22 : decode cX0_since 22 = .ok (.bipush 99, 2) := dk_16 99 (dk_at dksX0_since_0 22 rfl rfl)
theorem dX0_since_24 : decode cX0_since 24 = .ok (.if_icmp .gt 30, 3) := dk_163 0 30 (dk_at dksX0_since_1 0 rfl rfl)
theorem dX0_since_27 : decode cX0_since 27 = .ok (.aload_n 0, 1) := dk_42 (dk_at dksX0_since_1 3 rfl rfl)
theorem dX0_since_28 : decode cX0_since 28 = .ok (.iload_n 1, 1) := dk_27 (dk_at dksX0_since_1 4 rfl rfl)
theorem dX0_since_29 : decode cX0_since 29 = .ok (.iload_n 3, 1) := dk_29 (dk_at dksX0_since_1 5 rfl rfl)
theorem dX0_since_30 : decode cX0_since 30 = .ok (.iload_n 2, 1) := dk_28 (dk_at dksX0_since_1 6 rfl rfl)
theorem dX0_since_31 : decode cX0_since 31 = .ok (.invokevirtual 262, 3) := dk_182 1 6 (dk_at dksX0_since_1 7 rfl rfl)
theorem dX0_since_34 : decode cX0_since 34 = .ok (.aload_n 0, 1) := dk_42 (dk_at dksX0_since_1 10 rfl rfl)
theorem dX0_since_35 : decode cX0_since 35 = .ok (.getfield 47, 3) := dk_180 0 47 (dk_at dksX0_since_1 11 rfl rfl)
theorem dX0_since_38 : decode cX0_since 38 = .ok (.getfield 195, 3) := dk_180 0 195 (dk_at dksX0_since_1 14 rfl rfl)
theorem dX0_since_41 : decode cX0_since 41 = .ok (.iload_n 1, 1) := dk_27 (dk_at dksX0_since_1 17 rfl rfl)
theorem dX0_since_42 : decode cX0_since 42 = .ok (.iaload, 1) := dk_46 (dk_at dksX0_since_1 18 rfl rfl)
theorem dX0_since_43 : decode cX0_since 43 = .ok (.if_icmp .lt 5, 3) := dk_161 0 5 (dk_at dksX0_since_1 19 rfl rfl)
theorem dX0_since_46 : decode cX0_since 46 = .ok (.iload_n 3, 1) := dk_29 (dk_at dksX0_since_1 22 rfl rfl)
theorem dX0_since_47 : decode cX0_since 47 = .ok (.ireturn, 1) := dk_172 (dk_at dksX0_since_1 23 rfl rfl)
theorem dX0_since_48 : decode cX0_since 48 = .ok (.iinc 3 1, 3) := dk_132 3 1 (dk_at dksX0_since_2 0 rfl rfl)
theorem dX0_since_51 : decode cX0_since 51 = .ok (.goto (-30), 3) := dk_167 255 226 (dk_at dksX0_since_2 3 rfl rfl)
theorem dX0_since_54 : decode cX0_since 54 = .ok (.iconst (-1), 1) := dk_2 (dk_at dksX0_since_2 6 rfl rfl)
theorem dX0_since_55 : decode cX0_since 55 = .ok (.ireturn, 1) := dk_172 (dk_at dksX0_since_2 7 rfl rfl)
abbrev cX0_comes : ByteArray := prog_1_method_69_code
def yX0_comes : MethodName := ⟨RX0, "comes", "(II)I"⟩
def dkwX0_comes_3 : List UInt8 := [167, 255, 214, 29, 172]
abbrev dktX0_comes_3 : List UInt8 := dkwX0_comes_3 ++ []
def dkwX0_comes_2 : List UInt8 := [184, 0, 246, 182, 0, 249, 27, 160, 0, 10, 4, 21, 4, 120, 167, 0, 4, 3, 128, 62, 132, 4, 1]
abbrev dktX0_comes_2 : List UInt8 := dkwX0_comes_2 ++ dktX0_comes_3
def dkwX0_comes_1 : List UInt8 := [62, 3, 54, 4, 21, 4, 42, 182, 0, 160, 162, 0, 39, 29, 42, 21, 4, 182, 0, 170, 28, 21, 4]
abbrev dktX0_comes_1 : List UInt8 := dkwX0_comes_1 ++ dktX0_comes_2
def dkwX0_comes_0 : List UInt8 := [42, 28, 182, 1, 1, 153, 0, 15, 27, 133, 9, 20, 1, 4, 184, 0, 11, 154, 0, 6, 16, 254, 172, 3]
abbrev dktX0_comes_0 : List UInt8 := dkwX0_comes_0 ++ dktX0_comes_1
theorem dksX0_comes_0 : cX0_comes.data.toList.drop 0 = dktX0_comes_0 := by decide +kernel
theorem dksX0_comes_1 : cX0_comes.data.toList.drop 24 = dktX0_comes_1 := dk_seg dksX0_comes_0 24 rfl rfl
theorem dksX0_comes_2 : cX0_comes.data.toList.drop 47 = dktX0_comes_2 := dk_seg dksX0_comes_1 23 rfl rfl
theorem dksX0_comes_3 : cX0_comes.data.toList.drop 70 = dktX0_comes_3 := dk_seg dksX0_comes_2 23 rfl rfl
theorem dX0_comes_0 : decode cX0_comes 0 = .ok (.aload_n 0, 1) := dk_42 (dk_at dksX0_comes_0 0 rfl rfl)
theorem dX0_comes_1 : decode cX0_comes 1 = .ok (.iload_n 2, 1) := dk_28 (dk_at dksX0_comes_0 1 rfl rfl)
theorem dX0_comes_2 : decode cX0_comes 2 = .ok (.invokevirtual 257, 3) := dk_182 1 1 (dk_at dksX0_comes_0 2 rfl rfl)
theorem dX0_comes_5 : decode cX0_comes 5 = .ok (.ifCond .eq 15, 3) := dk_153 0 15 (dk_at dksX0_comes_0 5 rfl rfl)
theorem dX0_comes_8 : decode cX0_comes 8 = .ok (.iload_n 1, 1) := dk_27 (dk_at dksX0_comes_0 8 rfl rfl)
theorem dX0_comes_9 : decode cX0_comes 9 = .ok (.i2l, 1) := dk_133 (dk_at dksX0_comes_0 9 rfl rfl)
theorem dX0_comes_10 : decode cX0_comes 10 = .ok (.lconst 0, 1) := dk_9 (dk_at dksX0_comes_0 10 rfl rfl)
theorem dX0_comes_11 : decode cX0_comes 11 = .ok (.ldc2_w 260, 3) := dk_20 1 4 (dk_at dksX0_comes_0 11 rfl rfl)
theorem dX0_comes_14 : decode cX0_comes 14 = .ok (.invokestatic 11, 3) := dk_184 0 11 (dk_at dksX0_comes_0 14 rfl rfl)
theorem dX0_comes_17 : decode cX0_comes 17 = .ok (.ifCond .ne 6, 3) := dk_154 0 6 (dk_at dksX0_comes_0 17 rfl rfl)
theorem dX0_comes_20 : decode cX0_comes 20 = .ok (.bipush (-2), 2) := dk_16 254 (dk_at dksX0_comes_0 20 rfl rfl)
theorem dX0_comes_22 : decode cX0_comes 22 = .ok (.ireturn, 1) := dk_172 (dk_at dksX0_comes_0 22 rfl rfl)
theorem dX0_comes_23 : decode cX0_comes 23 = .ok (.iconst 0, 1) := dk_3 (dk_at dksX0_comes_0 23 rfl rfl)
theorem dX0_comes_24 : decode cX0_comes 24 = .ok (.istore_n 3, 1) := dk_62 (dk_at dksX0_comes_1 0 rfl rfl)
theorem dX0_comes_25 : decode cX0_comes 25 = .ok (.iconst 0, 1) := dk_3 (dk_at dksX0_comes_1 1 rfl rfl)
theorem dX0_comes_26 : decode cX0_comes 26 = .ok (.istore 4, 2) := dk_54 4 (dk_at dksX0_comes_1 2 rfl rfl)
theorem dX0_comes_28 : decode cX0_comes 28 = .ok (.iload 4, 2) := dk_21 4 (dk_at dksX0_comes_1 4 rfl rfl)
theorem dX0_comes_30 : decode cX0_comes 30 = .ok (.aload_n 0, 1) := dk_42 (dk_at dksX0_comes_1 6 rfl rfl)
theorem dX0_comes_31 : decode cX0_comes 31 = .ok (.invokevirtual 160, 3) := dk_182 0 160 (dk_at dksX0_comes_1 7 rfl rfl)
theorem dX0_comes_34 : decode cX0_comes 34 = .ok (.if_icmp .ge 39, 3) := dk_162 0 39 (dk_at dksX0_comes_1 10 rfl rfl)
theorem dX0_comes_37 : decode cX0_comes 37 = .ok (.iload_n 3, 1) := dk_29 (dk_at dksX0_comes_1 13 rfl rfl)
theorem dX0_comes_38 : decode cX0_comes 38 = .ok (.aload_n 0, 1) := dk_42 (dk_at dksX0_comes_1 14 rfl rfl)
theorem dX0_comes_39 : decode cX0_comes 39 = .ok (.iload 4, 2) := dk_21 4 (dk_at dksX0_comes_1 15 rfl rfl)
theorem dX0_comes_41 : decode cX0_comes 41 = .ok (.invokevirtual 170, 3) := dk_182 0 170 (dk_at dksX0_comes_1 17 rfl rfl)
theorem dX0_comes_44 : decode cX0_comes 44 = .ok (.iload_n 2, 1) := dk_28 (dk_at dksX0_comes_1 20 rfl rfl)
theorem dX0_comes_45 : decode cX0_comes 45 = .ok (.iload 4, 2) := dk_21 4 (dk_at dksX0_comes_1 21 rfl rfl)
theorem dX0_comes_47 : decode cX0_comes 47 = .ok (.invokestatic 246, 3) := dk_184 0 246 (dk_at dksX0_comes_2 0 rfl rfl)
theorem dX0_comes_50 : decode cX0_comes 50 = .ok (.invokevirtual 249, 3) := dk_182 0 249 (dk_at dksX0_comes_2 3 rfl rfl)
theorem dX0_comes_53 : decode cX0_comes 53 = .ok (.iload_n 1, 1) := dk_27 (dk_at dksX0_comes_2 6 rfl rfl)
theorem dX0_comes_54 : decode cX0_comes 54 = .ok (.if_icmp .ne 10, 3) := dk_160 0 10 (dk_at dksX0_comes_2 7 rfl rfl)
theorem dX0_comes_57 : decode cX0_comes 57 = .ok (.iconst 1, 1) := dk_4 (dk_at dksX0_comes_2 10 rfl rfl)
theorem dX0_comes_58 : decode cX0_comes 58 = .ok (.iload 4, 2) := dk_21 4 (dk_at dksX0_comes_2 11 rfl rfl)
theorem dX0_comes_60 : decode cX0_comes 60 = .ok (.ishl, 1) := dk_120 (dk_at dksX0_comes_2 13 rfl rfl)
theorem dX0_comes_61 : decode cX0_comes 61 = .ok (.goto 4, 3) := dk_167 0 4 (dk_at dksX0_comes_2 14 rfl rfl)
theorem dX0_comes_64 : decode cX0_comes 64 = .ok (.iconst 0, 1) := dk_3 (dk_at dksX0_comes_2 17 rfl rfl)
theorem dX0_comes_65 : decode cX0_comes 65 = .ok (.ior, 1) := dk_128 (dk_at dksX0_comes_2 18 rfl rfl)
theorem dX0_comes_66 : decode cX0_comes 66 = .ok (.istore_n 3, 1) := dk_62 (dk_at dksX0_comes_2 19 rfl rfl)
theorem dX0_comes_67 : decode cX0_comes 67 = .ok (.iinc 4 1, 3) := dk_132 4 1 (dk_at dksX0_comes_2 20 rfl rfl)
theorem dX0_comes_70 : decode cX0_comes 70 = .ok (.goto (-42), 3) := dk_167 255 214 (dk_at dksX0_comes_3 0 rfl rfl)
theorem dX0_comes_73 : decode cX0_comes 73 = .ok (.iload_n 3, 1) := dk_29 (dk_at dksX0_comes_3 3 rfl rfl)
theorem dX0_comes_74 : decode cX0_comes 74 = .ok (.ireturn, 1) := dk_172 (dk_at dksX0_comes_3 4 rfl rfl)
abbrev cX0_even : ByteArray := prog_1_method_70_code
def yX0_even : MethodName := ⟨RX0, "even", "(I)J"⟩
def dkwX0_even_2 : List UInt8 := [160, 0, 10, 10, 21, 4, 121, 167, 0, 4, 9, 129, 65, 132, 4, 1, 167, 255, 211, 32, 173]
abbrev dktX0_even_2 : List UInt8 := dkwX0_even_2 ++ []
def dkwX0_even_1 : List UInt8 := [180, 0, 207, 162, 0, 39, 32, 42, 3, 21, 4, 27, 182, 1, 6, 42, 4, 21, 4, 27, 182, 1, 6]
abbrev dktX0_even_1 : List UInt8 := dkwX0_even_1 ++ dktX0_even_2
def dkwX0_even_0 : List UInt8 := [42, 27, 182, 1, 1, 154, 0, 7, 20, 1, 57, 173, 9, 65, 3, 54, 4, 21, 4, 42, 180, 0, 47]
abbrev dktX0_even_0 : List UInt8 := dkwX0_even_0 ++ dktX0_even_1
theorem dksX0_even_0 : cX0_even.data.toList.drop 0 = dktX0_even_0 := by decide +kernel
theorem dksX0_even_1 : cX0_even.data.toList.drop 23 = dktX0_even_1 := dk_seg dksX0_even_0 23 rfl rfl
theorem dksX0_even_2 : cX0_even.data.toList.drop 46 = dktX0_even_2 := dk_seg dksX0_even_1 23 rfl rfl
theorem dX0_even_0 : decode cX0_even 0 = .ok (.aload_n 0, 1) := dk_42 (dk_at dksX0_even_0 0 rfl rfl)
theorem dX0_even_1 : decode cX0_even 1 = .ok (.iload_n 1, 1) := dk_27 (dk_at dksX0_even_0 1 rfl rfl)
theorem dX0_even_2 : decode cX0_even 2 = .ok (.invokevirtual 257, 3) := dk_182 1 1 (dk_at dksX0_even_0 2 rfl rfl)
theorem dX0_even_5 : decode cX0_even 5 = .ok (.ifCond .ne 7, 3) := dk_154 0 7 (dk_at dksX0_even_0 5 rfl rfl)
theorem dX0_even_8 : decode cX0_even 8 = .ok (.ldc2_w 313, 3) := dk_20 1 57 (dk_at dksX0_even_0 8 rfl rfl)
theorem dX0_even_11 : decode cX0_even 11 = .ok (.lreturn, 1) := dk_173 (dk_at dksX0_even_0 11 rfl rfl)
theorem dX0_even_12 : decode cX0_even 12 = .ok (.lconst 0, 1) := dk_9 (dk_at dksX0_even_0 12 rfl rfl)
theorem dX0_even_13 : decode cX0_even 13 = .ok (.lstore_n 2, 1) := dk_65 (dk_at dksX0_even_0 13 rfl rfl)
theorem dX0_even_14 : decode cX0_even 14 = .ok (.iconst 0, 1) := dk_3 (dk_at dksX0_even_0 14 rfl rfl)
theorem dX0_even_15 : decode cX0_even 15 = .ok (.istore 4, 2) := dk_54 4 (dk_at dksX0_even_0 15 rfl rfl)
theorem dX0_even_17 : decode cX0_even 17 = .ok (.iload 4, 2) := dk_21 4 (dk_at dksX0_even_0 17 rfl rfl)
theorem dX0_even_19 : decode cX0_even 19 = .ok (.aload_n 0, 1) := dk_42 (dk_at dksX0_even_0 19 rfl rfl)
theorem dX0_even_20 : decode cX0_even 20 = .ok (.getfield 47, 3) := dk_180 0 47 (dk_at dksX0_even_0 20 rfl rfl)
theorem dX0_even_23 : decode cX0_even 23 = .ok (.getfield 207, 3) := dk_180 0 207 (dk_at dksX0_even_1 0 rfl rfl)
theorem dX0_even_26 : decode cX0_even 26 = .ok (.if_icmp .ge 39, 3) := dk_162 0 39 (dk_at dksX0_even_1 3 rfl rfl)
theorem dX0_even_29 : decode cX0_even 29 = .ok (.lload_n 2, 1) := dk_32 (dk_at dksX0_even_1 6 rfl rfl)
theorem dX0_even_30 : decode cX0_even 30 = .ok (.aload_n 0, 1) := dk_42 (dk_at dksX0_even_1 7 rfl rfl)
theorem dX0_even_31 : decode cX0_even 31 = .ok (.iconst 0, 1) := dk_3 (dk_at dksX0_even_1 8 rfl rfl)
theorem dX0_even_32 : decode cX0_even 32 = .ok (.iload 4, 2) := dk_21 4 (dk_at dksX0_even_1 9 rfl rfl)
theorem dX0_even_34 : decode cX0_even 34 = .ok (.iload_n 1, 1) := dk_27 (dk_at dksX0_even_1 11 rfl rfl)
theorem dX0_even_35 : decode cX0_even 35 = .ok (.invokevirtual 262, 3) := dk_182 1 6 (dk_at dksX0_even_1 12 rfl rfl)
theorem dX0_even_38 : decode cX0_even 38 = .ok (.aload_n 0, 1) := dk_42 (dk_at dksX0_even_1 15 rfl rfl)
theorem dX0_even_39 : decode cX0_even 39 = .ok (.iconst 1, 1) := dk_4 (dk_at dksX0_even_1 16 rfl rfl)
theorem dX0_even_40 : decode cX0_even 40 = .ok (.iload 4, 2) := dk_21 4 (dk_at dksX0_even_1 17 rfl rfl)
theorem dX0_even_42 : decode cX0_even 42 = .ok (.iload_n 1, 1) := dk_27 (dk_at dksX0_even_1 19 rfl rfl)
theorem dX0_even_43 : decode cX0_even 43 = .ok (.invokevirtual 262, 3) := dk_182 1 6 (dk_at dksX0_even_1 20 rfl rfl)
theorem dX0_even_46 : decode cX0_even 46 = .ok (.if_icmp .ne 10, 3) := dk_160 0 10 (dk_at dksX0_even_2 0 rfl rfl)
theorem dX0_even_49 : decode cX0_even 49 = .ok (.lconst 1, 1) := dk_10 (dk_at dksX0_even_2 3 rfl rfl)
theorem dX0_even_50 : decode cX0_even 50 = .ok (.iload 4, 2) := dk_21 4 (dk_at dksX0_even_2 4 rfl rfl)
theorem dX0_even_52 : decode cX0_even 52 = .ok (.lshl, 1) := dk_121 (dk_at dksX0_even_2 6 rfl rfl)
theorem dX0_even_53 : decode cX0_even 53 = .ok (.goto 4, 3) := dk_167 0 4 (dk_at dksX0_even_2 7 rfl rfl)
theorem dX0_even_56 : decode cX0_even 56 = .ok (.lconst 0, 1) := dk_9 (dk_at dksX0_even_2 10 rfl rfl)
theorem dX0_even_57 : decode cX0_even 57 = .ok (.lor, 1) := dk_129 (dk_at dksX0_even_2 11 rfl rfl)
theorem dX0_even_58 : decode cX0_even 58 = .ok (.lstore_n 2, 1) := dk_65 (dk_at dksX0_even_2 12 rfl rfl)
theorem dX0_even_59 : decode cX0_even 59 = .ok (.iinc 4 1, 3) := dk_132 4 1 (dk_at dksX0_even_2 13 rfl rfl)
theorem dX0_even_62 : decode cX0_even 62 = .ok (.goto (-45), 3) := dk_167 255 211 (dk_at dksX0_even_2 16 rfl rfl)
theorem dX0_even_65 : decode cX0_even 65 = .ok (.lload_n 2, 1) := dk_32 (dk_at dksX0_even_2 19 rfl rfl)
theorem dX0_even_66 : decode cX0_even 66 = .ok (.lreturn, 1) := dk_173 (dk_at dksX0_even_2 20 rfl rfl)
abbrev cX0_hold : ByteArray := prog_1_method_73_code
def yX0_hold : MethodName := ⟨RX0, "hold", "(II)I"⟩
def dkwX0_hold_1 : List UInt8 := [17, 252, 24, 172]
abbrev dktX0_hold_1 : List UInt8 := dkwX0_hold_1 ++ []
def dkwX0_hold_0 : List UInt8 := [27, 28, 184, 1, 137, 153, 0, 18, 42, 180, 0, 110, 27, 28, 182, 1, 140, 180, 1, 143, 167, 0, 6]
abbrev dktX0_hold_0 : List UInt8 := dkwX0_hold_0 ++ dktX0_hold_1
theorem dksX0_hold_0 : cX0_hold.data.toList.drop 0 = dktX0_hold_0 := by decide +kernel
theorem dksX0_hold_1 : cX0_hold.data.toList.drop 23 = dktX0_hold_1 := dk_seg dksX0_hold_0 23 rfl rfl
theorem dX0_hold_0 : decode cX0_hold 0 = .ok (.iload_n 1, 1) := dk_27 (dk_at dksX0_hold_0 0 rfl rfl)
theorem dX0_hold_1 : decode cX0_hold 1 = .ok (.iload_n 2, 1) := dk_28 (dk_at dksX0_hold_0 1 rfl rfl)
theorem dX0_hold_2 : decode cX0_hold 2 = .ok (.invokestatic 393, 3) := dk_184 1 137 (dk_at dksX0_hold_0 2 rfl rfl)
theorem dX0_hold_5 : decode cX0_hold 5 = .ok (.ifCond .eq 18, 3) := dk_153 0 18 (dk_at dksX0_hold_0 5 rfl rfl)
theorem dX0_hold_8 : decode cX0_hold 8 = .ok (.aload_n 0, 1) := dk_42 (dk_at dksX0_hold_0 8 rfl rfl)
theorem dX0_hold_9 : decode cX0_hold 9 = .ok (.getfield 110, 3) := dk_180 0 110 (dk_at dksX0_hold_0 9 rfl rfl)
theorem dX0_hold_12 : decode cX0_hold 12 = .ok (.iload_n 1, 1) := dk_27 (dk_at dksX0_hold_0 12 rfl rfl)
theorem dX0_hold_13 : decode cX0_hold 13 = .ok (.iload_n 2, 1) := dk_28 (dk_at dksX0_hold_0 13 rfl rfl)
theorem dX0_hold_14 : decode cX0_hold 14 = .ok (.invokevirtual 396, 3) := dk_182 1 140 (dk_at dksX0_hold_0 14 rfl rfl)
theorem dX0_hold_17 : decode cX0_hold 17 = .ok (.getfield 399, 3) := dk_180 1 143 (dk_at dksX0_hold_0 17 rfl rfl)
theorem dX0_hold_20 : decode cX0_hold 20 = .ok (.goto 6, 3) := dk_167 0 6 (dk_at dksX0_hold_0 20 rfl rfl)
theorem dX0_hold_23 : decode cX0_hold 23 = .ok (.sipush (-1000), 3) := dk_17 252 24 (dk_at dksX0_hold_1 0 rfl rfl)
theorem dX0_hold_26 : decode cX0_hold 26 = .ok (.ireturn, 1) := dk_172 (dk_at dksX0_hold_1 3 rfl rfl)
abbrev cX0_areHands : ByteArray := prog_1_method_72_code
def yX0_areHands : MethodName := ⟨RX0, "areHands", "(II)Z"⟩
def dkwX0_areHands_1 : List UInt8 := [4, 167, 0, 4, 3, 172]
abbrev dktX0_areHands_1 : List UInt8 := dkwX0_areHands_1 ++ []
def dkwX0_areHands_0 : List UInt8 := [26, 133, 9, 20, 1, 135, 184, 0, 11, 153, 0, 19, 27, 133, 9, 20, 1, 135, 184, 0, 11, 153, 0, 7]
abbrev dktX0_areHands_0 : List UInt8 := dkwX0_areHands_0 ++ dktX0_areHands_1
theorem dksX0_areHands_0 : cX0_areHands.data.toList.drop 0 = dktX0_areHands_0 := by decide +kernel
theorem dksX0_areHands_1 : cX0_areHands.data.toList.drop 24 = dktX0_areHands_1 := dk_seg dksX0_areHands_0 24 rfl rfl
theorem dX0_areHands_0 : decode cX0_areHands 0 = .ok (.iload_n 0, 1) := dk_26 (dk_at dksX0_areHands_0 0 rfl rfl)
theorem dX0_areHands_1 : decode cX0_areHands 1 = .ok (.i2l, 1) := dk_133 (dk_at dksX0_areHands_0 1 rfl rfl)
theorem dX0_areHands_2 : decode cX0_areHands 2 = .ok (.lconst 0, 1) := dk_9 (dk_at dksX0_areHands_0 2 rfl rfl)
theorem dX0_areHands_3 : decode cX0_areHands 3 = .ok (.ldc2_w 391, 3) := dk_20 1 135 (dk_at dksX0_areHands_0 3 rfl rfl)
theorem dX0_areHands_6 : decode cX0_areHands 6 = .ok (.invokestatic 11, 3) := dk_184 0 11 (dk_at dksX0_areHands_0 6 rfl rfl)
theorem dX0_areHands_9 : decode cX0_areHands 9 = .ok (.ifCond .eq 19, 3) := dk_153 0 19 (dk_at dksX0_areHands_0 9 rfl rfl)
theorem dX0_areHands_12 : decode cX0_areHands 12 = .ok (.iload_n 1, 1) := dk_27 (dk_at dksX0_areHands_0 12 rfl rfl)
theorem dX0_areHands_13 : decode cX0_areHands 13 = .ok (.i2l, 1) := dk_133 (dk_at dksX0_areHands_0 13 rfl rfl)
theorem dX0_areHands_14 : decode cX0_areHands 14 = .ok (.lconst 0, 1) := dk_9 (dk_at dksX0_areHands_0 14 rfl rfl)
theorem dX0_areHands_15 : decode cX0_areHands 15 = .ok (.ldc2_w 391, 3) := dk_20 1 135 (dk_at dksX0_areHands_0 15 rfl rfl)
theorem dX0_areHands_18 : decode cX0_areHands 18 = .ok (.invokestatic 11, 3) := dk_184 0 11 (dk_at dksX0_areHands_0 18 rfl rfl)
theorem dX0_areHands_21 : decode cX0_areHands 21 = .ok (.ifCond .eq 7, 3) := dk_153 0 7 (dk_at dksX0_areHands_0 21 rfl rfl)
theorem dX0_areHands_24 : decode cX0_areHands 24 = .ok (.iconst 1, 1) := dk_4 (dk_at dksX0_areHands_1 0 rfl rfl)
theorem dX0_areHands_25 : decode cX0_areHands 25 = .ok (.goto 4, 3) := dk_167 0 4 (dk_at dksX0_areHands_1 1 rfl rfl)
theorem dX0_areHands_28 : decode cX0_areHands 28 = .ok (.iconst 0, 1) := dk_3 (dk_at dksX0_areHands_1 4 rfl rfl)
theorem dX0_areHands_29 : decode cX0_areHands 29 = .ok (.ireturn, 1) := dk_172 (dk_at dksX0_areHands_1 5 rfl rfl)
abbrev cX0_valueOf : ByteArray := prog_1_method_71_code
def yX0_valueOf : MethodName := ⟨RX0, "valueOf", "(IIIIII)I"⟩
def dkwX0_valueOf_0 : List UInt8 := [26, 29, 184, 1, 132, 27, 21, 4, 184, 1, 132, 96, 28, 21, 5, 184, 1, 132, 96, 172]
abbrev dktX0_valueOf_0 : List UInt8 := dkwX0_valueOf_0 ++ []
theorem dksX0_valueOf_0 : cX0_valueOf.data.toList.drop 0 = dktX0_valueOf_0 := by decide +kernel
theorem dX0_valueOf_0 : decode cX0_valueOf 0 = .ok (.iload_n 0, 1) := dk_26 (dk_at dksX0_valueOf_0 0 rfl rfl)
theorem dX0_valueOf_1 : decode cX0_valueOf 1 = .ok (.iload_n 3, 1) := dk_29 (dk_at dksX0_valueOf_0 1 rfl rfl)
theorem dX0_valueOf_2 : decode cX0_valueOf 2 = .ok (.invokestatic 388, 3) := dk_184 1 132 (dk_at dksX0_valueOf_0 2 rfl rfl)
theorem dX0_valueOf_5 : decode cX0_valueOf 5 = .ok (.iload_n 1, 1) := dk_27 (dk_at dksX0_valueOf_0 5 rfl rfl)
theorem dX0_valueOf_6 : decode cX0_valueOf 6 = .ok (.iload 4, 2) := dk_21 4 (dk_at dksX0_valueOf_0 6 rfl rfl)
theorem dX0_valueOf_8 : decode cX0_valueOf 8 = .ok (.invokestatic 388, 3) := dk_184 1 132 (dk_at dksX0_valueOf_0 8 rfl rfl)
theorem dX0_valueOf_11 : decode cX0_valueOf 11 = .ok (.iadd, 1) := dk_96 (dk_at dksX0_valueOf_0 11 rfl rfl)
theorem dX0_valueOf_12 : decode cX0_valueOf 12 = .ok (.iload_n 2, 1) := dk_28 (dk_at dksX0_valueOf_0 12 rfl rfl)
theorem dX0_valueOf_13 : decode cX0_valueOf 13 = .ok (.iload 5, 2) := dk_21 5 (dk_at dksX0_valueOf_0 13 rfl rfl)
theorem dX0_valueOf_15 : decode cX0_valueOf 15 = .ok (.invokestatic 388, 3) := dk_184 1 132 (dk_at dksX0_valueOf_0 15 rfl rfl)
theorem dX0_valueOf_18 : decode cX0_valueOf 18 = .ok (.iadd, 1) := dk_96 (dk_at dksX0_valueOf_0 18 rfl rfl)
theorem dX0_valueOf_19 : decode cX0_valueOf 19 = .ok (.ireturn, 1) := dk_172 (dk_at dksX0_valueOf_0 19 rfl rfl)
abbrev cX0_holds : ByteArray := prog_1_method_74_code
def yX0_holds : MethodName := ⟨RX0, "holds", "(III)I"⟩
def dkwX0_holds_1 : List UInt8 := [27, 28, 182, 1, 140, 180, 1, 148, 29, 46, 167, 0, 5, 16, 254, 172]
abbrev dktX0_holds_1 : List UInt8 := dkwX0_holds_1 ++ []
def dkwX0_holds_0 : List UInt8 := [27, 28, 184, 1, 137, 153, 0, 32, 29, 133, 9, 20, 1, 146, 184, 0, 11, 153, 0, 20, 42, 180, 0, 110]
abbrev dktX0_holds_0 : List UInt8 := dkwX0_holds_0 ++ dktX0_holds_1
theorem dksX0_holds_0 : cX0_holds.data.toList.drop 0 = dktX0_holds_0 := by decide +kernel
theorem dksX0_holds_1 : cX0_holds.data.toList.drop 24 = dktX0_holds_1 := dk_seg dksX0_holds_0 24 rfl rfl
theorem dX0_holds_0 : decode cX0_holds 0 = .ok (.iload_n 1, 1) := dk_27 (dk_at dksX0_holds_0 0 rfl rfl)
theorem dX0_holds_1 : decode cX0_holds 1 = .ok (.iload_n 2, 1) := dk_28 (dk_at dksX0_holds_0 1 rfl rfl)
theorem dX0_holds_2 : decode cX0_holds 2 = .ok (.invokestatic 393, 3) := dk_184 1 137 (dk_at dksX0_holds_0 2 rfl rfl)
theorem dX0_holds_5 : decode cX0_holds 5 = .ok (.ifCond .eq 32, 3) := dk_153 0 32 (dk_at dksX0_holds_0 5 rfl rfl)
theorem dX0_holds_8 : decode cX0_holds 8 = .ok (.iload_n 3, 1) := dk_29 (dk_at dksX0_holds_0 8 rfl rfl)
theorem dX0_holds_9 : decode cX0_holds 9 = .ok (.i2l, 1) := dk_133 (dk_at dksX0_holds_0 9 rfl rfl)
theorem dX0_holds_10 : decode cX0_holds 10 = .ok (.lconst 0, 1) := dk_9 (dk_at dksX0_holds_0 10 rfl rfl)
theorem dX0_holds_11 : decode cX0_holds 11 = .ok (.ldc2_w 402, 3) := dk_20 1 146 (dk_at dksX0_holds_0 11 rfl rfl)
theorem dX0_holds_14 : decode cX0_holds 14 = .ok (.invokestatic 11, 3) := dk_184 0 11 (dk_at dksX0_holds_0 14 rfl rfl)
theorem dX0_holds_17 : decode cX0_holds 17 = .ok (.ifCond .eq 20, 3) := dk_153 0 20 (dk_at dksX0_holds_0 17 rfl rfl)
theorem dX0_holds_20 : decode cX0_holds 20 = .ok (.aload_n 0, 1) := dk_42 (dk_at dksX0_holds_0 20 rfl rfl)
theorem dX0_holds_21 : decode cX0_holds 21 = .ok (.getfield 110, 3) := dk_180 0 110 (dk_at dksX0_holds_0 21 rfl rfl)
theorem dX0_holds_24 : decode cX0_holds 24 = .ok (.iload_n 1, 1) := dk_27 (dk_at dksX0_holds_1 0 rfl rfl)
theorem dX0_holds_25 : decode cX0_holds 25 = .ok (.iload_n 2, 1) := dk_28 (dk_at dksX0_holds_1 1 rfl rfl)
theorem dX0_holds_26 : decode cX0_holds 26 = .ok (.invokevirtual 396, 3) := dk_182 1 140 (dk_at dksX0_holds_1 2 rfl rfl)
theorem dX0_holds_29 : decode cX0_holds 29 = .ok (.getfield 404, 3) := dk_180 1 148 (dk_at dksX0_holds_1 5 rfl rfl)
theorem dX0_holds_32 : decode cX0_holds 32 = .ok (.iload_n 3, 1) := dk_29 (dk_at dksX0_holds_1 8 rfl rfl)
theorem dX0_holds_33 : decode cX0_holds 33 = .ok (.iaload, 1) := dk_46 (dk_at dksX0_holds_1 9 rfl rfl)
theorem dX0_holds_34 : decode cX0_holds 34 = .ok (.goto 5, 3) := dk_167 0 5 (dk_at dksX0_holds_1 10 rfl rfl)
theorem dX0_holds_37 : decode cX0_holds 37 = .ok (.bipush (-2), 2) := dk_16 254 (dk_at dksX0_holds_1 13 rfl rfl)
theorem dX0_holds_39 : decode cX0_holds 39 = .ok (.ireturn, 1) := dk_172 (dk_at dksX0_holds_1 15 rfl rfl)
abbrev cX0_reply : ByteArray := prog_1_method_75_code
def yX0_reply : MethodName := ⟨RX0, "reply", "(III)I"⟩
def dkwX0_reply_1 : List UInt8 := [27, 28, 182, 1, 140, 180, 1, 151, 29, 46, 167, 0, 5, 16, 254, 172]
abbrev dktX0_reply_1 : List UInt8 := dkwX0_reply_1 ++ []
def dkwX0_reply_0 : List UInt8 := [27, 28, 184, 1, 137, 153, 0, 32, 29, 133, 9, 20, 1, 146, 184, 0, 11, 153, 0, 20, 42, 180, 0, 110]
abbrev dktX0_reply_0 : List UInt8 := dkwX0_reply_0 ++ dktX0_reply_1
theorem dksX0_reply_0 : cX0_reply.data.toList.drop 0 = dktX0_reply_0 := by decide +kernel
theorem dksX0_reply_1 : cX0_reply.data.toList.drop 24 = dktX0_reply_1 := dk_seg dksX0_reply_0 24 rfl rfl
theorem dX0_reply_0 : decode cX0_reply 0 = .ok (.iload_n 1, 1) := dk_27 (dk_at dksX0_reply_0 0 rfl rfl)
theorem dX0_reply_1 : decode cX0_reply 1 = .ok (.iload_n 2, 1) := dk_28 (dk_at dksX0_reply_0 1 rfl rfl)
theorem dX0_reply_2 : decode cX0_reply 2 = .ok (.invokestatic 393, 3) := dk_184 1 137 (dk_at dksX0_reply_0 2 rfl rfl)
theorem dX0_reply_5 : decode cX0_reply 5 = .ok (.ifCond .eq 32, 3) := dk_153 0 32 (dk_at dksX0_reply_0 5 rfl rfl)
theorem dX0_reply_8 : decode cX0_reply 8 = .ok (.iload_n 3, 1) := dk_29 (dk_at dksX0_reply_0 8 rfl rfl)
theorem dX0_reply_9 : decode cX0_reply 9 = .ok (.i2l, 1) := dk_133 (dk_at dksX0_reply_0 9 rfl rfl)
theorem dX0_reply_10 : decode cX0_reply 10 = .ok (.lconst 0, 1) := dk_9 (dk_at dksX0_reply_0 10 rfl rfl)
theorem dX0_reply_11 : decode cX0_reply 11 = .ok (.ldc2_w 402, 3) := dk_20 1 146 (dk_at dksX0_reply_0 11 rfl rfl)
theorem dX0_reply_14 : decode cX0_reply 14 = .ok (.invokestatic 11, 3) := dk_184 0 11 (dk_at dksX0_reply_0 14 rfl rfl)
theorem dX0_reply_17 : decode cX0_reply 17 = .ok (.ifCond .eq 20, 3) := dk_153 0 20 (dk_at dksX0_reply_0 17 rfl rfl)
theorem dX0_reply_20 : decode cX0_reply 20 = .ok (.aload_n 0, 1) := dk_42 (dk_at dksX0_reply_0 20 rfl rfl)
theorem dX0_reply_21 : decode cX0_reply 21 = .ok (.getfield 110, 3) := dk_180 0 110 (dk_at dksX0_reply_0 21 rfl rfl)
theorem dX0_reply_24 : decode cX0_reply 24 = .ok (.iload_n 1, 1) := dk_27 (dk_at dksX0_reply_1 0 rfl rfl)
theorem dX0_reply_25 : decode cX0_reply 25 = .ok (.iload_n 2, 1) := dk_28 (dk_at dksX0_reply_1 1 rfl rfl)
theorem dX0_reply_26 : decode cX0_reply 26 = .ok (.invokevirtual 396, 3) := dk_182 1 140 (dk_at dksX0_reply_1 2 rfl rfl)
theorem dX0_reply_29 : decode cX0_reply 29 = .ok (.getfield 407, 3) := dk_180 1 151 (dk_at dksX0_reply_1 5 rfl rfl)
theorem dX0_reply_32 : decode cX0_reply 32 = .ok (.iload_n 3, 1) := dk_29 (dk_at dksX0_reply_1 8 rfl rfl)
theorem dX0_reply_33 : decode cX0_reply 33 = .ok (.iaload, 1) := dk_46 (dk_at dksX0_reply_1 9 rfl rfl)
theorem dX0_reply_34 : decode cX0_reply 34 = .ok (.goto 5, 3) := dk_167 0 5 (dk_at dksX0_reply_1 10 rfl rfl)
theorem dX0_reply_37 : decode cX0_reply 37 = .ok (.bipush (-2), 2) := dk_16 254 (dk_at dksX0_reply_1 13 rfl rfl)
theorem dX0_reply_39 : decode cX0_reply 39 = .ok (.ireturn, 1) := dk_172 (dk_at dksX0_reply_1 15 rfl rfl)
abbrev cX0_readings : ByteArray := prog_1_method_80_code
def yX0_readings : MethodName := ⟨RX0, "readings", "(I)I"⟩
def dkwX0_readings_0 : List UInt8 := [42, 27, 182, 1, 165, 153, 0, 11, 42, 27, 182, 1, 168, 167, 0, 5, 16, 254, 172]
abbrev dktX0_readings_0 : List UInt8 := dkwX0_readings_0 ++ []
theorem dksX0_readings_0 : cX0_readings.data.toList.drop 0 = dktX0_readings_0 := by decide +kernel
theorem dX0_readings_0 : decode cX0_readings 0 = .ok (.aload_n 0, 1) := dk_42 (dk_at dksX0_readings_0 0 rfl rfl)
theorem dX0_readings_1 : decode cX0_readings 1 = .ok (.iload_n 1, 1) := dk_27 (dk_at dksX0_readings_0 1 rfl rfl)
theorem dX0_readings_2 : decode cX0_readings 2 = .ok (.invokevirtual 421, 3) := dk_182 1 165 (dk_at dksX0_readings_0 2 rfl rfl)
theorem dX0_readings_5 : decode cX0_readings 5 = .ok (.ifCond .eq 11, 3) := dk_153 0 11 (dk_at dksX0_readings_0 5 rfl rfl)
theorem dX0_readings_8 : decode cX0_readings 8 = .ok (.aload_n 0, 1) := dk_42 (dk_at dksX0_readings_0 8 rfl rfl)
theorem dX0_readings_9 : decode cX0_readings 9 = .ok (.iload_n 1, 1) := dk_27 (dk_at dksX0_readings_0 9 rfl rfl)
theorem dX0_readings_10 : decode cX0_readings 10 = .ok (.invokevirtual 424, 3) := dk_182 1 168 (dk_at dksX0_readings_0 10 rfl rfl)
theorem dX0_readings_13 : decode cX0_readings 13 = .ok (.goto 5, 3) := dk_167 0 5 (dk_at dksX0_readings_0 13 rfl rfl)
theorem dX0_readings_16 : decode cX0_readings 16 = .ok (.bipush (-2), 2) := dk_16 254 (dk_at dksX0_readings_0 16 rfl rfl)
theorem dX0_readings_18 : decode cX0_readings 18 = .ok (.ireturn, 1) := dk_172 (dk_at dksX0_readings_0 18 rfl rfl)
abbrev cX0_isMinute : ByteArray := prog_1_method_79_code
def yX0_isMinute : MethodName := ⟨RX0, "isMinute", "(I)Z"⟩
def dkwX0_isMinute_1 : List UInt8 := [167, 0, 4, 3, 172]
abbrev dktX0_isMinute_1 : List UInt8 := dkwX0_isMinute_1 ++ []
def dkwX0_isMinute_0 : List UInt8 := [42, 180, 0, 47, 182, 0, 126, 153, 0, 19, 27, 133, 9, 20, 1, 163, 184, 0, 11, 153, 0, 7, 4]
abbrev dktX0_isMinute_0 : List UInt8 := dkwX0_isMinute_0 ++ dktX0_isMinute_1
theorem dksX0_isMinute_0 : cX0_isMinute.data.toList.drop 0 = dktX0_isMinute_0 := by decide +kernel
theorem dksX0_isMinute_1 : cX0_isMinute.data.toList.drop 23 = dktX0_isMinute_1 := dk_seg dksX0_isMinute_0 23 rfl rfl
theorem dX0_isMinute_0 : decode cX0_isMinute 0 = .ok (.aload_n 0, 1) := dk_42 (dk_at dksX0_isMinute_0 0 rfl rfl)
theorem dX0_isMinute_1 : decode cX0_isMinute 1 = .ok (.getfield 47, 3) := dk_180 0 47 (dk_at dksX0_isMinute_0 1 rfl rfl)
theorem dX0_isMinute_4 : decode cX0_isMinute 4 = .ok (.invokevirtual 126, 3) := dk_182 0 126 (dk_at dksX0_isMinute_0 4 rfl rfl)
theorem dX0_isMinute_7 : decode cX0_isMinute 7 = .ok (.ifCond .eq 19, 3) := dk_153 0 19 (dk_at dksX0_isMinute_0 7 rfl rfl)
theorem dX0_isMinute_10 : decode cX0_isMinute 10 = .ok (.iload_n 1, 1) := dk_27 (dk_at dksX0_isMinute_0 10 rfl rfl)
theorem dX0_isMinute_11 : decode cX0_isMinute 11 = .ok (.i2l, 1) := dk_133 (dk_at dksX0_isMinute_0 11 rfl rfl)
theorem dX0_isMinute_12 : decode cX0_isMinute 12 = .ok (.lconst 0, 1) := dk_9 (dk_at dksX0_isMinute_0 12 rfl rfl)
theorem dX0_isMinute_13 : decode cX0_isMinute 13 = .ok (.ldc2_w 419, 3) := dk_20 1 163 (dk_at dksX0_isMinute_0 13 rfl rfl)
theorem dX0_isMinute_16 : decode cX0_isMinute 16 = .ok (.invokestatic 11, 3) := dk_184 0 11 (dk_at dksX0_isMinute_0 16 rfl rfl)
theorem dX0_isMinute_19 : decode cX0_isMinute 19 = .ok (.ifCond .eq 7, 3) := dk_153 0 7 (dk_at dksX0_isMinute_0 19 rfl rfl)
theorem dX0_isMinute_22 : decode cX0_isMinute 22 = .ok (.iconst 1, 1) := dk_4 (dk_at dksX0_isMinute_0 22 rfl rfl)
theorem dX0_isMinute_23 : decode cX0_isMinute 23 = .ok (.goto 4, 3) := dk_167 0 4 (dk_at dksX0_isMinute_1 0 rfl rfl)
theorem dX0_isMinute_26 : decode cX0_isMinute 26 = .ok (.iconst 0, 1) := dk_3 (dk_at dksX0_isMinute_1 3 rfl rfl)
theorem dX0_isMinute_27 : decode cX0_isMinute 27 = .ok (.ireturn, 1) := dk_172 (dk_at dksX0_isMinute_1 4 rfl rfl)
abbrev cX0_readingsOf : ByteArray := prog_1_method_78_code
def yX0_readingsOf : MethodName := ⟨RX0, "readingsOf", "(I)I"⟩
def dkwX0_readingsOf_1 : List UInt8 := [153, 0, 7, 4, 167, 0, 4, 3, 96, 61, 132, 3, 1, 167, 255, 224, 28, 172]
abbrev dktX0_readingsOf_1 : List UInt8 := dkwX0_readingsOf_1 ++ []
def dkwX0_readingsOf_0 : List UInt8 := [3, 61, 3, 62, 29, 4, 5, 42, 182, 1, 154, 104, 120, 162, 0, 26, 28, 42, 27, 29, 182, 1, 160]
abbrev dktX0_readingsOf_0 : List UInt8 := dkwX0_readingsOf_0 ++ dktX0_readingsOf_1
theorem dksX0_readingsOf_0 : cX0_readingsOf.data.toList.drop 0 = dktX0_readingsOf_0 := by decide +kernel
theorem dksX0_readingsOf_1 : cX0_readingsOf.data.toList.drop 23 = dktX0_readingsOf_1 := dk_seg dksX0_readingsOf_0 23 rfl rfl
theorem dX0_readingsOf_0 : decode cX0_readingsOf 0 = .ok (.iconst 0, 1) := dk_3 (dk_at dksX0_readingsOf_0 0 rfl rfl)
theorem dX0_readingsOf_1 : decode cX0_readingsOf 1 = .ok (.istore_n 2, 1) := dk_61 (dk_at dksX0_readingsOf_0 1 rfl rfl)
theorem dX0_readingsOf_2 : decode cX0_readingsOf 2 = .ok (.iconst 0, 1) := dk_3 (dk_at dksX0_readingsOf_0 2 rfl rfl)
theorem dX0_readingsOf_3 : decode cX0_readingsOf 3 = .ok (.istore_n 3, 1) := dk_62 (dk_at dksX0_readingsOf_0 3 rfl rfl)
theorem dX0_readingsOf_4 : decode cX0_readingsOf 4 = .ok (.iload_n 3, 1) := dk_29 (dk_at dksX0_readingsOf_0 4 rfl rfl)
theorem dX0_readingsOf_5 : decode cX0_readingsOf 5 = .ok (.iconst 1, 1) := dk_4 (dk_at dksX0_readingsOf_0 5 rfl rfl)
theorem dX0_readingsOf_6 : decode cX0_readingsOf 6 = .ok (.iconst 2, 1) := dk_5 (dk_at dksX0_readingsOf_0 6 rfl rfl)
theorem dX0_readingsOf_7 : decode cX0_readingsOf 7 = .ok (.aload_n 0, 1) := dk_42 (dk_at dksX0_readingsOf_0 7 rfl rfl)
theorem dX0_readingsOf_8 : decode cX0_readingsOf 8 = .ok (.invokevirtual 410, 3) := dk_182 1 154 (dk_at dksX0_readingsOf_0 8 rfl rfl)
theorem dX0_readingsOf_11 : decode cX0_readingsOf 11 = .ok (.imul, 1) := dk_104 (dk_at dksX0_readingsOf_0 11 rfl rfl)
theorem dX0_readingsOf_12 : decode cX0_readingsOf 12 = .ok (.ishl, 1) := dk_120 (dk_at dksX0_readingsOf_0 12 rfl rfl)
theorem dX0_readingsOf_13 : decode cX0_readingsOf 13 = .ok (.if_icmp .ge 26, 3) := dk_162 0 26 (dk_at dksX0_readingsOf_0 13 rfl rfl)
theorem dX0_readingsOf_16 : decode cX0_readingsOf 16 = .ok (.iload_n 2, 1) := dk_28 (dk_at dksX0_readingsOf_0 16 rfl rfl)
theorem dX0_readingsOf_17 : decode cX0_readingsOf 17 = .ok (.aload_n 0, 1) := dk_42 (dk_at dksX0_readingsOf_0 17 rfl rfl)
theorem dX0_readingsOf_18 : decode cX0_readingsOf 18 = .ok (.iload_n 1, 1) := dk_27 (dk_at dksX0_readingsOf_0 18 rfl rfl)
theorem dX0_readingsOf_19 : decode cX0_readingsOf 19 = .ok (.iload_n 3, 1) := dk_29 (dk_at dksX0_readingsOf_0 19 rfl rfl)
theorem dX0_readingsOf_20 : decode cX0_readingsOf 20 = .ok (.invokevirtual 416, 3) := dk_182 1 160 (dk_at dksX0_readingsOf_0 20 rfl rfl)
theorem dX0_readingsOf_23 : decode cX0_readingsOf 23 = .ok (.ifCond .eq 7, 3) := dk_153 0 7 (dk_at dksX0_readingsOf_1 0 rfl rfl)
theorem dX0_readingsOf_26 : decode cX0_readingsOf 26 = .ok (.iconst 1, 1) := dk_4 (dk_at dksX0_readingsOf_1 3 rfl rfl)
theorem dX0_readingsOf_27 : decode cX0_readingsOf 27 = .ok (.goto 4, 3) := dk_167 0 4 (dk_at dksX0_readingsOf_1 4 rfl rfl)
theorem dX0_readingsOf_30 : decode cX0_readingsOf 30 = .ok (.iconst 0, 1) := dk_3 (dk_at dksX0_readingsOf_1 7 rfl rfl)
theorem dX0_readingsOf_31 : decode cX0_readingsOf 31 = .ok (.iadd, 1) := dk_96 (dk_at dksX0_readingsOf_1 8 rfl rfl)
theorem dX0_readingsOf_32 : decode cX0_readingsOf 32 = .ok (.istore_n 2, 1) := dk_61 (dk_at dksX0_readingsOf_1 9 rfl rfl)
theorem dX0_readingsOf_33 : decode cX0_readingsOf 33 = .ok (.iinc 3 1, 3) := dk_132 3 1 (dk_at dksX0_readingsOf_1 10 rfl rfl)
theorem dX0_readingsOf_36 : decode cX0_readingsOf 36 = .ok (.goto (-32), 3) := dk_167 255 224 (dk_at dksX0_readingsOf_1 13 rfl rfl)
theorem dX0_readingsOf_39 : decode cX0_readingsOf 39 = .ok (.iload_n 2, 1) := dk_28 (dk_at dksX0_readingsOf_1 16 rfl rfl)
theorem dX0_readingsOf_40 : decode cX0_readingsOf 40 = .ok (.ireturn, 1) := dk_172 (dk_at dksX0_readingsOf_1 17 rfl rfl)
abbrev cX0_rules : ByteArray := prog_1_method_76_code
def yX0_rules : MethodName := ⟨RX0, "rules", "()I"⟩
def dkwX0_rules_0 : List UInt8 := [42, 180, 0, 47, 180, 0, 228, 185, 0, 148, 1, 0, 172]
abbrev dktX0_rules_0 : List UInt8 := dkwX0_rules_0 ++ []
theorem dksX0_rules_0 : cX0_rules.data.toList.drop 0 = dktX0_rules_0 := by decide +kernel
theorem dX0_rules_0 : decode cX0_rules 0 = .ok (.aload_n 0, 1) := dk_42 (dk_at dksX0_rules_0 0 rfl rfl)
theorem dX0_rules_1 : decode cX0_rules 1 = .ok (.getfield 47, 3) := dk_180 0 47 (dk_at dksX0_rules_0 1 rfl rfl)
theorem dX0_rules_4 : decode cX0_rules 4 = .ok (.getfield 228, 3) := dk_180 0 228 (dk_at dksX0_rules_0 4 rfl rfl)
theorem dX0_rules_7 : decode cX0_rules 7 = .ok (.invokeinterface 148 1, 5) := by decide +kernel
theorem dX0_rules_12 : decode cX0_rules 12 = .ok (.ireturn, 1) := dk_172 (dk_at dksX0_rules_0 12 rfl rfl)
abbrev cX0_stands : ByteArray := prog_1_method_77_code
def yX0_stands : MethodName := ⟨RX0, "stands", "(II)Z"⟩
def dkwX0_stands_2 : List UInt8 := [153, 0, 5, 3, 172, 132, 3, 1, 167, 255, 204, 4, 172]
abbrev dktX0_stands_2 : List UInt8 := dkwX0_stands_2 ++ []
def dkwX0_stands_1 : List UInt8 := [192, 0, 202, 27, 28, 5, 29, 104, 184, 0, 246, 28, 5, 29, 104, 4, 96, 184, 0, 246, 182, 1, 156]
abbrev dktX0_stands_1 : List UInt8 := dkwX0_stands_1 ++ dktX0_stands_2
def dkwX0_stands_0 : List UInt8 := [3, 62, 29, 42, 182, 1, 154, 162, 0, 50, 42, 180, 0, 47, 180, 0, 228, 29, 185, 0, 154, 2, 0]
abbrev dktX0_stands_0 : List UInt8 := dkwX0_stands_0 ++ dktX0_stands_1
theorem dksX0_stands_0 : cX0_stands.data.toList.drop 0 = dktX0_stands_0 := by decide +kernel
theorem dksX0_stands_1 : cX0_stands.data.toList.drop 23 = dktX0_stands_1 := dk_seg dksX0_stands_0 23 rfl rfl
theorem dksX0_stands_2 : cX0_stands.data.toList.drop 46 = dktX0_stands_2 := dk_seg dksX0_stands_1 23 rfl rfl
theorem dX0_stands_0 : decode cX0_stands 0 = .ok (.iconst 0, 1) := dk_3 (dk_at dksX0_stands_0 0 rfl rfl)
theorem dX0_stands_1 : decode cX0_stands 1 = .ok (.istore_n 3, 1) := dk_62 (dk_at dksX0_stands_0 1 rfl rfl)
theorem dX0_stands_2 : decode cX0_stands 2 = .ok (.iload_n 3, 1) := dk_29 (dk_at dksX0_stands_0 2 rfl rfl)
theorem dX0_stands_3 : decode cX0_stands 3 = .ok (.aload_n 0, 1) := dk_42 (dk_at dksX0_stands_0 3 rfl rfl)
theorem dX0_stands_4 : decode cX0_stands 4 = .ok (.invokevirtual 410, 3) := dk_182 1 154 (dk_at dksX0_stands_0 4 rfl rfl)
theorem dX0_stands_7 : decode cX0_stands 7 = .ok (.if_icmp .ge 50, 3) := dk_162 0 50 (dk_at dksX0_stands_0 7 rfl rfl)
theorem dX0_stands_10 : decode cX0_stands 10 = .ok (.aload_n 0, 1) := dk_42 (dk_at dksX0_stands_0 10 rfl rfl)
theorem dX0_stands_11 : decode cX0_stands 11 = .ok (.getfield 47, 3) := dk_180 0 47 (dk_at dksX0_stands_0 11 rfl rfl)
theorem dX0_stands_14 : decode cX0_stands 14 = .ok (.getfield 228, 3) := dk_180 0 228 (dk_at dksX0_stands_0 14 rfl rfl)
theorem dX0_stands_17 : decode cX0_stands 17 = .ok (.iload_n 3, 1) := dk_29 (dk_at dksX0_stands_0 17 rfl rfl)
theorem dX0_stands_18 : decode cX0_stands 18 = .ok (.invokeinterface 154 2, 5) := by decide +kernel
theorem dX0_stands_23 : decode cX0_stands 23 = .ok (.checkcast 202, 3) := dk_192 0 202 (dk_at dksX0_stands_1 0 rfl rfl)
theorem dX0_stands_26 : decode cX0_stands 26 = .ok (.iload_n 1, 1) := dk_27 (dk_at dksX0_stands_1 3 rfl rfl)
theorem dX0_stands_27 : decode cX0_stands 27 = .ok (.iload_n 2, 1) := dk_28 (dk_at dksX0_stands_1 4 rfl rfl)
theorem dX0_stands_28 : decode cX0_stands 28 = .ok (.iconst 2, 1) := dk_5 (dk_at dksX0_stands_1 5 rfl rfl)
theorem dX0_stands_29 : decode cX0_stands 29 = .ok (.iload_n 3, 1) := dk_29 (dk_at dksX0_stands_1 6 rfl rfl)
theorem dX0_stands_30 : decode cX0_stands 30 = .ok (.imul, 1) := dk_104 (dk_at dksX0_stands_1 7 rfl rfl)
theorem dX0_stands_31 : decode cX0_stands 31 = .ok (.invokestatic 246, 3) := dk_184 0 246 (dk_at dksX0_stands_1 8 rfl rfl)
theorem dX0_stands_34 : decode cX0_stands 34 = .ok (.iload_n 2, 1) := dk_28 (dk_at dksX0_stands_1 11 rfl rfl)
theorem dX0_stands_35 : decode cX0_stands 35 = .ok (.iconst 2, 1) := dk_5 (dk_at dksX0_stands_1 12 rfl rfl)
theorem dX0_stands_36 : decode cX0_stands 36 = .ok (.iload_n 3, 1) := dk_29 (dk_at dksX0_stands_1 13 rfl rfl)
theorem dX0_stands_37 : decode cX0_stands 37 = .ok (.imul, 1) := dk_104 (dk_at dksX0_stands_1 14 rfl rfl)
theorem dX0_stands_38 : decode cX0_stands 38 = .ok (.iconst 1, 1) := dk_4 (dk_at dksX0_stands_1 15 rfl rfl)
theorem dX0_stands_39 : decode cX0_stands 39 = .ok (.iadd, 1) := dk_96 (dk_at dksX0_stands_1 16 rfl rfl)
theorem dX0_stands_40 : decode cX0_stands 40 = .ok (.invokestatic 246, 3) := dk_184 0 246 (dk_at dksX0_stands_1 17 rfl rfl)
theorem dX0_stands_43 : decode cX0_stands 43 = .ok (.invokevirtual 412, 3) := dk_182 1 156 (dk_at dksX0_stands_1 20 rfl rfl)
theorem dX0_stands_46 : decode cX0_stands 46 = .ok (.ifCond .eq 5, 3) := dk_153 0 5 (dk_at dksX0_stands_2 0 rfl rfl)
theorem dX0_stands_49 : decode cX0_stands 49 = .ok (.iconst 0, 1) := dk_3 (dk_at dksX0_stands_2 3 rfl rfl)
theorem dX0_stands_50 : decode cX0_stands 50 = .ok (.ireturn, 1) := dk_172 (dk_at dksX0_stands_2 4 rfl rfl)
theorem dX0_stands_51 : decode cX0_stands 51 = .ok (.iinc 3 1, 3) := dk_132 3 1 (dk_at dksX0_stands_2 5 rfl rfl)
theorem dX0_stands_54 : decode cX0_stands 54 = .ok (.goto (-52), 3) := dk_167 255 204 (dk_at dksX0_stands_2 8 rfl rfl)
theorem dX0_stands_57 : decode cX0_stands 57 = .ok (.iconst 1, 1) := dk_4 (dk_at dksX0_stands_2 11 rfl rfl)
theorem dX0_stands_58 : decode cX0_stands 58 = .ok (.ireturn, 1) := dk_172 (dk_at dksX0_stands_2 12 rfl rfl)
abbrev cX0_loopholes : ByteArray := prog_1_method_81_code
def yX0_loopholes : MethodName := ⟨RX0, "loopholes", "()J"⟩
def dkwX0_loopholes_2 : List UInt8 := [153, 0, 9, 10, 29, 121, 167, 0, 4, 9, 129, 64, 132, 3, 1, 167, 255, 213, 31, 173]
abbrev dktX0_loopholes_2 : List UInt8 := dkwX0_loopholes_2 ++ []
def dkwX0_loopholes_1 : List UInt8 := [31, 42, 29, 182, 1, 168, 133, 10, 4, 5, 42, 182, 1, 154, 104, 120, 4, 100, 133, 184, 0, 11]
abbrev dktX0_loopholes_1 : List UInt8 := dkwX0_loopholes_1 ++ dktX0_loopholes_2
def dkwX0_loopholes_0 : List UInt8 := [42, 180, 0, 47, 182, 0, 126, 154, 0, 7, 20, 1, 57, 173, 9, 64, 3, 62, 29, 16, 60, 162, 0, 43]
abbrev dktX0_loopholes_0 : List UInt8 := dkwX0_loopholes_0 ++ dktX0_loopholes_1
theorem dksX0_loopholes_0 : cX0_loopholes.data.toList.drop 0 = dktX0_loopholes_0 := by decide +kernel
theorem dksX0_loopholes_1 : cX0_loopholes.data.toList.drop 24 = dktX0_loopholes_1 := dk_seg dksX0_loopholes_0 24 rfl rfl
theorem dksX0_loopholes_2 : cX0_loopholes.data.toList.drop 46 = dktX0_loopholes_2 := dk_seg dksX0_loopholes_1 22 rfl rfl
theorem dX0_loopholes_0 : decode cX0_loopholes 0 = .ok (.aload_n 0, 1) := dk_42 (dk_at dksX0_loopholes_0 0 rfl rfl)
theorem dX0_loopholes_1 : decode cX0_loopholes 1 = .ok (.getfield 47, 3) := dk_180 0 47 (dk_at dksX0_loopholes_0 1 rfl rfl)
theorem dX0_loopholes_4 : decode cX0_loopholes 4 = .ok (.invokevirtual 126, 3) := dk_182 0 126 (dk_at dksX0_loopholes_0 4 rfl rfl)
theorem dX0_loopholes_7 : decode cX0_loopholes 7 = .ok (.ifCond .ne 7, 3) := dk_154 0 7 (dk_at dksX0_loopholes_0 7 rfl rfl)
theorem dX0_loopholes_10 : decode cX0_loopholes 10 = .ok (.ldc2_w 313, 3) := dk_20 1 57 (dk_at dksX0_loopholes_0 10 rfl rfl)
theorem dX0_loopholes_13 : decode cX0_loopholes 13 = .ok (.lreturn, 1) := dk_173 (dk_at dksX0_loopholes_0 13 rfl rfl)
theorem dX0_loopholes_14 : decode cX0_loopholes 14 = .ok (.lconst 0, 1) := dk_9 (dk_at dksX0_loopholes_0 14 rfl rfl)
theorem dX0_loopholes_15 : decode cX0_loopholes 15 = .ok (.lstore_n 1, 1) := dk_64 (dk_at dksX0_loopholes_0 15 rfl rfl)
theorem dX0_loopholes_16 : decode cX0_loopholes 16 = .ok (.iconst 0, 1) := dk_3 (dk_at dksX0_loopholes_0 16 rfl rfl)
theorem dX0_loopholes_17 : decode cX0_loopholes 17 = .ok (.istore_n 3, 1) := dk_62 (dk_at dksX0_loopholes_0 17 rfl rfl)
theorem dX0_loopholes_18 : decode cX0_loopholes 18 = .ok (.iload_n 3, 1) := dk_29 (dk_at dksX0_loopholes_0 18 rfl rfl)
theorem dX0_loopholes_19 : decode cX0_loopholes 19 = .ok (.bipush 60, 2) := dk_16 60 (dk_at dksX0_loopholes_0 19 rfl rfl)
theorem dX0_loopholes_21 : decode cX0_loopholes 21 = .ok (.if_icmp .ge 43, 3) := dk_162 0 43 (dk_at dksX0_loopholes_0 21 rfl rfl)
theorem dX0_loopholes_24 : decode cX0_loopholes 24 = .ok (.lload_n 1, 1) := dk_31 (dk_at dksX0_loopholes_1 0 rfl rfl)
theorem dX0_loopholes_25 : decode cX0_loopholes 25 = .ok (.aload_n 0, 1) := dk_42 (dk_at dksX0_loopholes_1 1 rfl rfl)
theorem dX0_loopholes_26 : decode cX0_loopholes 26 = .ok (.iload_n 3, 1) := dk_29 (dk_at dksX0_loopholes_1 2 rfl rfl)
theorem dX0_loopholes_27 : decode cX0_loopholes 27 = .ok (.invokevirtual 424, 3) := dk_182 1 168 (dk_at dksX0_loopholes_1 3 rfl rfl)
theorem dX0_loopholes_30 : decode cX0_loopholes 30 = .ok (.i2l, 1) := dk_133 (dk_at dksX0_loopholes_1 6 rfl rfl)
theorem dX0_loopholes_31 : decode cX0_loopholes 31 = .ok (.lconst 1, 1) := dk_10 (dk_at dksX0_loopholes_1 7 rfl rfl)
theorem dX0_loopholes_32 : decode cX0_loopholes 32 = .ok (.iconst 1, 1) := dk_4 (dk_at dksX0_loopholes_1 8 rfl rfl)
theorem dX0_loopholes_33 : decode cX0_loopholes 33 = .ok (.iconst 2, 1) := dk_5 (dk_at dksX0_loopholes_1 9 rfl rfl)
theorem dX0_loopholes_34 : decode cX0_loopholes 34 = .ok (.aload_n 0, 1) := dk_42 (dk_at dksX0_loopholes_1 10 rfl rfl)
theorem dX0_loopholes_35 : decode cX0_loopholes 35 = .ok (.invokevirtual 410, 3) := dk_182 1 154 (dk_at dksX0_loopholes_1 11 rfl rfl)
theorem dX0_loopholes_38 : decode cX0_loopholes 38 = .ok (.imul, 1) := dk_104 (dk_at dksX0_loopholes_1 14 rfl rfl)
theorem dX0_loopholes_39 : decode cX0_loopholes 39 = .ok (.ishl, 1) := dk_120 (dk_at dksX0_loopholes_1 15 rfl rfl)
theorem dX0_loopholes_40 : decode cX0_loopholes 40 = .ok (.iconst 1, 1) := dk_4 (dk_at dksX0_loopholes_1 16 rfl rfl)
theorem dX0_loopholes_41 : decode cX0_loopholes 41 = .ok (.isub, 1) := dk_100 (dk_at dksX0_loopholes_1 17 rfl rfl)
theorem dX0_loopholes_42 : decode cX0_loopholes 42 = .ok (.i2l, 1) := dk_133 (dk_at dksX0_loopholes_1 18 rfl rfl)
theorem dX0_loopholes_43 : decode cX0_loopholes 43 = .ok (.invokestatic 11, 3) := dk_184 0 11 (dk_at dksX0_loopholes_1 19 rfl rfl)
theorem dX0_loopholes_46 : decode cX0_loopholes 46 = .ok (.ifCond .eq 9, 3) := dk_153 0 9 (dk_at dksX0_loopholes_2 0 rfl rfl)
theorem dX0_loopholes_49 : decode cX0_loopholes 49 = .ok (.lconst 1, 1) := dk_10 (dk_at dksX0_loopholes_2 3 rfl rfl)
theorem dX0_loopholes_50 : decode cX0_loopholes 50 = .ok (.iload_n 3, 1) := dk_29 (dk_at dksX0_loopholes_2 4 rfl rfl)
theorem dX0_loopholes_51 : decode cX0_loopholes 51 = .ok (.lshl, 1) := dk_121 (dk_at dksX0_loopholes_2 5 rfl rfl)
theorem dX0_loopholes_52 : decode cX0_loopholes 52 = .ok (.goto 4, 3) := dk_167 0 4 (dk_at dksX0_loopholes_2 6 rfl rfl)
theorem dX0_loopholes_55 : decode cX0_loopholes 55 = .ok (.lconst 0, 1) := dk_9 (dk_at dksX0_loopholes_2 9 rfl rfl)
theorem dX0_loopholes_56 : decode cX0_loopholes 56 = .ok (.lor, 1) := dk_129 (dk_at dksX0_loopholes_2 10 rfl rfl)
theorem dX0_loopholes_57 : decode cX0_loopholes 57 = .ok (.lstore_n 1, 1) := dk_64 (dk_at dksX0_loopholes_2 11 rfl rfl)
theorem dX0_loopholes_58 : decode cX0_loopholes 58 = .ok (.iinc 3 1, 3) := dk_132 3 1 (dk_at dksX0_loopholes_2 12 rfl rfl)
theorem dX0_loopholes_61 : decode cX0_loopholes 61 = .ok (.goto (-43), 3) := dk_167 255 213 (dk_at dksX0_loopholes_2 15 rfl rfl)
theorem dX0_loopholes_64 : decode cX0_loopholes 64 = .ok (.lload_n 1, 1) := dk_31 (dk_at dksX0_loopholes_2 18 rfl rfl)
theorem dX0_loopholes_65 : decode cX0_loopholes 65 = .ok (.lreturn, 1) := dk_173 (dk_at dksX0_loopholes_2 19 rfl rfl)
abbrev cX0_close : ByteArray := prog_1_method_83_code
def yX0_close : MethodName := ⟨RX0, "close", "(I)I"⟩
def dkwX0_close_1 : List UInt8 := [167, 0, 7, 28, 184, 1, 41, 172]
abbrev dktX0_close_1 : List UInt8 := dkwX0_close_1 ++ []
def dkwX0_close_0 : List UInt8 := [42, 27, 182, 1, 165, 154, 0, 6, 16, 254, 172, 42, 27, 182, 1, 171, 61, 28, 2, 160, 0, 7, 2]
abbrev dktX0_close_0 : List UInt8 := dkwX0_close_0 ++ dktX0_close_1
theorem dksX0_close_0 : cX0_close.data.toList.drop 0 = dktX0_close_0 := by decide +kernel
theorem dksX0_close_1 : cX0_close.data.toList.drop 23 = dktX0_close_1 := dk_seg dksX0_close_0 23 rfl rfl
theorem dX0_close_0 : decode cX0_close 0 = .ok (.aload_n 0, 1) := dk_42 (dk_at dksX0_close_0 0 rfl rfl)
theorem dX0_close_1 : decode cX0_close 1 = .ok (.iload_n 1, 1) := dk_27 (dk_at dksX0_close_0 1 rfl rfl)
theorem dX0_close_2 : decode cX0_close 2 = .ok (.invokevirtual 421, 3) := dk_182 1 165 (dk_at dksX0_close_0 2 rfl rfl)
theorem dX0_close_5 : decode cX0_close 5 = .ok (.ifCond .ne 6, 3) := dk_154 0 6 (dk_at dksX0_close_0 5 rfl rfl)
theorem dX0_close_8 : decode cX0_close 8 = .ok (.bipush (-2), 2) := dk_16 254 (dk_at dksX0_close_0 8 rfl rfl)
theorem dX0_close_10 : decode cX0_close 10 = .ok (.ireturn, 1) := dk_172 (dk_at dksX0_close_0 10 rfl rfl)
theorem dX0_close_11 : decode cX0_close 11 = .ok (.aload_n 0, 1) := dk_42 (dk_at dksX0_close_0 11 rfl rfl)
theorem dX0_close_12 : decode cX0_close 12 = .ok (.iload_n 1, 1) := dk_27 (dk_at dksX0_close_0 12 rfl rfl)
theorem dX0_close_13 : decode cX0_close 13 = .ok (.invokevirtual 427, 3) := dk_182 1 171 (dk_at dksX0_close_0 13 rfl rfl)
theorem dX0_close_16 : decode cX0_close 16 = .ok (.istore_n 2, 1) := dk_61 (dk_at dksX0_close_0 16 rfl rfl)
theorem dX0_close_17 : decode cX0_close 17 = .ok (.iload_n 2, 1) := dk_28 (dk_at dksX0_close_0 17 rfl rfl)
theorem dX0_close_18 : decode cX0_close 18 = .ok (.iconst (-1), 1) := dk_2 (dk_at dksX0_close_0 18 rfl rfl)
theorem dX0_close_19 : decode cX0_close 19 = .ok (.if_icmp .ne 7, 3) := dk_160 0 7 (dk_at dksX0_close_0 19 rfl rfl)
theorem dX0_close_22 : decode cX0_close 22 = .ok (.iconst (-1), 1) := dk_2 (dk_at dksX0_close_0 22 rfl rfl)
theorem dX0_close_23 : decode cX0_close 23 = .ok (.goto 7, 3) := dk_167 0 7 (dk_at dksX0_close_1 0 rfl rfl)
theorem dX0_close_26 : decode cX0_close 26 = .ok (.iload_n 2, 1) := dk_28 (dk_at dksX0_close_1 3 rfl rfl)
theorem dX0_close_27 : decode cX0_close 27 = .ok (.invokestatic 297, 3) := dk_184 1 41 (dk_at dksX0_close_1 4 rfl rfl)
theorem dX0_close_30 : decode cX0_close 30 = .ok (.ireturn, 1) := dk_172 (dk_at dksX0_close_1 7 rfl rfl)
abbrev cX0_closedOf : ByteArray := prog_1_method_82_code
def yX0_closedOf : MethodName := ⟨RX0, "closedOf", "(I)I"⟩
def dkwX0_closedOf_2 : List UInt8 := [167, 255, 214, 28, 172]
abbrev dktX0_closedOf_2 : List UInt8 := dkwX0_closedOf_2 ++ []
def dkwX0_closedOf_1 : List UInt8 := [184, 1, 41, 28, 184, 1, 41, 162, 0, 14, 42, 27, 29, 182, 1, 160, 154, 0, 5, 29, 61, 132, 3, 1]
abbrev dktX0_closedOf_1 : List UInt8 := dkwX0_closedOf_1 ++ dktX0_closedOf_2
def dkwX0_closedOf_0 : List UInt8 := [2, 61, 3, 62, 29, 4, 5, 42, 182, 1, 154, 104, 120, 162, 0, 36, 28, 2, 159, 0, 14, 29]
abbrev dktX0_closedOf_0 : List UInt8 := dkwX0_closedOf_0 ++ dktX0_closedOf_1
theorem dksX0_closedOf_0 : cX0_closedOf.data.toList.drop 0 = dktX0_closedOf_0 := by decide +kernel
theorem dksX0_closedOf_1 : cX0_closedOf.data.toList.drop 22 = dktX0_closedOf_1 := dk_seg dksX0_closedOf_0 22 rfl rfl
theorem dksX0_closedOf_2 : cX0_closedOf.data.toList.drop 46 = dktX0_closedOf_2 := dk_seg dksX0_closedOf_1 24 rfl rfl
theorem dX0_closedOf_0 : decode cX0_closedOf 0 = .ok (.iconst (-1), 1) := dk_2 (dk_at dksX0_closedOf_0 0 rfl rfl)
theorem dX0_closedOf_1 : decode cX0_closedOf 1 = .ok (.istore_n 2, 1) := dk_61 (dk_at dksX0_closedOf_0 1 rfl rfl)
theorem dX0_closedOf_2 : decode cX0_closedOf 2 = .ok (.iconst 0, 1) := dk_3 (dk_at dksX0_closedOf_0 2 rfl rfl)
theorem dX0_closedOf_3 : decode cX0_closedOf 3 = .ok (.istore_n 3, 1) := dk_62 (dk_at dksX0_closedOf_0 3 rfl rfl)
theorem dX0_closedOf_4 : decode cX0_closedOf 4 = .ok (.iload_n 3, 1) := dk_29 (dk_at dksX0_closedOf_0 4 rfl rfl)
theorem dX0_closedOf_5 : decode cX0_closedOf 5 = .ok (.iconst 1, 1) := dk_4 (dk_at dksX0_closedOf_0 5 rfl rfl)
theorem dX0_closedOf_6 : decode cX0_closedOf 6 = .ok (.iconst 2, 1) := dk_5 (dk_at dksX0_closedOf_0 6 rfl rfl)
theorem dX0_closedOf_7 : decode cX0_closedOf 7 = .ok (.aload_n 0, 1) := dk_42 (dk_at dksX0_closedOf_0 7 rfl rfl)
theorem dX0_closedOf_8 : decode cX0_closedOf 8 = .ok (.invokevirtual 410, 3) := dk_182 1 154 (dk_at dksX0_closedOf_0 8 rfl rfl)
theorem dX0_closedOf_11 : decode cX0_closedOf 11 = .ok (.imul, 1) := dk_104 (dk_at dksX0_closedOf_0 11 rfl rfl)
theorem dX0_closedOf_12 : decode cX0_closedOf 12 = .ok (.ishl, 1) := dk_120 (dk_at dksX0_closedOf_0 12 rfl rfl)
theorem dX0_closedOf_13 : decode cX0_closedOf 13 = .ok (.if_icmp .ge 36, 3) := dk_162 0 36 (dk_at dksX0_closedOf_0 13 rfl rfl)
theorem dX0_closedOf_16 : decode cX0_closedOf 16 = .ok (.iload_n 2, 1) := dk_28 (dk_at dksX0_closedOf_0 16 rfl rfl)
theorem dX0_closedOf_17 : decode cX0_closedOf 17 = .ok (.iconst (-1), 1) := dk_2 (dk_at dksX0_closedOf_0 17 rfl rfl)
theorem dX0_closedOf_18 : decode cX0_closedOf 18 = .ok (.if_icmp .eq 14, 3) := dk_159 0 14 (dk_at dksX0_closedOf_0 18 rfl rfl)
theorem dX0_closedOf_21 : decode cX0_closedOf 21 = .ok (.iload_n 3, 1) := dk_29 (dk_at dksX0_closedOf_0 21 rfl rfl)
theorem dX0_closedOf_22 : decode cX0_closedOf 22 = .ok (.invokestatic 297, 3) := dk_184 1 41 (dk_at dksX0_closedOf_1 0 rfl rfl)
theorem dX0_closedOf_25 : decode cX0_closedOf 25 = .ok (.iload_n 2, 1) := dk_28 (dk_at dksX0_closedOf_1 3 rfl rfl)
theorem dX0_closedOf_26 : decode cX0_closedOf 26 = .ok (.invokestatic 297, 3) := dk_184 1 41 (dk_at dksX0_closedOf_1 4 rfl rfl)
theorem dX0_closedOf_29 : decode cX0_closedOf 29 = .ok (.if_icmp .ge 14, 3) := dk_162 0 14 (dk_at dksX0_closedOf_1 7 rfl rfl)
theorem dX0_closedOf_32 : decode cX0_closedOf 32 = .ok (.aload_n 0, 1) := dk_42 (dk_at dksX0_closedOf_1 10 rfl rfl)
theorem dX0_closedOf_33 : decode cX0_closedOf 33 = .ok (.iload_n 1, 1) := dk_27 (dk_at dksX0_closedOf_1 11 rfl rfl)
theorem dX0_closedOf_34 : decode cX0_closedOf 34 = .ok (.iload_n 3, 1) := dk_29 (dk_at dksX0_closedOf_1 12 rfl rfl)
theorem dX0_closedOf_35 : decode cX0_closedOf 35 = .ok (.invokevirtual 416, 3) := dk_182 1 160 (dk_at dksX0_closedOf_1 13 rfl rfl)
theorem dX0_closedOf_38 : decode cX0_closedOf 38 = .ok (.ifCond .ne 5, 3) := dk_154 0 5 (dk_at dksX0_closedOf_1 16 rfl rfl)
theorem dX0_closedOf_41 : decode cX0_closedOf 41 = .ok (.iload_n 3, 1) := dk_29 (dk_at dksX0_closedOf_1 19 rfl rfl)
theorem dX0_closedOf_42 : decode cX0_closedOf 42 = .ok (.istore_n 2, 1) := dk_61 (dk_at dksX0_closedOf_1 20 rfl rfl)
theorem dX0_closedOf_43 : decode cX0_closedOf 43 = .ok (.iinc 3 1, 3) := dk_132 3 1 (dk_at dksX0_closedOf_1 21 rfl rfl)
theorem dX0_closedOf_46 : decode cX0_closedOf 46 = .ok (.goto (-42), 3) := dk_167 255 214 (dk_at dksX0_closedOf_2 0 rfl rfl)
theorem dX0_closedOf_49 : decode cX0_closedOf 49 = .ok (.iload_n 2, 1) := dk_28 (dk_at dksX0_closedOf_2 3 rfl rfl)
theorem dX0_closedOf_50 : decode cX0_closedOf 50 = .ok (.ireturn, 1) := dk_172 (dk_at dksX0_closedOf_2 4 rfl rfl)
abbrev cX0_closed : ByteArray := prog_1_method_84_code
def yX0_closed : MethodName := ⟨RX0, "closed", "(I)I"⟩
def dkwX0_closed_0 : List UInt8 := [42, 27, 182, 1, 165, 153, 0, 11, 42, 27, 182, 1, 171, 167, 0, 5, 16, 254, 172]
abbrev dktX0_closed_0 : List UInt8 := dkwX0_closed_0 ++ []
theorem dksX0_closed_0 : cX0_closed.data.toList.drop 0 = dktX0_closed_0 := by decide +kernel
theorem dX0_closed_0 : decode cX0_closed 0 = .ok (.aload_n 0, 1) := dk_42 (dk_at dksX0_closed_0 0 rfl rfl)
theorem dX0_closed_1 : decode cX0_closed 1 = .ok (.iload_n 1, 1) := dk_27 (dk_at dksX0_closed_0 1 rfl rfl)
theorem dX0_closed_2 : decode cX0_closed 2 = .ok (.invokevirtual 421, 3) := dk_182 1 165 (dk_at dksX0_closed_0 2 rfl rfl)
theorem dX0_closed_5 : decode cX0_closed 5 = .ok (.ifCond .eq 11, 3) := dk_153 0 11 (dk_at dksX0_closed_0 5 rfl rfl)
theorem dX0_closed_8 : decode cX0_closed 8 = .ok (.aload_n 0, 1) := dk_42 (dk_at dksX0_closed_0 8 rfl rfl)
theorem dX0_closed_9 : decode cX0_closed 9 = .ok (.iload_n 1, 1) := dk_27 (dk_at dksX0_closed_0 9 rfl rfl)
theorem dX0_closed_10 : decode cX0_closed 10 = .ok (.invokevirtual 427, 3) := dk_182 1 171 (dk_at dksX0_closed_0 10 rfl rfl)
theorem dX0_closed_13 : decode cX0_closed 13 = .ok (.goto 5, 3) := dk_167 0 5 (dk_at dksX0_closed_0 13 rfl rfl)
theorem dX0_closed_16 : decode cX0_closed 16 = .ok (.bipush (-2), 2) := dk_16 254 (dk_at dksX0_closed_0 16 rfl rfl)
theorem dX0_closed_18 : decode cX0_closed 18 = .ok (.ireturn, 1) := dk_172 (dk_at dksX0_closed_0 18 rfl rfl)
abbrev cX0_signs : ByteArray := prog_1_method_85_code
def yX0_signs : MethodName := ⟨RX0, "signs", "()I"⟩
def dkwX0_signs_2 : List UInt8 := [172]
abbrev dktX0_signs_2 : List UInt8 := dkwX0_signs_2 ++ []
def dkwX0_signs_1 : List UInt8 := [5, 42, 182, 1, 154, 104, 120, 4, 100, 182, 1, 160, 153, 0, 5, 27, 172, 132, 1, 1, 167, 255, 227, 2]
abbrev dktX0_signs_1 : List UInt8 := dkwX0_signs_1 ++ dktX0_signs_2
def dkwX0_signs_0 : List UInt8 := [42, 180, 0, 47, 182, 0, 126, 154, 0, 6, 16, 254, 172, 3, 60, 27, 16, 60, 162, 0, 29, 42, 27, 4]
abbrev dktX0_signs_0 : List UInt8 := dkwX0_signs_0 ++ dktX0_signs_1
theorem dksX0_signs_0 : cX0_signs.data.toList.drop 0 = dktX0_signs_0 := by decide +kernel
theorem dksX0_signs_1 : cX0_signs.data.toList.drop 24 = dktX0_signs_1 := dk_seg dksX0_signs_0 24 rfl rfl
theorem dksX0_signs_2 : cX0_signs.data.toList.drop 48 = dktX0_signs_2 := dk_seg dksX0_signs_1 24 rfl rfl
theorem dX0_signs_0 : decode cX0_signs 0 = .ok (.aload_n 0, 1) := dk_42 (dk_at dksX0_signs_0 0 rfl rfl)
theorem dX0_signs_1 : decode cX0_signs 1 = .ok (.getfield 47, 3) := dk_180 0 47 (dk_at dksX0_signs_0 1 rfl rfl)
theorem dX0_signs_4 : decode cX0_signs 4 = .ok (.invokevirtual 126, 3) := dk_182 0 126 (dk_at dksX0_signs_0 4 rfl rfl)
theorem dX0_signs_7 : decode cX0_signs 7 = .ok (.ifCond .ne 6, 3) := dk_154 0 6 (dk_at dksX0_signs_0 7 rfl rfl)
theorem dX0_signs_10 : decode cX0_signs 10 = .ok (.bipush (-2), 2) := dk_16 254 (dk_at dksX0_signs_0 10 rfl rfl)
theorem dX0_signs_12 : decode cX0_signs 12 = .ok (.ireturn, 1) := dk_172 (dk_at dksX0_signs_0 12 rfl rfl)
theorem dX0_signs_13 : decode cX0_signs 13 = .ok (.iconst 0, 1) := dk_3 (dk_at dksX0_signs_0 13 rfl rfl)
theorem dX0_signs_14 : decode cX0_signs 14 = .ok (.istore_n 1, 1) := dk_60 (dk_at dksX0_signs_0 14 rfl rfl)
theorem dX0_signs_15 : decode cX0_signs 15 = .ok (.iload_n 1, 1) := dk_27 (dk_at dksX0_signs_0 15 rfl rfl)
theorem dX0_signs_16 : decode cX0_signs 16 = .ok (.bipush 60, 2) := dk_16 60 (dk_at dksX0_signs_0 16 rfl rfl)
theorem dX0_signs_18 : decode cX0_signs 18 = .ok (.if_icmp .ge 29, 3) := dk_162 0 29 (dk_at dksX0_signs_0 18 rfl rfl)
theorem dX0_signs_21 : decode cX0_signs 21 = .ok (.aload_n 0, 1) := dk_42 (dk_at dksX0_signs_0 21 rfl rfl)
theorem dX0_signs_22 : decode cX0_signs 22 = .ok (.iload_n 1, 1) := dk_27 (dk_at dksX0_signs_0 22 rfl rfl)
theorem dX0_signs_23 : decode cX0_signs 23 = .ok (.iconst 1, 1) := dk_4 (dk_at dksX0_signs_0 23 rfl rfl)
theorem dX0_signs_24 : decode cX0_signs 24 = .ok (.iconst 2, 1) := dk_5 (dk_at dksX0_signs_1 0 rfl rfl)
theorem dX0_signs_25 : decode cX0_signs 25 = .ok (.aload_n 0, 1) := dk_42 (dk_at dksX0_signs_1 1 rfl rfl)
theorem dX0_signs_26 : decode cX0_signs 26 = .ok (.invokevirtual 410, 3) := dk_182 1 154 (dk_at dksX0_signs_1 2 rfl rfl)
theorem dX0_signs_29 : decode cX0_signs 29 = .ok (.imul, 1) := dk_104 (dk_at dksX0_signs_1 5 rfl rfl)
theorem dX0_signs_30 : decode cX0_signs 30 = .ok (.ishl, 1) := dk_120 (dk_at dksX0_signs_1 6 rfl rfl)
theorem dX0_signs_31 : decode cX0_signs 31 = .ok (.iconst 1, 1) := dk_4 (dk_at dksX0_signs_1 7 rfl rfl)
theorem dX0_signs_32 : decode cX0_signs 32 = .ok (.isub, 1) := dk_100 (dk_at dksX0_signs_1 8 rfl rfl)
theorem dX0_signs_33 : decode cX0_signs 33 = .ok (.invokevirtual 416, 3) := dk_182 1 160 (dk_at dksX0_signs_1 9 rfl rfl)
theorem dX0_signs_36 : decode cX0_signs 36 = .ok (.ifCond .eq 5, 3) := dk_153 0 5 (dk_at dksX0_signs_1 12 rfl rfl)
theorem dX0_signs_39 : decode cX0_signs 39 = .ok (.iload_n 1, 1) := dk_27 (dk_at dksX0_signs_1 15 rfl rfl)
theorem dX0_signs_40 : decode cX0_signs 40 = .ok (.ireturn, 1) := dk_172 (dk_at dksX0_signs_1 16 rfl rfl)
theorem dX0_signs_41 : decode cX0_signs 41 = .ok (.iinc 1 1, 3) := dk_132 1 1 (dk_at dksX0_signs_1 17 rfl rfl)
theorem dX0_signs_44 : decode cX0_signs 44 = .ok (.goto (-29), 3) := dk_167 255 227 (dk_at dksX0_signs_1 20 rfl rfl)
theorem dX0_signs_47 : decode cX0_signs 47 = .ok (.iconst (-1), 1) := dk_2 (dk_at dksX0_signs_1 23 rfl rfl)
theorem dX0_signs_48 : decode cX0_signs 48 = .ok (.ireturn, 1) := dk_172 (dk_at dksX0_signs_2 0 rfl rfl)
abbrev cX0_treaties : ByteArray := prog_1_method_87_code
def yX0_treaties : MethodName := ⟨RX0, "treaties", "(I)J"⟩
def dkwX0_treaties_3 : List UInt8 := [167, 255, 212, 32, 173]
abbrev dktX0_treaties_3 : List UInt8 := dkwX0_treaties_3 ++ []
def dkwX0_treaties_2 : List UInt8 := [180, 0, 47, 180, 1, 183, 163, 0, 12, 10, 21, 4, 4, 100, 121, 167, 0, 4, 9, 129, 65, 132, 4, 1]
abbrev dktX0_treaties_2 : List UInt8 := dkwX0_treaties_2 ++ dktX0_treaties_3
def dkwX0_treaties_1 : List UInt8 := [54, 4, 21, 4, 42, 180, 0, 47, 180, 0, 207, 163, 0, 38, 32, 42, 21, 4, 182, 1, 180, 42]
abbrev dktX0_treaties_1 : List UInt8 := dkwX0_treaties_1 ++ dktX0_treaties_2
def dkwX0_treaties_0 : List UInt8 := [42, 27, 182, 1, 1, 154, 0, 7, 20, 1, 57, 173, 42, 180, 0, 68, 27, 182, 1, 10, 87, 9, 65, 4]
abbrev dktX0_treaties_0 : List UInt8 := dkwX0_treaties_0 ++ dktX0_treaties_1
theorem dksX0_treaties_0 : cX0_treaties.data.toList.drop 0 = dktX0_treaties_0 := by decide +kernel
theorem dksX0_treaties_1 : cX0_treaties.data.toList.drop 24 = dktX0_treaties_1 := dk_seg dksX0_treaties_0 24 rfl rfl
theorem dksX0_treaties_2 : cX0_treaties.data.toList.drop 46 = dktX0_treaties_2 := dk_seg dksX0_treaties_1 22 rfl rfl
theorem dksX0_treaties_3 : cX0_treaties.data.toList.drop 70 = dktX0_treaties_3 := dk_seg dksX0_treaties_2 24 rfl rfl
theorem dX0_treaties_0 : decode cX0_treaties 0 = .ok (.aload_n 0, 1) := dk_42 (dk_at dksX0_treaties_0 0 rfl rfl)
theorem dX0_treaties_1 : decode cX0_treaties 1 = .ok (.iload_n 1, 1) := dk_27 (dk_at dksX0_treaties_0 1 rfl rfl)
theorem dX0_treaties_2 : decode cX0_treaties 2 = .ok (.invokevirtual 257, 3) := dk_182 1 1 (dk_at dksX0_treaties_0 2 rfl rfl)
theorem dX0_treaties_5 : decode cX0_treaties 5 = .ok (.ifCond .ne 7, 3) := dk_154 0 7 (dk_at dksX0_treaties_0 5 rfl rfl)
theorem dX0_treaties_8 : decode cX0_treaties 8 = .ok (.ldc2_w 313, 3) := dk_20 1 57 (dk_at dksX0_treaties_0 8 rfl rfl)
theorem dX0_treaties_11 : decode cX0_treaties 11 = .ok (.lreturn, 1) := dk_173 (dk_at dksX0_treaties_0 11 rfl rfl)
theorem dX0_treaties_12 : decode cX0_treaties 12 = .ok (.aload_n 0, 1) := dk_42 (dk_at dksX0_treaties_0 12 rfl rfl)
theorem dX0_treaties_13 : decode cX0_treaties 13 = .ok (.getfield 68, 3) := dk_180 0 68 (dk_at dksX0_treaties_0 13 rfl rfl)
theorem dX0_treaties_16 : decode cX0_treaties 16 = .ok (.iload_n 1, 1) := dk_27 (dk_at dksX0_treaties_0 16 rfl rfl)
theorem dX0_treaties_17 : decode cX0_treaties 17 = .ok (.invokevirtual 266, 3) := dk_182 1 10 (dk_at dksX0_treaties_0 17 rfl rfl)
theorem dX0_treaties_20 : decode cX0_treaties 20 = .ok (.pop, 1) := dk_87 (dk_at dksX0_treaties_0 20 rfl rfl)
theorem dX0_treaties_21 : decode cX0_treaties 21 = .ok (.lconst 0, 1) := dk_9 (dk_at dksX0_treaties_0 21 rfl rfl)
theorem dX0_treaties_22 : decode cX0_treaties 22 = .ok (.lstore_n 2, 1) := dk_65 (dk_at dksX0_treaties_0 22 rfl rfl)
theorem dX0_treaties_23 : decode cX0_treaties 23 = .ok (.iconst 1, 1) := dk_4 (dk_at dksX0_treaties_0 23 rfl rfl)
theorem dX0_treaties_24 : decode cX0_treaties 24 = .ok (.istore 4, 2) := dk_54 4 (dk_at dksX0_treaties_1 0 rfl rfl)
theorem dX0_treaties_26 : decode cX0_treaties 26 = .ok (.iload 4, 2) := dk_21 4 (dk_at dksX0_treaties_1 2 rfl rfl)
theorem dX0_treaties_28 : decode cX0_treaties 28 = .ok (.aload_n 0, 1) := dk_42 (dk_at dksX0_treaties_1 4 rfl rfl)
theorem dX0_treaties_29 : decode cX0_treaties 29 = .ok (.getfield 47, 3) := dk_180 0 47 (dk_at dksX0_treaties_1 5 rfl rfl)
theorem dX0_treaties_32 : decode cX0_treaties 32 = .ok (.getfield 207, 3) := dk_180 0 207 (dk_at dksX0_treaties_1 8 rfl rfl)
theorem dX0_treaties_35 : decode cX0_treaties 35 = .ok (.if_icmp .gt 38, 3) := dk_163 0 38 (dk_at dksX0_treaties_1 11 rfl rfl)
theorem dX0_treaties_38 : decode cX0_treaties 38 = .ok (.lload_n 2, 1) := dk_32 (dk_at dksX0_treaties_1 14 rfl rfl)
theorem dX0_treaties_39 : decode cX0_treaties 39 = .ok (.aload_n 0, 1) := dk_42 (dk_at dksX0_treaties_1 15 rfl rfl)
theorem dX0_treaties_40 : decode cX0_treaties 40 = .ok (.iload 4, 2) := dk_21 4 (dk_at dksX0_treaties_1 16 rfl rfl)
theorem dX0_treaties_42 : decode cX0_treaties 42 = .ok (.invokevirtual 436, 3) := dk_182 1 180 (dk_at dksX0_treaties_1 18 rfl rfl)
theorem dX0_treaties_45 : decode cX0_treaties 45 = .ok (.aload_n 0, 1) := dk_42 (dk_at dksX0_treaties_1 21 rfl rfl)
theorem dX0_treaties_46 : decode cX0_treaties 46 = .ok (.getfield 47, 3) := dk_180 0 47 (dk_at dksX0_treaties_2 0 rfl rfl)
theorem dX0_treaties_49 : decode cX0_treaties 49 = .ok (.getfield 439, 3) := dk_180 1 183 (dk_at dksX0_treaties_2 3 rfl rfl)
theorem dX0_treaties_52 : decode cX0_treaties 52 = .ok (.if_icmp .gt 12, 3) := dk_163 0 12 (dk_at dksX0_treaties_2 6 rfl rfl)
theorem dX0_treaties_55 : decode cX0_treaties 55 = .ok (.lconst 1, 1) := dk_10 (dk_at dksX0_treaties_2 9 rfl rfl)
theorem dX0_treaties_56 : decode cX0_treaties 56 = .ok (.iload 4, 2) := dk_21 4 (dk_at dksX0_treaties_2 10 rfl rfl)
theorem dX0_treaties_58 : decode cX0_treaties 58 = .ok (.iconst 1, 1) := dk_4 (dk_at dksX0_treaties_2 12 rfl rfl)
theorem dX0_treaties_59 : decode cX0_treaties 59 = .ok (.isub, 1) := dk_100 (dk_at dksX0_treaties_2 13 rfl rfl)
theorem dX0_treaties_60 : decode cX0_treaties 60 = .ok (.lshl, 1) := dk_121 (dk_at dksX0_treaties_2 14 rfl rfl)
theorem dX0_treaties_61 : decode cX0_treaties 61 = .ok (.goto 4, 3) := dk_167 0 4 (dk_at dksX0_treaties_2 15 rfl rfl)
theorem dX0_treaties_64 : decode cX0_treaties 64 = .ok (.lconst 0, 1) := dk_9 (dk_at dksX0_treaties_2 18 rfl rfl)
theorem dX0_treaties_65 : decode cX0_treaties 65 = .ok (.lor, 1) := dk_129 (dk_at dksX0_treaties_2 19 rfl rfl)
theorem dX0_treaties_66 : decode cX0_treaties 66 = .ok (.lstore_n 2, 1) := dk_65 (dk_at dksX0_treaties_2 20 rfl rfl)
theorem dX0_treaties_67 : decode cX0_treaties 67 = .ok (.iinc 4 1, 3) := dk_132 4 1 (dk_at dksX0_treaties_2 21 rfl rfl)
theorem dX0_treaties_70 : decode cX0_treaties 70 = .ok (.goto (-44), 3) := dk_167 255 212 (dk_at dksX0_treaties_3 0 rfl rfl)
theorem dX0_treaties_73 : decode cX0_treaties 73 = .ok (.lload_n 2, 1) := dk_32 (dk_at dksX0_treaties_3 3 rfl rfl)
theorem dX0_treaties_74 : decode cX0_treaties 74 = .ok (.lreturn, 1) := dk_173 (dk_at dksX0_treaties_3 4 rfl rfl)
abbrev cX0_peaceFor : ByteArray := prog_1_method_86_code
def yX0_peaceFor : MethodName := ⟨RX0, "peaceFor", "(I)I"⟩
def dkwX0_peaceFor_2 : List UInt8 := [132, 3, 1, 167, 255, 215, 28, 172]
abbrev dktX0_peaceFor_2 : List UInt8 := dkwX0_peaceFor_2 ++ []
def dkwX0_peaceFor_1 : List UInt8 := [180, 1, 14, 29, 46, 42, 180, 0, 68, 180, 1, 14, 27, 46, 100, 184, 1, 174, 184, 1, 177, 61]
abbrev dktX0_peaceFor_1 : List UInt8 := dkwX0_peaceFor_1 ++ dktX0_peaceFor_2
def dkwX0_peaceFor_0 : List UInt8 := [3, 61, 27, 4, 96, 62, 29, 42, 180, 0, 47, 180, 0, 207, 163, 0, 36, 28, 42, 180, 0, 68]
abbrev dktX0_peaceFor_0 : List UInt8 := dkwX0_peaceFor_0 ++ dktX0_peaceFor_1
theorem dksX0_peaceFor_0 : cX0_peaceFor.data.toList.drop 0 = dktX0_peaceFor_0 := by decide +kernel
theorem dksX0_peaceFor_1 : cX0_peaceFor.data.toList.drop 22 = dktX0_peaceFor_1 := dk_seg dksX0_peaceFor_0 22 rfl rfl
theorem dksX0_peaceFor_2 : cX0_peaceFor.data.toList.drop 44 = dktX0_peaceFor_2 := dk_seg dksX0_peaceFor_1 22 rfl rfl
theorem dX0_peaceFor_0 : decode cX0_peaceFor 0 = .ok (.iconst 0, 1) := dk_3 (dk_at dksX0_peaceFor_0 0 rfl rfl)
theorem dX0_peaceFor_1 : decode cX0_peaceFor 1 = .ok (.istore_n 2, 1) := dk_61 (dk_at dksX0_peaceFor_0 1 rfl rfl)
theorem dX0_peaceFor_2 : decode cX0_peaceFor 2 = .ok (.iload_n 1, 1) := dk_27 (dk_at dksX0_peaceFor_0 2 rfl rfl)
theorem dX0_peaceFor_3 : decode cX0_peaceFor 3 = .ok (.iconst 1, 1) := dk_4 (dk_at dksX0_peaceFor_0 3 rfl rfl)
theorem dX0_peaceFor_4 : decode cX0_peaceFor 4 = .ok (.iadd, 1) := dk_96 (dk_at dksX0_peaceFor_0 4 rfl rfl)
theorem dX0_peaceFor_5 : decode cX0_peaceFor 5 = .ok (.istore_n 3, 1) := dk_62 (dk_at dksX0_peaceFor_0 5 rfl rfl)
theorem dX0_peaceFor_6 : decode cX0_peaceFor 6 = .ok (.iload_n 3, 1) := dk_29 (dk_at dksX0_peaceFor_0 6 rfl rfl)
theorem dX0_peaceFor_7 : decode cX0_peaceFor 7 = .ok (.aload_n 0, 1) := dk_42 (dk_at dksX0_peaceFor_0 7 rfl rfl)
theorem dX0_peaceFor_8 : decode cX0_peaceFor 8 = .ok (.getfield 47, 3) := dk_180 0 47 (dk_at dksX0_peaceFor_0 8 rfl rfl)
theorem dX0_peaceFor_11 : decode cX0_peaceFor 11 = .ok (.getfield 207, 3) := dk_180 0 207 (dk_at dksX0_peaceFor_0 11 rfl rfl)
theorem dX0_peaceFor_14 : decode cX0_peaceFor 14 = .ok (.if_icmp .gt 36, 3) := dk_163 0 36 (dk_at dksX0_peaceFor_0 14 rfl rfl)
theorem dX0_peaceFor_17 : decode cX0_peaceFor 17 = .ok (.iload_n 2, 1) := dk_28 (dk_at dksX0_peaceFor_0 17 rfl rfl)
theorem dX0_peaceFor_18 : decode cX0_peaceFor 18 = .ok (.aload_n 0, 1) := dk_42 (dk_at dksX0_peaceFor_0 18 rfl rfl)
theorem dX0_peaceFor_19 : decode cX0_peaceFor 19 = .ok (.getfield 68, 3) := dk_180 0 68 (dk_at dksX0_peaceFor_0 19 rfl rfl)
theorem dX0_peaceFor_22 : decode cX0_peaceFor 22 = .ok (.getfield 270, 3) := dk_180 1 14 (dk_at dksX0_peaceFor_1 0 rfl rfl)
theorem dX0_peaceFor_25 : decode cX0_peaceFor 25 = .ok (.iload_n 3, 1) := dk_29 (dk_at dksX0_peaceFor_1 3 rfl rfl)
theorem dX0_peaceFor_26 : decode cX0_peaceFor 26 = .ok (.iaload, 1) := dk_46 (dk_at dksX0_peaceFor_1 4 rfl rfl)
theorem dX0_peaceFor_27 : decode cX0_peaceFor 27 = .ok (.aload_n 0, 1) := dk_42 (dk_at dksX0_peaceFor_1 5 rfl rfl)
theorem dX0_peaceFor_28 : decode cX0_peaceFor 28 = .ok (.getfield 68, 3) := dk_180 0 68 (dk_at dksX0_peaceFor_1 6 rfl rfl)
theorem dX0_peaceFor_31 : decode cX0_peaceFor 31 = .ok (.getfield 270, 3) := dk_180 1 14 (dk_at dksX0_peaceFor_1 9 rfl rfl)
theorem dX0_peaceFor_34 : decode cX0_peaceFor 34 = .ok (.iload_n 1, 1) := dk_27 (dk_at dksX0_peaceFor_1 12 rfl rfl)
theorem dX0_peaceFor_35 : decode cX0_peaceFor 35 = .ok (.iaload, 1) := dk_46 (dk_at dksX0_peaceFor_1 13 rfl rfl)
theorem dX0_peaceFor_36 : decode cX0_peaceFor 36 = .ok (.isub, 1) := dk_100 (dk_at dksX0_peaceFor_1 14 rfl rfl)
theorem dX0_peaceFor_37 : decode cX0_peaceFor 37 = .ok (.invokestatic 430, 3) := dk_184 1 174 (dk_at dksX0_peaceFor_1 15 rfl rfl)
theorem dX0_peaceFor_40 : decode cX0_peaceFor 40 = .ok (.invokestatic 433, 3) := dk_184 1 177 (dk_at dksX0_peaceFor_1 18 rfl rfl)
theorem dX0_peaceFor_43 : decode cX0_peaceFor 43 = .ok (.istore_n 2, 1) := dk_61 (dk_at dksX0_peaceFor_1 21 rfl rfl)
theorem dX0_peaceFor_44 : decode cX0_peaceFor 44 = .ok (.iinc 3 1, 3) := dk_132 3 1 (dk_at dksX0_peaceFor_2 0 rfl rfl)
theorem dX0_peaceFor_47 : decode cX0_peaceFor 47 = .ok (.goto (-41), 3) := dk_167 255 215 (dk_at dksX0_peaceFor_2 3 rfl rfl)
theorem dX0_peaceFor_50 : decode cX0_peaceFor 50 = .ok (.iload_n 2, 1) := dk_28 (dk_at dksX0_peaceFor_2 6 rfl rfl)
theorem dX0_peaceFor_51 : decode cX0_peaceFor 51 = .ok (.ireturn, 1) := dk_172 (dk_at dksX0_peaceFor_2 7 rfl rfl)
abbrev cX0_price : ByteArray := prog_1_method_88_code
def yX0_price : MethodName := ⟨RX0, "price", "(II)I"⟩
def dkwX0_price_1 : List UInt8 := [154, 0, 6, 16, 254, 172, 42, 180, 0, 68, 28, 182, 1, 10, 87, 42, 27, 182, 1, 180, 172]
abbrev dktX0_price_1 : List UInt8 := dkwX0_price_1 ++ []
def dkwX0_price_0 : List UInt8 := [42, 28, 182, 1, 1, 153, 0, 20, 27, 133, 10, 42, 180, 0, 47, 180, 0, 207, 133, 184, 0, 11]
abbrev dktX0_price_0 : List UInt8 := dkwX0_price_0 ++ dktX0_price_1
theorem dksX0_price_0 : cX0_price.data.toList.drop 0 = dktX0_price_0 := by decide +kernel
theorem dksX0_price_1 : cX0_price.data.toList.drop 22 = dktX0_price_1 := dk_seg dksX0_price_0 22 rfl rfl
theorem dX0_price_0 : decode cX0_price 0 = .ok (.aload_n 0, 1) := dk_42 (dk_at dksX0_price_0 0 rfl rfl)
theorem dX0_price_1 : decode cX0_price 1 = .ok (.iload_n 2, 1) := dk_28 (dk_at dksX0_price_0 1 rfl rfl)
theorem dX0_price_2 : decode cX0_price 2 = .ok (.invokevirtual 257, 3) := dk_182 1 1 (dk_at dksX0_price_0 2 rfl rfl)
theorem dX0_price_5 : decode cX0_price 5 = .ok (.ifCond .eq 20, 3) := dk_153 0 20 (dk_at dksX0_price_0 5 rfl rfl)
theorem dX0_price_8 : decode cX0_price 8 = .ok (.iload_n 1, 1) := dk_27 (dk_at dksX0_price_0 8 rfl rfl)
theorem dX0_price_9 : decode cX0_price 9 = .ok (.i2l, 1) := dk_133 (dk_at dksX0_price_0 9 rfl rfl)
theorem dX0_price_10 : decode cX0_price 10 = .ok (.lconst 1, 1) := dk_10 (dk_at dksX0_price_0 10 rfl rfl)
theorem dX0_price_11 : decode cX0_price 11 = .ok (.aload_n 0, 1) := dk_42 (dk_at dksX0_price_0 11 rfl rfl)
theorem dX0_price_12 : decode cX0_price 12 = .ok (.getfield 47, 3) := dk_180 0 47 (dk_at dksX0_price_0 12 rfl rfl)
theorem dX0_price_15 : decode cX0_price 15 = .ok (.getfield 207, 3) := dk_180 0 207 (dk_at dksX0_price_0 15 rfl rfl)
theorem dX0_price_18 : decode cX0_price 18 = .ok (.i2l, 1) := dk_133 (dk_at dksX0_price_0 18 rfl rfl)
theorem dX0_price_19 : decode cX0_price 19 = .ok (.invokestatic 11, 3) := dk_184 0 11 (dk_at dksX0_price_0 19 rfl rfl)
theorem dX0_price_22 : decode cX0_price 22 = .ok (.ifCond .ne 6, 3) := dk_154 0 6 (dk_at dksX0_price_1 0 rfl rfl)
theorem dX0_price_25 : decode cX0_price 25 = .ok (.bipush (-2), 2) := dk_16 254 (dk_at dksX0_price_1 3 rfl rfl)
theorem dX0_price_27 : decode cX0_price 27 = .ok (.ireturn, 1) := dk_172 (dk_at dksX0_price_1 5 rfl rfl)
theorem dX0_price_28 : decode cX0_price 28 = .ok (.aload_n 0, 1) := dk_42 (dk_at dksX0_price_1 6 rfl rfl)
theorem dX0_price_29 : decode cX0_price 29 = .ok (.getfield 68, 3) := dk_180 0 68 (dk_at dksX0_price_1 7 rfl rfl)
theorem dX0_price_32 : decode cX0_price 32 = .ok (.iload_n 2, 1) := dk_28 (dk_at dksX0_price_1 10 rfl rfl)
theorem dX0_price_33 : decode cX0_price 33 = .ok (.invokevirtual 266, 3) := dk_182 1 10 (dk_at dksX0_price_1 11 rfl rfl)
theorem dX0_price_36 : decode cX0_price 36 = .ok (.pop, 1) := dk_87 (dk_at dksX0_price_1 14 rfl rfl)
theorem dX0_price_37 : decode cX0_price 37 = .ok (.aload_n 0, 1) := dk_42 (dk_at dksX0_price_1 15 rfl rfl)
theorem dX0_price_38 : decode cX0_price 38 = .ok (.iload_n 1, 1) := dk_27 (dk_at dksX0_price_1 16 rfl rfl)
theorem dX0_price_39 : decode cX0_price 39 = .ok (.invokevirtual 436, 3) := dk_182 1 180 (dk_at dksX0_price_1 17 rfl rfl)
theorem dX0_price_42 : decode cX0_price 42 = .ok (.ireturn, 1) := dk_172 (dk_at dksX0_price_1 20 rfl rfl)
abbrev cX0_spies : ByteArray := prog_1_method_90_code
def yX0_spies : MethodName := ⟨RX0, "spies", "(I)I"⟩
def dkwX0_spies_0 : List UInt8 := [42, 27, 182, 1, 1, 153, 0, 11, 42, 27, 182, 1, 186, 167, 0, 5, 16, 254, 172]
abbrev dktX0_spies_0 : List UInt8 := dkwX0_spies_0 ++ []
theorem dksX0_spies_0 : cX0_spies.data.toList.drop 0 = dktX0_spies_0 := by decide +kernel
theorem dX0_spies_0 : decode cX0_spies 0 = .ok (.aload_n 0, 1) := dk_42 (dk_at dksX0_spies_0 0 rfl rfl)
theorem dX0_spies_1 : decode cX0_spies 1 = .ok (.iload_n 1, 1) := dk_27 (dk_at dksX0_spies_0 1 rfl rfl)
theorem dX0_spies_2 : decode cX0_spies 2 = .ok (.invokevirtual 257, 3) := dk_182 1 1 (dk_at dksX0_spies_0 2 rfl rfl)
theorem dX0_spies_5 : decode cX0_spies 5 = .ok (.ifCond .eq 11, 3) := dk_153 0 11 (dk_at dksX0_spies_0 5 rfl rfl)
theorem dX0_spies_8 : decode cX0_spies 8 = .ok (.aload_n 0, 1) := dk_42 (dk_at dksX0_spies_0 8 rfl rfl)
theorem dX0_spies_9 : decode cX0_spies 9 = .ok (.iload_n 1, 1) := dk_27 (dk_at dksX0_spies_0 9 rfl rfl)
theorem dX0_spies_10 : decode cX0_spies 10 = .ok (.invokevirtual 442, 3) := dk_182 1 186 (dk_at dksX0_spies_0 10 rfl rfl)
theorem dX0_spies_13 : decode cX0_spies 13 = .ok (.goto 5, 3) := dk_167 0 5 (dk_at dksX0_spies_0 13 rfl rfl)
theorem dX0_spies_16 : decode cX0_spies 16 = .ok (.bipush (-2), 2) := dk_16 254 (dk_at dksX0_spies_0 16 rfl rfl)
theorem dX0_spies_18 : decode cX0_spies 18 = .ok (.ireturn, 1) := dk_172 (dk_at dksX0_spies_0 18 rfl rfl)
abbrev cX0_spiesOf : ByteArray := prog_1_method_89_code
def yX0_spiesOf : MethodName := ⟨RX0, "spiesOf", "(I)I"⟩
def dkwX0_spiesOf_2 : List UInt8 := [4, 29, 120, 167, 0, 4, 3, 128, 61, 132, 3, 1, 167, 255, 201, 28, 172]
abbrev dktX0_spiesOf_2 : List UInt8 := dkwX0_spiesOf_2 ++ []
def dkwX0_spiesOf_1 : List UInt8 := [180, 0, 47, 180, 0, 240, 29, 185, 0, 154, 2, 0, 192, 0, 2, 182, 0, 243, 2, 130, 126, 154, 0, 9]
abbrev dktX0_spiesOf_1 : List UInt8 := dkwX0_spiesOf_1 ++ dktX0_spiesOf_2
def dkwX0_spiesOf_0 : List UInt8 := [3, 61, 3, 62, 29, 42, 180, 0, 47, 180, 0, 240, 185, 0, 148, 1, 0, 162, 0, 45, 28, 27, 42]
abbrev dktX0_spiesOf_0 : List UInt8 := dkwX0_spiesOf_0 ++ dktX0_spiesOf_1
theorem dksX0_spiesOf_0 : cX0_spiesOf.data.toList.drop 0 = dktX0_spiesOf_0 := by decide +kernel
theorem dksX0_spiesOf_1 : cX0_spiesOf.data.toList.drop 23 = dktX0_spiesOf_1 := dk_seg dksX0_spiesOf_0 23 rfl rfl
theorem dksX0_spiesOf_2 : cX0_spiesOf.data.toList.drop 47 = dktX0_spiesOf_2 := dk_seg dksX0_spiesOf_1 24 rfl rfl
theorem dX0_spiesOf_0 : decode cX0_spiesOf 0 = .ok (.iconst 0, 1) := dk_3 (dk_at dksX0_spiesOf_0 0 rfl rfl)
theorem dX0_spiesOf_1 : decode cX0_spiesOf 1 = .ok (.istore_n 2, 1) := dk_61 (dk_at dksX0_spiesOf_0 1 rfl rfl)
theorem dX0_spiesOf_2 : decode cX0_spiesOf 2 = .ok (.iconst 0, 1) := dk_3 (dk_at dksX0_spiesOf_0 2 rfl rfl)
theorem dX0_spiesOf_3 : decode cX0_spiesOf 3 = .ok (.istore_n 3, 1) := dk_62 (dk_at dksX0_spiesOf_0 3 rfl rfl)
theorem dX0_spiesOf_4 : decode cX0_spiesOf 4 = .ok (.iload_n 3, 1) := dk_29 (dk_at dksX0_spiesOf_0 4 rfl rfl)
theorem dX0_spiesOf_5 : decode cX0_spiesOf 5 = .ok (.aload_n 0, 1) := dk_42 (dk_at dksX0_spiesOf_0 5 rfl rfl)
theorem dX0_spiesOf_6 : decode cX0_spiesOf 6 = .ok (.getfield 47, 3) := dk_180 0 47 (dk_at dksX0_spiesOf_0 6 rfl rfl)
theorem dX0_spiesOf_9 : decode cX0_spiesOf 9 = .ok (.getfield 240, 3) := dk_180 0 240 (dk_at dksX0_spiesOf_0 9 rfl rfl)
theorem dX0_spiesOf_12 : decode cX0_spiesOf 12 = .ok (.invokeinterface 148 1, 5) := by decide +kernel
theorem dX0_spiesOf_17 : decode cX0_spiesOf 17 = .ok (.if_icmp .ge 45, 3) := dk_162 0 45 (dk_at dksX0_spiesOf_0 17 rfl rfl)
theorem dX0_spiesOf_20 : decode cX0_spiesOf 20 = .ok (.iload_n 2, 1) := dk_28 (dk_at dksX0_spiesOf_0 20 rfl rfl)
theorem dX0_spiesOf_21 : decode cX0_spiesOf 21 = .ok (.iload_n 1, 1) := dk_27 (dk_at dksX0_spiesOf_0 21 rfl rfl)
theorem dX0_spiesOf_22 : decode cX0_spiesOf 22 = .ok (.aload_n 0, 1) := dk_42 (dk_at dksX0_spiesOf_0 22 rfl rfl)
theorem dX0_spiesOf_23 : decode cX0_spiesOf 23 = .ok (.getfield 47, 3) := dk_180 0 47 (dk_at dksX0_spiesOf_1 0 rfl rfl)
theorem dX0_spiesOf_26 : decode cX0_spiesOf 26 = .ok (.getfield 240, 3) := dk_180 0 240 (dk_at dksX0_spiesOf_1 3 rfl rfl)
theorem dX0_spiesOf_29 : decode cX0_spiesOf 29 = .ok (.iload_n 3, 1) := dk_29 (dk_at dksX0_spiesOf_1 6 rfl rfl)
theorem dX0_spiesOf_30 : decode cX0_spiesOf 30 = .ok (.invokeinterface 154 2, 5) := by decide +kernel
theorem dX0_spiesOf_35 : decode cX0_spiesOf 35 = .ok (.checkcast 2, 3) := dk_192 0 2 (dk_at dksX0_spiesOf_1 12 rfl rfl)
theorem dX0_spiesOf_38 : decode cX0_spiesOf 38 = .ok (.invokevirtual 243, 3) := dk_182 0 243 (dk_at dksX0_spiesOf_1 15 rfl rfl)
theorem dX0_spiesOf_41 : decode cX0_spiesOf 41 = .ok (.iconst (-1), 1) := dk_2 (dk_at dksX0_spiesOf_1 18 rfl rfl)
theorem dX0_spiesOf_42 : decode cX0_spiesOf 42 = .ok (.ixor, 1) := dk_130 (dk_at dksX0_spiesOf_1 19 rfl rfl)
theorem dX0_spiesOf_43 : decode cX0_spiesOf 43 = .ok (.iand, 1) := dk_126 (dk_at dksX0_spiesOf_1 20 rfl rfl)
theorem dX0_spiesOf_44 : decode cX0_spiesOf 44 = .ok (.ifCond .ne 9, 3) := dk_154 0 9 (dk_at dksX0_spiesOf_1 21 rfl rfl)
theorem dX0_spiesOf_47 : decode cX0_spiesOf 47 = .ok (.iconst 1, 1) := dk_4 (dk_at dksX0_spiesOf_2 0 rfl rfl)
theorem dX0_spiesOf_48 : decode cX0_spiesOf 48 = .ok (.iload_n 3, 1) := dk_29 (dk_at dksX0_spiesOf_2 1 rfl rfl)
theorem dX0_spiesOf_49 : decode cX0_spiesOf 49 = .ok (.ishl, 1) := dk_120 (dk_at dksX0_spiesOf_2 2 rfl rfl)
theorem dX0_spiesOf_50 : decode cX0_spiesOf 50 = .ok (.goto 4, 3) := dk_167 0 4 (dk_at dksX0_spiesOf_2 3 rfl rfl)
theorem dX0_spiesOf_53 : decode cX0_spiesOf 53 = .ok (.iconst 0, 1) := dk_3 (dk_at dksX0_spiesOf_2 6 rfl rfl)
theorem dX0_spiesOf_54 : decode cX0_spiesOf 54 = .ok (.ior, 1) := dk_128 (dk_at dksX0_spiesOf_2 7 rfl rfl)
theorem dX0_spiesOf_55 : decode cX0_spiesOf 55 = .ok (.istore_n 2, 1) := dk_61 (dk_at dksX0_spiesOf_2 8 rfl rfl)
theorem dX0_spiesOf_56 : decode cX0_spiesOf 56 = .ok (.iinc 3 1, 3) := dk_132 3 1 (dk_at dksX0_spiesOf_2 9 rfl rfl)
theorem dX0_spiesOf_59 : decode cX0_spiesOf 59 = .ok (.goto (-55), 3) := dk_167 255 201 (dk_at dksX0_spiesOf_2 12 rfl rfl)
theorem dX0_spiesOf_62 : decode cX0_spiesOf 62 = .ok (.iload_n 2, 1) := dk_28 (dk_at dksX0_spiesOf_2 15 rfl rfl)
theorem dX0_spiesOf_63 : decode cX0_spiesOf 63 = .ok (.ireturn, 1) := dk_172 (dk_at dksX0_spiesOf_2 16 rfl rfl)
abbrev cX0_watch : ByteArray := prog_1_method_92_code
def yX0_watch : MethodName := ⟨RX0, "watch", "(I)I"⟩
def dkwX0_watch_0 : List UInt8 := [42, 27, 182, 1, 1, 154, 0, 6, 16, 254, 172, 42, 27, 182, 1, 195, 42, 180, 1, 189, 172]
abbrev dktX0_watch_0 : List UInt8 := dkwX0_watch_0 ++ []
theorem dksX0_watch_0 : cX0_watch.data.toList.drop 0 = dktX0_watch_0 := by decide +kernel
theorem dX0_watch_0 : decode cX0_watch 0 = .ok (.aload_n 0, 1) := dk_42 (dk_at dksX0_watch_0 0 rfl rfl)
theorem dX0_watch_1 : decode cX0_watch 1 = .ok (.iload_n 1, 1) := dk_27 (dk_at dksX0_watch_0 1 rfl rfl)
theorem dX0_watch_2 : decode cX0_watch 2 = .ok (.invokevirtual 257, 3) := dk_182 1 1 (dk_at dksX0_watch_0 2 rfl rfl)
theorem dX0_watch_5 : decode cX0_watch 5 = .ok (.ifCond .ne 6, 3) := dk_154 0 6 (dk_at dksX0_watch_0 5 rfl rfl)
theorem dX0_watch_8 : decode cX0_watch 8 = .ok (.bipush (-2), 2) := dk_16 254 (dk_at dksX0_watch_0 8 rfl rfl)
theorem dX0_watch_10 : decode cX0_watch 10 = .ok (.ireturn, 1) := dk_172 (dk_at dksX0_watch_0 10 rfl rfl)
theorem dX0_watch_11 : decode cX0_watch 11 = .ok (.aload_n 0, 1) := dk_42 (dk_at dksX0_watch_0 11 rfl rfl)
theorem dX0_watch_12 : decode cX0_watch 12 = .ok (.iload_n 1, 1) := dk_27 (dk_at dksX0_watch_0 12 rfl rfl)
theorem dX0_watch_13 : decode cX0_watch 13 = .ok (.invokevirtual 451, 3) := dk_182 1 195 (dk_at dksX0_watch_0 13 rfl rfl)
theorem dX0_watch_16 : decode cX0_watch 16 = .ok (.aload_n 0, 1) := dk_42 (dk_at dksX0_watch_0 16 rfl rfl)
theorem dX0_watch_17 : decode cX0_watch 17 = .ok (.getfield 445, 3) := dk_180 1 189 (dk_at dksX0_watch_0 17 rfl rfl)
theorem dX0_watch_20 : decode cX0_watch 20 = .ok (.ireturn, 1) := dk_172 (dk_at dksX0_watch_0 20 rfl rfl)
abbrev cX0_watches : ByteArray := prog_1_method_91_code
def yX0_watches : MethodName := ⟨RX0, "watches", "(I)V"⟩
def dkwX0_watches_4 : List UInt8 := [167, 255, 183, 177]
abbrev dktX0_watches_4 : List UInt8 := dkwX0_watches_4 ++ []
def dkwX0_watches_3 : List UInt8 := [42, 180, 1, 192, 161, 0, 6, 167, 0, 14, 42, 29, 181, 1, 189, 42, 21, 5, 181, 1, 192, 132, 3, 1]
abbrev dktX0_watches_3 : List UInt8 := dkwX0_watches_3 ++ dktX0_watches_4
def dkwX0_watches_2 : List UInt8 := [182, 1, 186, 184, 1, 41, 54, 4, 21, 4, 28, 184, 1, 41, 21, 4, 100, 184, 1, 177, 54, 5, 21, 5]
abbrev dktX0_watches_2 : List UInt8 := dkwX0_watches_2 ++ dktX0_watches_3
def dkwX0_watches_1 : List UInt8 := [182, 0, 160, 162, 0, 71, 27, 29, 184, 0, 246, 153, 0, 6, 167, 0, 54, 42, 27, 4, 29, 120, 128]
abbrev dktX0_watches_1 : List UInt8 := dkwX0_watches_1 ++ dktX0_watches_2
def dkwX0_watches_0 : List UInt8 := [42, 27, 182, 1, 186, 61, 42, 2, 181, 1, 189, 42, 28, 184, 1, 41, 181, 1, 192, 3, 62, 29, 42]
abbrev dktX0_watches_0 : List UInt8 := dkwX0_watches_0 ++ dktX0_watches_1
theorem dksX0_watches_0 : cX0_watches.data.toList.drop 0 = dktX0_watches_0 := by decide +kernel
theorem dksX0_watches_1 : cX0_watches.data.toList.drop 23 = dktX0_watches_1 := dk_seg dksX0_watches_0 23 rfl rfl
theorem dksX0_watches_2 : cX0_watches.data.toList.drop 46 = dktX0_watches_2 := dk_seg dksX0_watches_1 23 rfl rfl
theorem dksX0_watches_3 : cX0_watches.data.toList.drop 70 = dktX0_watches_3 := dk_seg dksX0_watches_2 24 rfl rfl
theorem dksX0_watches_4 : cX0_watches.data.toList.drop 94 = dktX0_watches_4 := dk_seg dksX0_watches_3 24 rfl rfl
theorem dX0_watches_0 : decode cX0_watches 0 = .ok (.aload_n 0, 1) := dk_42 (dk_at dksX0_watches_0 0 rfl rfl)
theorem dX0_watches_1 : decode cX0_watches 1 = .ok (.iload_n 1, 1) := dk_27 (dk_at dksX0_watches_0 1 rfl rfl)
theorem dX0_watches_2 : decode cX0_watches 2 = .ok (.invokevirtual 442, 3) := dk_182 1 186 (dk_at dksX0_watches_0 2 rfl rfl)
theorem dX0_watches_5 : decode cX0_watches 5 = .ok (.istore_n 2, 1) := dk_61 (dk_at dksX0_watches_0 5 rfl rfl)
theorem dX0_watches_6 : decode cX0_watches 6 = .ok (.aload_n 0, 1) := dk_42 (dk_at dksX0_watches_0 6 rfl rfl)
theorem dX0_watches_7 : decode cX0_watches 7 = .ok (.iconst (-1), 1) := dk_2 (dk_at dksX0_watches_0 7 rfl rfl)
theorem dX0_watches_8 : decode cX0_watches 8 = .ok (.putfield 445, 3) := dk_181 1 189 (dk_at dksX0_watches_0 8 rfl rfl)
theorem dX0_watches_11 : decode cX0_watches 11 = .ok (.aload_n 0, 1) := dk_42 (dk_at dksX0_watches_0 11 rfl rfl)
theorem dX0_watches_12 : decode cX0_watches 12 = .ok (.iload_n 2, 1) := dk_28 (dk_at dksX0_watches_0 12 rfl rfl)
theorem dX0_watches_13 : decode cX0_watches 13 = .ok (.invokestatic 297, 3) := dk_184 1 41 (dk_at dksX0_watches_0 13 rfl rfl)
theorem dX0_watches_16 : decode cX0_watches 16 = .ok (.putfield 448, 3) := dk_181 1 192 (dk_at dksX0_watches_0 16 rfl rfl)
theorem dX0_watches_19 : decode cX0_watches 19 = .ok (.iconst 0, 1) := dk_3 (dk_at dksX0_watches_0 19 rfl rfl)
theorem dX0_watches_20 : decode cX0_watches 20 = .ok (.istore_n 3, 1) := dk_62 (dk_at dksX0_watches_0 20 rfl rfl)
theorem dX0_watches_21 : decode cX0_watches 21 = .ok (.iload_n 3, 1) := dk_29 (dk_at dksX0_watches_0 21 rfl rfl)
theorem dX0_watches_22 : decode cX0_watches 22 = .ok (.aload_n 0, 1) := dk_42 (dk_at dksX0_watches_0 22 rfl rfl)
theorem dX0_watches_23 : decode cX0_watches 23 = .ok (.invokevirtual 160, 3) := dk_182 0 160 (dk_at dksX0_watches_1 0 rfl rfl)
theorem dX0_watches_26 : decode cX0_watches 26 = .ok (.if_icmp .ge 71, 3) := dk_162 0 71 (dk_at dksX0_watches_1 3 rfl rfl)
theorem dX0_watches_29 : decode cX0_watches 29 = .ok (.iload_n 1, 1) := dk_27 (dk_at dksX0_watches_1 6 rfl rfl)
theorem dX0_watches_30 : decode cX0_watches 30 = .ok (.iload_n 3, 1) := dk_29 (dk_at dksX0_watches_1 7 rfl rfl)
theorem dX0_watches_31 : decode cX0_watches 31 = .ok (.invokestatic 246, 3) := dk_184 0 246 (dk_at dksX0_watches_1 8 rfl rfl)
theorem dX0_watches_34 : decode cX0_watches 34 = .ok (.ifCond .eq 6, 3) := dk_153 0 6 (dk_at dksX0_watches_1 11 rfl rfl)
theorem dX0_watches_37 : decode cX0_watches 37 = .ok (.goto 54, 3) := dk_167 0 54 (dk_at dksX0_watches_1 14 rfl rfl)
theorem dX0_watches_40 : decode cX0_watches 40 = .ok (.aload_n 0, 1) := dk_42 (dk_at dksX0_watches_1 17 rfl rfl)
theorem dX0_watches_41 : decode cX0_watches 41 = .ok (.iload_n 1, 1) := dk_27 (dk_at dksX0_watches_1 18 rfl rfl)
theorem dX0_watches_42 : decode cX0_watches 42 = .ok (.iconst 1, 1) := dk_4 (dk_at dksX0_watches_1 19 rfl rfl)
theorem dX0_watches_43 : decode cX0_watches 43 = .ok (.iload_n 3, 1) := dk_29 (dk_at dksX0_watches_1 20 rfl rfl)
theorem dX0_watches_44 : decode cX0_watches 44 = .ok (.ishl, 1) := dk_120 (dk_at dksX0_watches_1 21 rfl rfl)
theorem dX0_watches_45 : decode cX0_watches 45 = .ok (.ior, 1) := dk_128 (dk_at dksX0_watches_1 22 rfl rfl)
theorem dX0_watches_46 : decode cX0_watches 46 = .ok (.invokevirtual 442, 3) := dk_182 1 186 (dk_at dksX0_watches_2 0 rfl rfl)
theorem dX0_watches_49 : decode cX0_watches 49 = .ok (.invokestatic 297, 3) := dk_184 1 41 (dk_at dksX0_watches_2 3 rfl rfl)
theorem dX0_watches_52 : decode cX0_watches 52 = .ok (.istore 4, 2) := dk_54 4 (dk_at dksX0_watches_2 6 rfl rfl)
theorem dX0_watches_54 : decode cX0_watches 54 = .ok (.iload 4, 2) := dk_21 4 (dk_at dksX0_watches_2 8 rfl rfl)
theorem dX0_watches_56 : decode cX0_watches 56 = .ok (.iload_n 2, 1) := dk_28 (dk_at dksX0_watches_2 10 rfl rfl)
theorem dX0_watches_57 : decode cX0_watches 57 = .ok (.invokestatic 297, 3) := dk_184 1 41 (dk_at dksX0_watches_2 11 rfl rfl)
theorem dX0_watches_60 : decode cX0_watches 60 = .ok (.iload 4, 2) := dk_21 4 (dk_at dksX0_watches_2 14 rfl rfl)
theorem dX0_watches_62 : decode cX0_watches 62 = .ok (.isub, 1) := dk_100 (dk_at dksX0_watches_2 16 rfl rfl)
theorem dX0_watches_63 : decode cX0_watches 63 = .ok (.invokestatic 433, 3) := dk_184 1 177 (dk_at dksX0_watches_2 17 rfl rfl)
theorem dX0_watches_66 : decode cX0_watches 66 = .ok (.istore 5, 2) := dk_54 5 (dk_at dksX0_watches_2 20 rfl rfl)
theorem dX0_watches_68 : decode cX0_watches 68 = .ok (.iload 5, 2) := dk_21 5 (dk_at dksX0_watches_2 22 rfl rfl)
theorem dX0_watches_70 : decode cX0_watches 70 = .ok (.aload_n 0, 1) := dk_42 (dk_at dksX0_watches_3 0 rfl rfl)
theorem dX0_watches_71 : decode cX0_watches 71 = .ok (.getfield 448, 3) := dk_180 1 192 (dk_at dksX0_watches_3 1 rfl rfl)
theorem dX0_watches_74 : decode cX0_watches 74 = .ok (.if_icmp .lt 6, 3) := dk_161 0 6 (dk_at dksX0_watches_3 4 rfl rfl)
theorem dX0_watches_77 : decode cX0_watches 77 = .ok (.goto 14, 3) := dk_167 0 14 (dk_at dksX0_watches_3 7 rfl rfl)
theorem dX0_watches_80 : decode cX0_watches 80 = .ok (.aload_n 0, 1) := dk_42 (dk_at dksX0_watches_3 10 rfl rfl)
theorem dX0_watches_81 : decode cX0_watches 81 = .ok (.iload_n 3, 1) := dk_29 (dk_at dksX0_watches_3 11 rfl rfl)
theorem dX0_watches_82 : decode cX0_watches 82 = .ok (.putfield 445, 3) := dk_181 1 189 (dk_at dksX0_watches_3 12 rfl rfl)
theorem dX0_watches_85 : decode cX0_watches 85 = .ok (.aload_n 0, 1) := dk_42 (dk_at dksX0_watches_3 15 rfl rfl)
theorem dX0_watches_86 : decode cX0_watches 86 = .ok (.iload 5, 2) := dk_21 5 (dk_at dksX0_watches_3 16 rfl rfl)
theorem dX0_watches_88 : decode cX0_watches 88 = .ok (.putfield 448, 3) := dk_181 1 192 (dk_at dksX0_watches_3 18 rfl rfl)
theorem dX0_watches_91 : decode cX0_watches 91 = .ok (.iinc 3 1, 3) := dk_132 3 1 (dk_at dksX0_watches_3 21 rfl rfl)
theorem dX0_watches_94 : decode cX0_watches 94 = .ok (.goto (-73), 3) := dk_167 255 183 (dk_at dksX0_watches_4 0 rfl rfl)
theorem dX0_watches_97 : decode cX0_watches 97 = .ok (.return_, 1) := dk_177 (dk_at dksX0_watches_4 3 rfl rfl)
abbrev cX0_leaves : ByteArray := prog_1_method_93_code
def yX0_leaves : MethodName := ⟨RX0, "leaves", "(I)I"⟩
def dkwX0_leaves_0 : List UInt8 := [42, 27, 182, 1, 1, 154, 0, 6, 16, 254, 172, 42, 27, 182, 1, 195, 42, 180, 1, 192, 172]
abbrev dktX0_leaves_0 : List UInt8 := dkwX0_leaves_0 ++ []
theorem dksX0_leaves_0 : cX0_leaves.data.toList.drop 0 = dktX0_leaves_0 := by decide +kernel
theorem dX0_leaves_0 : decode cX0_leaves 0 = .ok (.aload_n 0, 1) := dk_42 (dk_at dksX0_leaves_0 0 rfl rfl)
theorem dX0_leaves_1 : decode cX0_leaves 1 = .ok (.iload_n 1, 1) := dk_27 (dk_at dksX0_leaves_0 1 rfl rfl)
theorem dX0_leaves_2 : decode cX0_leaves 2 = .ok (.invokevirtual 257, 3) := dk_182 1 1 (dk_at dksX0_leaves_0 2 rfl rfl)
theorem dX0_leaves_5 : decode cX0_leaves 5 = .ok (.ifCond .ne 6, 3) := dk_154 0 6 (dk_at dksX0_leaves_0 5 rfl rfl)
theorem dX0_leaves_8 : decode cX0_leaves 8 = .ok (.bipush (-2), 2) := dk_16 254 (dk_at dksX0_leaves_0 8 rfl rfl)
theorem dX0_leaves_10 : decode cX0_leaves 10 = .ok (.ireturn, 1) := dk_172 (dk_at dksX0_leaves_0 10 rfl rfl)
theorem dX0_leaves_11 : decode cX0_leaves 11 = .ok (.aload_n 0, 1) := dk_42 (dk_at dksX0_leaves_0 11 rfl rfl)
theorem dX0_leaves_12 : decode cX0_leaves 12 = .ok (.iload_n 1, 1) := dk_27 (dk_at dksX0_leaves_0 12 rfl rfl)
theorem dX0_leaves_13 : decode cX0_leaves 13 = .ok (.invokevirtual 451, 3) := dk_182 1 195 (dk_at dksX0_leaves_0 13 rfl rfl)
theorem dX0_leaves_16 : decode cX0_leaves 16 = .ok (.aload_n 0, 1) := dk_42 (dk_at dksX0_leaves_0 16 rfl rfl)
theorem dX0_leaves_17 : decode cX0_leaves 17 = .ok (.getfield 448, 3) := dk_180 1 192 (dk_at dksX0_leaves_0 17 rfl rfl)
theorem dX0_leaves_20 : decode cX0_leaves 20 = .ok (.ireturn, 1) := dk_172 (dk_at dksX0_leaves_0 20 rfl rfl)
abbrev cX0_known : ByteArray := prog_1_method_94_code
def yX0_known : MethodName := ⟨RX0, "known", "(II)I"⟩
def dkwX0_known_6 : List UInt8 := [21, 5, 172]
abbrev dktX0_known_6 : List UInt8 := dkwX0_known_6 ++ []
def dkwX0_known_5 : List UInt8 := [132, 6, 1, 167, 255, 174, 29, 154, 0, 7, 3, 167, 0, 14, 28, 154, 0, 8, 21, 4, 167, 0, 5]
abbrev dktX0_known_5 : List UInt8 := dkwX0_known_5 ++ dktX0_known_6
def dkwX0_known_4 : List UInt8 := [42, 180, 0, 47, 180, 0, 240, 21, 6, 185, 0, 154, 2, 0, 192, 0, 2, 182, 0, 243, 128, 54, 5]
abbrev dktX0_known_4 : List UInt8 := dkwX0_known_4 ++ dktX0_known_5
def dkwX0_known_3 : List UInt8 := [180, 0, 47, 180, 0, 240, 21, 6, 185, 0, 154, 2, 0, 192, 0, 2, 182, 0, 243, 126, 54, 4, 21, 5]
abbrev dktX0_known_3 : List UInt8 := dkwX0_known_3 ++ dktX0_known_4
def dkwX0_known_2 : List UInt8 := [185, 0, 148, 1, 0, 162, 0, 71, 29, 21, 6, 184, 0, 246, 154, 0, 6, 167, 0, 53, 21, 4, 42]
abbrev dktX0_known_2 : List UInt8 := dkwX0_known_2 ++ dktX0_known_3
def dkwX0_known_1 : List UInt8 := [42, 180, 0, 47, 182, 0, 162, 54, 4, 3, 54, 5, 3, 54, 6, 21, 6, 42, 180, 0, 47, 180, 0, 240]
abbrev dktX0_known_1 : List UInt8 := dkwX0_known_1 ++ dktX0_known_2
def dkwX0_known_0 : List UInt8 := [42, 27, 182, 1, 1, 153, 0, 10, 28, 184, 0, 231, 154, 0, 6, 16, 254, 172, 42, 27, 182, 1, 186, 62]
abbrev dktX0_known_0 : List UInt8 := dkwX0_known_0 ++ dktX0_known_1
theorem dksX0_known_0 : cX0_known.data.toList.drop 0 = dktX0_known_0 := by decide +kernel
theorem dksX0_known_1 : cX0_known.data.toList.drop 24 = dktX0_known_1 := dk_seg dksX0_known_0 24 rfl rfl
theorem dksX0_known_2 : cX0_known.data.toList.drop 48 = dktX0_known_2 := dk_seg dksX0_known_1 24 rfl rfl
theorem dksX0_known_3 : cX0_known.data.toList.drop 71 = dktX0_known_3 := dk_seg dksX0_known_2 23 rfl rfl
theorem dksX0_known_4 : cX0_known.data.toList.drop 95 = dktX0_known_4 := dk_seg dksX0_known_3 24 rfl rfl
theorem dksX0_known_5 : cX0_known.data.toList.drop 118 = dktX0_known_5 := dk_seg dksX0_known_4 23 rfl rfl
theorem dksX0_known_6 : cX0_known.data.toList.drop 141 = dktX0_known_6 := dk_seg dksX0_known_5 23 rfl rfl
theorem dX0_known_0 : decode cX0_known 0 = .ok (.aload_n 0, 1) := dk_42 (dk_at dksX0_known_0 0 rfl rfl)
theorem dX0_known_1 : decode cX0_known 1 = .ok (.iload_n 1, 1) := dk_27 (dk_at dksX0_known_0 1 rfl rfl)
theorem dX0_known_2 : decode cX0_known 2 = .ok (.invokevirtual 257, 3) := dk_182 1 1 (dk_at dksX0_known_0 2 rfl rfl)
theorem dX0_known_5 : decode cX0_known 5 = .ok (.ifCond .eq 10, 3) := dk_153 0 10 (dk_at dksX0_known_0 5 rfl rfl)
theorem dX0_known_8 : decode cX0_known 8 = .ok (.iload_n 2, 1) := dk_28 (dk_at dksX0_known_0 8 rfl rfl)
theorem dX0_known_9 : decode cX0_known 9 = .ok (.invokestatic 231, 3) := dk_184 0 231 (dk_at dksX0_known_0 9 rfl rfl)
theorem dX0_known_12 : decode cX0_known 12 = .ok (.ifCond .ne 6, 3) := dk_154 0 6 (dk_at dksX0_known_0 12 rfl rfl)
theorem dX0_known_15 : decode cX0_known 15 = .ok (.bipush (-2), 2) := dk_16 254 (dk_at dksX0_known_0 15 rfl rfl)
theorem dX0_known_17 : decode cX0_known 17 = .ok (.ireturn, 1) := dk_172 (dk_at dksX0_known_0 17 rfl rfl)
theorem dX0_known_18 : decode cX0_known 18 = .ok (.aload_n 0, 1) := dk_42 (dk_at dksX0_known_0 18 rfl rfl)
theorem dX0_known_19 : decode cX0_known 19 = .ok (.iload_n 1, 1) := dk_27 (dk_at dksX0_known_0 19 rfl rfl)
theorem dX0_known_20 : decode cX0_known 20 = .ok (.invokevirtual 442, 3) := dk_182 1 186 (dk_at dksX0_known_0 20 rfl rfl)
theorem dX0_known_23 : decode cX0_known 23 = .ok (.istore_n 3, 1) := dk_62 (dk_at dksX0_known_0 23 rfl rfl)
theorem dX0_known_24 : decode cX0_known 24 = .ok (.aload_n 0, 1) := dk_42 (dk_at dksX0_known_1 0 rfl rfl)
theorem dX0_known_25 : decode cX0_known 25 = .ok (.getfield 47, 3) := dk_180 0 47 (dk_at dksX0_known_1 1 rfl rfl)
theorem dX0_known_28 : decode cX0_known 28 = .ok (.invokevirtual 162, 3) := dk_182 0 162 (dk_at dksX0_known_1 4 rfl rfl)
theorem dX0_known_31 : decode cX0_known 31 = .ok (.istore 4, 2) := dk_54 4 (dk_at dksX0_known_1 7 rfl rfl)
theorem dX0_known_33 : decode cX0_known 33 = .ok (.iconst 0, 1) := dk_3 (dk_at dksX0_known_1 9 rfl rfl)
theorem dX0_known_34 : decode cX0_known 34 = .ok (.istore 5, 2) := dk_54 5 (dk_at dksX0_known_1 10 rfl rfl)
theorem dX0_known_36 : decode cX0_known 36 = .ok (.iconst 0, 1) := dk_3 (dk_at dksX0_known_1 12 rfl rfl)
theorem dX0_known_37 : decode cX0_known 37 = .ok (.istore 6, 2) := dk_54 6 (dk_at dksX0_known_1 13 rfl rfl)
theorem dX0_known_39 : decode cX0_known 39 = .ok (.iload 6, 2) := dk_21 6 (dk_at dksX0_known_1 15 rfl rfl)
theorem dX0_known_41 : decode cX0_known 41 = .ok (.aload_n 0, 1) := dk_42 (dk_at dksX0_known_1 17 rfl rfl)
theorem dX0_known_42 : decode cX0_known 42 = .ok (.getfield 47, 3) := dk_180 0 47 (dk_at dksX0_known_1 18 rfl rfl)
theorem dX0_known_45 : decode cX0_known 45 = .ok (.getfield 240, 3) := dk_180 0 240 (dk_at dksX0_known_1 21 rfl rfl)
theorem dX0_known_48 : decode cX0_known 48 = .ok (.invokeinterface 148 1, 5) := by decide +kernel
theorem dX0_known_53 : decode cX0_known 53 = .ok (.if_icmp .ge 71, 3) := dk_162 0 71 (dk_at dksX0_known_2 5 rfl rfl)
theorem dX0_known_56 : decode cX0_known 56 = .ok (.iload_n 3, 1) := dk_29 (dk_at dksX0_known_2 8 rfl rfl)
theorem dX0_known_57 : decode cX0_known 57 = .ok (.iload 6, 2) := dk_21 6 (dk_at dksX0_known_2 9 rfl rfl)
theorem dX0_known_59 : decode cX0_known 59 = .ok (.invokestatic 246, 3) := dk_184 0 246 (dk_at dksX0_known_2 11 rfl rfl)
theorem dX0_known_62 : decode cX0_known 62 = .ok (.ifCond .ne 6, 3) := dk_154 0 6 (dk_at dksX0_known_2 14 rfl rfl)
theorem dX0_known_65 : decode cX0_known 65 = .ok (.goto 53, 3) := dk_167 0 53 (dk_at dksX0_known_2 17 rfl rfl)
theorem dX0_known_68 : decode cX0_known 68 = .ok (.iload 4, 2) := dk_21 4 (dk_at dksX0_known_2 20 rfl rfl)
theorem dX0_known_70 : decode cX0_known 70 = .ok (.aload_n 0, 1) := dk_42 (dk_at dksX0_known_2 22 rfl rfl)
theorem dX0_known_71 : decode cX0_known 71 = .ok (.getfield 47, 3) := dk_180 0 47 (dk_at dksX0_known_3 0 rfl rfl)
theorem dX0_known_74 : decode cX0_known 74 = .ok (.getfield 240, 3) := dk_180 0 240 (dk_at dksX0_known_3 3 rfl rfl)
theorem dX0_known_77 : decode cX0_known 77 = .ok (.iload 6, 2) := dk_21 6 (dk_at dksX0_known_3 6 rfl rfl)
theorem dX0_known_79 : decode cX0_known 79 = .ok (.invokeinterface 154 2, 5) := by decide +kernel
theorem dX0_known_84 : decode cX0_known 84 = .ok (.checkcast 2, 3) := dk_192 0 2 (dk_at dksX0_known_3 13 rfl rfl)
theorem dX0_known_87 : decode cX0_known 87 = .ok (.invokevirtual 243, 3) := dk_182 0 243 (dk_at dksX0_known_3 16 rfl rfl)
theorem dX0_known_90 : decode cX0_known 90 = .ok (.iand, 1) := dk_126 (dk_at dksX0_known_3 19 rfl rfl)
theorem dX0_known_91 : decode cX0_known 91 = .ok (.istore 4, 2) := dk_54 4 (dk_at dksX0_known_3 20 rfl rfl)
theorem dX0_known_93 : decode cX0_known 93 = .ok (.iload 5, 2) := dk_21 5 (dk_at dksX0_known_3 22 rfl rfl)
theorem dX0_known_95 : decode cX0_known 95 = .ok (.aload_n 0, 1) := dk_42 (dk_at dksX0_known_4 0 rfl rfl)
theorem dX0_known_96 : decode cX0_known 96 = .ok (.getfield 47, 3) := dk_180 0 47 (dk_at dksX0_known_4 1 rfl rfl)
theorem dX0_known_99 : decode cX0_known 99 = .ok (.getfield 240, 3) := dk_180 0 240 (dk_at dksX0_known_4 4 rfl rfl)
theorem dX0_known_102 : decode cX0_known 102 = .ok (.iload 6, 2) := dk_21 6 (dk_at dksX0_known_4 7 rfl rfl)
theorem dX0_known_104 : decode cX0_known 104 = .ok (.invokeinterface 154 2, 5) := by decide +kernel
theorem dX0_known_109 : decode cX0_known 109 = .ok (.checkcast 2, 3) := dk_192 0 2 (dk_at dksX0_known_4 14 rfl rfl)
theorem dX0_known_112 : decode cX0_known 112 = .ok (.invokevirtual 243, 3) := dk_182 0 243 (dk_at dksX0_known_4 17 rfl rfl)
theorem dX0_known_115 : decode cX0_known 115 = .ok (.ior, 1) := dk_128 (dk_at dksX0_known_4 20 rfl rfl)
theorem dX0_known_116 : decode cX0_known 116 = .ok (.istore 5, 2) := dk_54 5 (dk_at dksX0_known_4 21 rfl rfl)
theorem dX0_known_118 : decode cX0_known 118 = .ok (.iinc 6 1, 3) := dk_132 6 1 (dk_at dksX0_known_5 0 rfl rfl)
theorem dX0_known_121 : decode cX0_known 121 = .ok (.goto (-82), 3) := dk_167 255 174 (dk_at dksX0_known_5 3 rfl rfl)
theorem dX0_known_124 : decode cX0_known 124 = .ok (.iload_n 3, 1) := dk_29 (dk_at dksX0_known_5 6 rfl rfl)
theorem dX0_known_125 : decode cX0_known 125 = .ok (.ifCond .ne 7, 3) := dk_154 0 7 (dk_at dksX0_known_5 7 rfl rfl)
theorem dX0_known_128 : decode cX0_known 128 = .ok (.iconst 0, 1) := dk_3 (dk_at dksX0_known_5 10 rfl rfl)
theorem dX0_known_129 : decode cX0_known 129 = .ok (.goto 14, 3) := dk_167 0 14 (dk_at dksX0_known_5 11 rfl rfl)
theorem dX0_known_132 : decode cX0_known 132 = .ok (.iload_n 2, 1) := dk_28 (dk_at dksX0_known_5 14 rfl rfl)
theorem dX0_known_133 : decode cX0_known 133 = .ok (.ifCond .ne 8, 3) := dk_154 0 8 (dk_at dksX0_known_5 15 rfl rfl)
theorem dX0_known_136 : decode cX0_known 136 = .ok (.iload 4, 2) := dk_21 4 (dk_at dksX0_known_5 18 rfl rfl)
theorem dX0_known_138 : decode cX0_known 138 = .ok (.goto 5, 3) := dk_167 0 5 (dk_at dksX0_known_5 20 rfl rfl)
theorem dX0_known_141 : decode cX0_known 141 = .ok (.iload 5, 2) := dk_21 5 (dk_at dksX0_known_6 0 rfl rfl)
theorem dX0_known_143 : decode cX0_known 143 = .ok (.ireturn, 1) := dk_172 (dk_at dksX0_known_6 2 rfl rfl)
abbrev cX0_grant : ByteArray := prog_1_method_99_code
def yX0_grant : MethodName := ⟨RX0, "grant", "()I"⟩
def dkwX0_grant_1 : List UInt8 := [172]
abbrev dktX0_grant_1 : List UInt8 := dkwX0_grant_1 ++ []
def dkwX0_grant_0 : List UInt8 := [42, 180, 0, 47, 182, 0, 126, 153, 0, 15, 42, 42, 3, 182, 1, 211, 182, 1, 202, 167, 0, 5, 16, 254]
abbrev dktX0_grant_0 : List UInt8 := dkwX0_grant_0 ++ dktX0_grant_1
theorem dksX0_grant_0 : cX0_grant.data.toList.drop 0 = dktX0_grant_0 := by decide +kernel
theorem dksX0_grant_1 : cX0_grant.data.toList.drop 24 = dktX0_grant_1 := dk_seg dksX0_grant_0 24 rfl rfl
theorem dX0_grant_0 : decode cX0_grant 0 = .ok (.aload_n 0, 1) := dk_42 (dk_at dksX0_grant_0 0 rfl rfl)
theorem dX0_grant_1 : decode cX0_grant 1 = .ok (.getfield 47, 3) := dk_180 0 47 (dk_at dksX0_grant_0 1 rfl rfl)
theorem dX0_grant_4 : decode cX0_grant 4 = .ok (.invokevirtual 126, 3) := dk_182 0 126 (dk_at dksX0_grant_0 4 rfl rfl)
theorem dX0_grant_7 : decode cX0_grant 7 = .ok (.ifCond .eq 15, 3) := dk_153 0 15 (dk_at dksX0_grant_0 7 rfl rfl)
theorem dX0_grant_10 : decode cX0_grant 10 = .ok (.aload_n 0, 1) := dk_42 (dk_at dksX0_grant_0 10 rfl rfl)
theorem dX0_grant_11 : decode cX0_grant 11 = .ok (.aload_n 0, 1) := dk_42 (dk_at dksX0_grant_0 11 rfl rfl)
theorem dX0_grant_12 : decode cX0_grant 12 = .ok (.iconst 0, 1) := dk_3 (dk_at dksX0_grant_0 12 rfl rfl)
theorem dX0_grant_13 : decode cX0_grant 13 = .ok (.invokevirtual 467, 3) := dk_182 1 211 (dk_at dksX0_grant_0 13 rfl rfl)
theorem dX0_grant_16 : decode cX0_grant 16 = .ok (.invokevirtual 458, 3) := dk_182 1 202 (dk_at dksX0_grant_0 16 rfl rfl)
theorem dX0_grant_19 : decode cX0_grant 19 = .ok (.goto 5, 3) := dk_167 0 5 (dk_at dksX0_grant_0 19 rfl rfl)
theorem dX0_grant_22 : decode cX0_grant 22 = .ok (.bipush (-2), 2) := dk_16 254 (dk_at dksX0_grant_0 22 rfl rfl)
theorem dX0_grant_24 : decode cX0_grant 24 = .ok (.ireturn, 1) := dk_172 (dk_at dksX0_grant_1 0 rfl rfl)
abbrev cX0_grantedOf : ByteArray := prog_1_method_98_code
def yX0_grantedOf : MethodName := ⟨RX0, "grantedOf", "(Z)I"⟩
def dkwX0_grantedOf_2 : List UInt8 := [29, 182, 1, 208, 153, 0, 5, 29, 61, 132, 3, 1, 167, 255, 200, 28, 172]
abbrev dktX0_grantedOf_2 : List UInt8 := dkwX0_grantedOf_2 ++ []
def dkwX0_grantedOf_1 : List UInt8 := [182, 1, 202, 42, 28, 182, 1, 202, 164, 0, 25, 42, 29, 182, 1, 205, 153, 0, 17, 27, 153, 0, 11, 42]
abbrev dktX0_grantedOf_1 : List UInt8 := dkwX0_grantedOf_1 ++ dktX0_grantedOf_2
def dkwX0_grantedOf_0 : List UInt8 := [3, 61, 4, 62, 29, 4, 42, 180, 0, 47, 180, 0, 213, 185, 0, 148, 1, 0, 120, 162, 0, 44, 42, 29]
abbrev dktX0_grantedOf_0 : List UInt8 := dkwX0_grantedOf_0 ++ dktX0_grantedOf_1
theorem dksX0_grantedOf_0 : cX0_grantedOf.data.toList.drop 0 = dktX0_grantedOf_0 := by decide +kernel
theorem dksX0_grantedOf_1 : cX0_grantedOf.data.toList.drop 24 = dktX0_grantedOf_1 := dk_seg dksX0_grantedOf_0 24 rfl rfl
theorem dksX0_grantedOf_2 : cX0_grantedOf.data.toList.drop 48 = dktX0_grantedOf_2 := dk_seg dksX0_grantedOf_1 24 rfl rfl
theorem dX0_grantedOf_0 : decode cX0_grantedOf 0 = .ok (.iconst 0, 1) := dk_3 (dk_at dksX0_grantedOf_0 0 rfl rfl)
theorem dX0_grantedOf_1 : decode cX0_grantedOf 1 = .ok (.istore_n 2, 1) := dk_61 (dk_at dksX0_grantedOf_0 1 rfl rfl)
theorem dX0_grantedOf_2 : decode cX0_grantedOf 2 = .ok (.iconst 1, 1) := dk_4 (dk_at dksX0_grantedOf_0 2 rfl rfl)
theorem dX0_grantedOf_3 : decode cX0_grantedOf 3 = .ok (.istore_n 3, 1) := dk_62 (dk_at dksX0_grantedOf_0 3 rfl rfl)
theorem dX0_grantedOf_4 : decode cX0_grantedOf 4 = .ok (.iload_n 3, 1) := dk_29 (dk_at dksX0_grantedOf_0 4 rfl rfl)
theorem dX0_grantedOf_5 : decode cX0_grantedOf 5 = .ok (.iconst 1, 1) := dk_4 (dk_at dksX0_grantedOf_0 5 rfl rfl)
theorem dX0_grantedOf_6 : decode cX0_grantedOf 6 = .ok (.aload_n 0, 1) := dk_42 (dk_at dksX0_grantedOf_0 6 rfl rfl)
theorem dX0_grantedOf_7 : decode cX0_grantedOf 7 = .ok (.getfield 47, 3) := dk_180 0 47 (dk_at dksX0_grantedOf_0 7 rfl rfl)
theorem dX0_grantedOf_10 : decode cX0_grantedOf 10 = .ok (.getfield 213, 3) := dk_180 0 213 (dk_at dksX0_grantedOf_0 10 rfl rfl)
theorem dX0_grantedOf_13 : decode cX0_grantedOf 13 = .ok (.invokeinterface 148 1, 5) := by decide +kernel
theorem dX0_grantedOf_18 : decode cX0_grantedOf 18 = .ok (.ishl, 1) := dk_120 (dk_at dksX0_grantedOf_0 18 rfl rfl)
theorem dX0_grantedOf_19 : decode cX0_grantedOf 19 = .ok (.if_icmp .ge 44, 3) := dk_162 0 44 (dk_at dksX0_grantedOf_0 19 rfl rfl)
theorem dX0_grantedOf_22 : decode cX0_grantedOf 22 = .ok (.aload_n 0, 1) := dk_42 (dk_at dksX0_grantedOf_0 22 rfl rfl)
theorem dX0_grantedOf_23 : decode cX0_grantedOf 23 = .ok (.iload_n 3, 1) := dk_29 (dk_at dksX0_grantedOf_0 23 rfl rfl)
theorem dX0_grantedOf_24 : decode cX0_grantedOf 24 = .ok (.invokevirtual 458, 3) := dk_182 1 202 (dk_at dksX0_grantedOf_1 0 rfl rfl)
theorem dX0_grantedOf_27 : decode cX0_grantedOf 27 = .ok (.aload_n 0, 1) := dk_42 (dk_at dksX0_grantedOf_1 3 rfl rfl)
theorem dX0_grantedOf_28 : decode cX0_grantedOf 28 = .ok (.iload_n 2, 1) := dk_28 (dk_at dksX0_grantedOf_1 4 rfl rfl)
theorem dX0_grantedOf_29 : decode cX0_grantedOf 29 = .ok (.invokevirtual 458, 3) := dk_182 1 202 (dk_at dksX0_grantedOf_1 5 rfl rfl)
theorem dX0_grantedOf_32 : decode cX0_grantedOf 32 = .ok (.if_icmp .le 25, 3) := dk_164 0 25 (dk_at dksX0_grantedOf_1 8 rfl rfl)
theorem dX0_grantedOf_35 : decode cX0_grantedOf 35 = .ok (.aload_n 0, 1) := dk_42 (dk_at dksX0_grantedOf_1 11 rfl rfl)
theorem dX0_grantedOf_36 : decode cX0_grantedOf 36 = .ok (.iload_n 3, 1) := dk_29 (dk_at dksX0_grantedOf_1 12 rfl rfl)
theorem dX0_grantedOf_37 : decode cX0_grantedOf 37 = .ok (.invokevirtual 461, 3) := dk_182 1 205 (dk_at dksX0_grantedOf_1 13 rfl rfl)
theorem dX0_grantedOf_40 : decode cX0_grantedOf 40 = .ok (.ifCond .eq 17, 3) := dk_153 0 17 (dk_at dksX0_grantedOf_1 16 rfl rfl)
theorem dX0_grantedOf_43 : decode cX0_grantedOf 43 = .ok (.iload_n 1, 1) := dk_27 (dk_at dksX0_grantedOf_1 19 rfl rfl)
theorem dX0_grantedOf_44 : decode cX0_grantedOf 44 = .ok (.ifCond .eq 11, 3) := dk_153 0 11 (dk_at dksX0_grantedOf_1 20 rfl rfl)
theorem dX0_grantedOf_47 : decode cX0_grantedOf 47 = .ok (.aload_n 0, 1) := dk_42 (dk_at dksX0_grantedOf_1 23 rfl rfl)
theorem dX0_grantedOf_48 : decode cX0_grantedOf 48 = .ok (.iload_n 3, 1) := dk_29 (dk_at dksX0_grantedOf_2 0 rfl rfl)
theorem dX0_grantedOf_49 : decode cX0_grantedOf 49 = .ok (.invokevirtual 464, 3) := dk_182 1 208 (dk_at dksX0_grantedOf_2 1 rfl rfl)
theorem dX0_grantedOf_52 : decode cX0_grantedOf 52 = .ok (.ifCond .eq 5, 3) := dk_153 0 5 (dk_at dksX0_grantedOf_2 4 rfl rfl)
theorem dX0_grantedOf_55 : decode cX0_grantedOf 55 = .ok (.iload_n 3, 1) := dk_29 (dk_at dksX0_grantedOf_2 7 rfl rfl)
theorem dX0_grantedOf_56 : decode cX0_grantedOf 56 = .ok (.istore_n 2, 1) := dk_61 (dk_at dksX0_grantedOf_2 8 rfl rfl)
theorem dX0_grantedOf_57 : decode cX0_grantedOf 57 = .ok (.iinc 3 1, 3) := dk_132 3 1 (dk_at dksX0_grantedOf_2 9 rfl rfl)
theorem dX0_grantedOf_60 : decode cX0_grantedOf 60 = .ok (.goto (-56), 3) := dk_167 255 200 (dk_at dksX0_grantedOf_2 12 rfl rfl)
theorem dX0_grantedOf_63 : decode cX0_grantedOf 63 = .ok (.iload_n 2, 1) := dk_28 (dk_at dksX0_grantedOf_2 15 rfl rfl)
theorem dX0_grantedOf_64 : decode cX0_grantedOf 64 = .ok (.ireturn, 1) := dk_172 (dk_at dksX0_grantedOf_2 16 rfl rfl)
abbrev cX0_worthOf : ByteArray := prog_1_method_95_code
def yX0_worthOf : MethodName := ⟨RX0, "worthOf", "(I)I"⟩
def dkwX0_worthOf_2 : List UInt8 := [180, 0, 225, 167, 0, 4, 3, 96, 61, 132, 3, 1, 167, 255, 203, 28, 172]
abbrev dktX0_worthOf_2 : List UInt8 := dkwX0_worthOf_2 ++ []
def dkwX0_worthOf_1 : List UInt8 := [184, 0, 246, 153, 0, 25, 42, 180, 0, 47, 180, 0, 213, 29, 185, 0, 154, 2, 0, 192, 0, 216]
abbrev dktX0_worthOf_1 : List UInt8 := dkwX0_worthOf_1 ++ dktX0_worthOf_2
def dkwX0_worthOf_0 : List UInt8 := [3, 61, 3, 62, 29, 42, 180, 0, 47, 180, 0, 213, 185, 0, 148, 1, 0, 162, 0, 43, 28, 27, 29]
abbrev dktX0_worthOf_0 : List UInt8 := dkwX0_worthOf_0 ++ dktX0_worthOf_1
theorem dksX0_worthOf_0 : cX0_worthOf.data.toList.drop 0 = dktX0_worthOf_0 := by decide +kernel
theorem dksX0_worthOf_1 : cX0_worthOf.data.toList.drop 23 = dktX0_worthOf_1 := dk_seg dksX0_worthOf_0 23 rfl rfl
theorem dksX0_worthOf_2 : cX0_worthOf.data.toList.drop 45 = dktX0_worthOf_2 := dk_seg dksX0_worthOf_1 22 rfl rfl
theorem dX0_worthOf_0 : decode cX0_worthOf 0 = .ok (.iconst 0, 1) := dk_3 (dk_at dksX0_worthOf_0 0 rfl rfl)
theorem dX0_worthOf_1 : decode cX0_worthOf 1 = .ok (.istore_n 2, 1) := dk_61 (dk_at dksX0_worthOf_0 1 rfl rfl)
theorem dX0_worthOf_2 : decode cX0_worthOf 2 = .ok (.iconst 0, 1) := dk_3 (dk_at dksX0_worthOf_0 2 rfl rfl)
theorem dX0_worthOf_3 : decode cX0_worthOf 3 = .ok (.istore_n 3, 1) := dk_62 (dk_at dksX0_worthOf_0 3 rfl rfl)
theorem dX0_worthOf_4 : decode cX0_worthOf 4 = .ok (.iload_n 3, 1) := dk_29 (dk_at dksX0_worthOf_0 4 rfl rfl)
theorem dX0_worthOf_5 : decode cX0_worthOf 5 = .ok (.aload_n 0, 1) := dk_42 (dk_at dksX0_worthOf_0 5 rfl rfl)
theorem dX0_worthOf_6 : decode cX0_worthOf 6 = .ok (.getfield 47, 3) := dk_180 0 47 (dk_at dksX0_worthOf_0 6 rfl rfl)
theorem dX0_worthOf_9 : decode cX0_worthOf 9 = .ok (.getfield 213, 3) := dk_180 0 213 (dk_at dksX0_worthOf_0 9 rfl rfl)
theorem dX0_worthOf_12 : decode cX0_worthOf 12 = .ok (.invokeinterface 148 1, 5) := by decide +kernel
theorem dX0_worthOf_17 : decode cX0_worthOf 17 = .ok (.if_icmp .ge 43, 3) := dk_162 0 43 (dk_at dksX0_worthOf_0 17 rfl rfl)
theorem dX0_worthOf_20 : decode cX0_worthOf 20 = .ok (.iload_n 2, 1) := dk_28 (dk_at dksX0_worthOf_0 20 rfl rfl)
theorem dX0_worthOf_21 : decode cX0_worthOf 21 = .ok (.iload_n 1, 1) := dk_27 (dk_at dksX0_worthOf_0 21 rfl rfl)
theorem dX0_worthOf_22 : decode cX0_worthOf 22 = .ok (.iload_n 3, 1) := dk_29 (dk_at dksX0_worthOf_0 22 rfl rfl)
theorem dX0_worthOf_23 : decode cX0_worthOf 23 = .ok (.invokestatic 246, 3) := dk_184 0 246 (dk_at dksX0_worthOf_1 0 rfl rfl)
theorem dX0_worthOf_26 : decode cX0_worthOf 26 = .ok (.ifCond .eq 25, 3) := dk_153 0 25 (dk_at dksX0_worthOf_1 3 rfl rfl)
theorem dX0_worthOf_29 : decode cX0_worthOf 29 = .ok (.aload_n 0, 1) := dk_42 (dk_at dksX0_worthOf_1 6 rfl rfl)
theorem dX0_worthOf_30 : decode cX0_worthOf 30 = .ok (.getfield 47, 3) := dk_180 0 47 (dk_at dksX0_worthOf_1 7 rfl rfl)
theorem dX0_worthOf_33 : decode cX0_worthOf 33 = .ok (.getfield 213, 3) := dk_180 0 213 (dk_at dksX0_worthOf_1 10 rfl rfl)
theorem dX0_worthOf_36 : decode cX0_worthOf 36 = .ok (.iload_n 3, 1) := dk_29 (dk_at dksX0_worthOf_1 13 rfl rfl)
theorem dX0_worthOf_37 : decode cX0_worthOf 37 = .ok (.invokeinterface 154 2, 5) := by decide +kernel
theorem dX0_worthOf_42 : decode cX0_worthOf 42 = .ok (.checkcast 216, 3) := dk_192 0 216 (dk_at dksX0_worthOf_1 19 rfl rfl)
theorem dX0_worthOf_45 : decode cX0_worthOf 45 = .ok (.getfield 225, 3) := dk_180 0 225 (dk_at dksX0_worthOf_2 0 rfl rfl)
theorem dX0_worthOf_48 : decode cX0_worthOf 48 = .ok (.goto 4, 3) := dk_167 0 4 (dk_at dksX0_worthOf_2 3 rfl rfl)
theorem dX0_worthOf_51 : decode cX0_worthOf 51 = .ok (.iconst 0, 1) := dk_3 (dk_at dksX0_worthOf_2 6 rfl rfl)
theorem dX0_worthOf_52 : decode cX0_worthOf 52 = .ok (.iadd, 1) := dk_96 (dk_at dksX0_worthOf_2 7 rfl rfl)
theorem dX0_worthOf_53 : decode cX0_worthOf 53 = .ok (.istore_n 2, 1) := dk_61 (dk_at dksX0_worthOf_2 8 rfl rfl)
theorem dX0_worthOf_54 : decode cX0_worthOf 54 = .ok (.iinc 3 1, 3) := dk_132 3 1 (dk_at dksX0_worthOf_2 9 rfl rfl)
theorem dX0_worthOf_57 : decode cX0_worthOf 57 = .ok (.goto (-53), 3) := dk_167 255 203 (dk_at dksX0_worthOf_2 12 rfl rfl)
theorem dX0_worthOf_60 : decode cX0_worthOf 60 = .ok (.iload_n 2, 1) := dk_28 (dk_at dksX0_worthOf_2 15 rfl rfl)
theorem dX0_worthOf_61 : decode cX0_worthOf 61 = .ok (.ireturn, 1) := dk_172 (dk_at dksX0_worthOf_2 16 rfl rfl)
abbrev cX0_areApart : ByteArray := prog_1_method_96_code
def yX0_areApart : MethodName := ⟨RX0, "areApart", "(I)Z"⟩
def dkwX0_areApart_4 : List UInt8 := [132, 2, 1, 167, 255, 168, 4, 172]
abbrev dktX0_areApart_4 : List UInt8 := dkwX0_areApart_4 ++ []
def dkwX0_areApart_3 : List UInt8 := [185, 0, 154, 2, 0, 192, 0, 216, 182, 1, 198, 153, 0, 5, 3, 172, 132, 3, 1, 167, 255, 192]
abbrev dktX0_areApart_3 : List UInt8 := dkwX0_areApart_3 ++ dktX0_areApart_4
def dkwX0_areApart_2 : List UInt8 := [180, 0, 213, 28, 185, 0, 154, 2, 0, 192, 0, 216, 42, 180, 0, 47, 180, 0, 213, 29]
abbrev dktX0_areApart_2 : List UInt8 := dkwX0_areApart_2 ++ dktX0_areApart_3
def dkwX0_areApart_1 : List UInt8 := [162, 0, 65, 27, 28, 184, 0, 246, 153, 0, 51, 27, 29, 184, 0, 246, 153, 0, 43, 42, 180, 0, 47]
abbrev dktX0_areApart_1 : List UInt8 := dkwX0_areApart_1 ++ dktX0_areApart_2
def dkwX0_areApart_0 : List UInt8 := [3, 61, 28, 42, 180, 0, 47, 180, 0, 213, 185, 0, 148, 1, 0, 162, 0, 78, 3, 62, 29, 28]
abbrev dktX0_areApart_0 : List UInt8 := dkwX0_areApart_0 ++ dktX0_areApart_1
theorem dksX0_areApart_0 : cX0_areApart.data.toList.drop 0 = dktX0_areApart_0 := by decide +kernel
theorem dksX0_areApart_1 : cX0_areApart.data.toList.drop 22 = dktX0_areApart_1 := dk_seg dksX0_areApart_0 22 rfl rfl
theorem dksX0_areApart_2 : cX0_areApart.data.toList.drop 45 = dktX0_areApart_2 := dk_seg dksX0_areApart_1 23 rfl rfl
theorem dksX0_areApart_3 : cX0_areApart.data.toList.drop 65 = dktX0_areApart_3 := dk_seg dksX0_areApart_2 20 rfl rfl
theorem dksX0_areApart_4 : cX0_areApart.data.toList.drop 87 = dktX0_areApart_4 := dk_seg dksX0_areApart_3 22 rfl rfl
theorem dX0_areApart_0 : decode cX0_areApart 0 = .ok (.iconst 0, 1) := dk_3 (dk_at dksX0_areApart_0 0 rfl rfl)
theorem dX0_areApart_1 : decode cX0_areApart 1 = .ok (.istore_n 2, 1) := dk_61 (dk_at dksX0_areApart_0 1 rfl rfl)
theorem dX0_areApart_2 : decode cX0_areApart 2 = .ok (.iload_n 2, 1) := dk_28 (dk_at dksX0_areApart_0 2 rfl rfl)
theorem dX0_areApart_3 : decode cX0_areApart 3 = .ok (.aload_n 0, 1) := dk_42 (dk_at dksX0_areApart_0 3 rfl rfl)
theorem dX0_areApart_4 : decode cX0_areApart 4 = .ok (.getfield 47, 3) := dk_180 0 47 (dk_at dksX0_areApart_0 4 rfl rfl)
theorem dX0_areApart_7 : decode cX0_areApart 7 = .ok (.getfield 213, 3) := dk_180 0 213 (dk_at dksX0_areApart_0 7 rfl rfl)
theorem dX0_areApart_10 : decode cX0_areApart 10 = .ok (.invokeinterface 148 1, 5) := by decide +kernel
theorem dX0_areApart_15 : decode cX0_areApart 15 = .ok (.if_icmp .ge 78, 3) := dk_162 0 78 (dk_at dksX0_areApart_0 15 rfl rfl)
theorem dX0_areApart_18 : decode cX0_areApart 18 = .ok (.iconst 0, 1) := dk_3 (dk_at dksX0_areApart_0 18 rfl rfl)
theorem dX0_areApart_19 : decode cX0_areApart 19 = .ok (.istore_n 3, 1) := dk_62 (dk_at dksX0_areApart_0 19 rfl rfl)
theorem dX0_areApart_20 : decode cX0_areApart 20 = .ok (.iload_n 3, 1) := dk_29 (dk_at dksX0_areApart_0 20 rfl rfl)
theorem dX0_areApart_21 : decode cX0_areApart 21 = .ok (.iload_n 2, 1) := dk_28 (dk_at dksX0_areApart_0 21 rfl rfl)
theorem dX0_areApart_22 : decode cX0_areApart 22 = .ok (.if_icmp .ge 65, 3) := dk_162 0 65 (dk_at dksX0_areApart_1 0 rfl rfl)
theorem dX0_areApart_25 : decode cX0_areApart 25 = .ok (.iload_n 1, 1) := dk_27 (dk_at dksX0_areApart_1 3 rfl rfl)
theorem dX0_areApart_26 : decode cX0_areApart 26 = .ok (.iload_n 2, 1) := dk_28 (dk_at dksX0_areApart_1 4 rfl rfl)
theorem dX0_areApart_27 : decode cX0_areApart 27 = .ok (.invokestatic 246, 3) := dk_184 0 246 (dk_at dksX0_areApart_1 5 rfl rfl)
theorem dX0_areApart_30 : decode cX0_areApart 30 = .ok (.ifCond .eq 51, 3) := dk_153 0 51 (dk_at dksX0_areApart_1 8 rfl rfl)
theorem dX0_areApart_33 : decode cX0_areApart 33 = .ok (.iload_n 1, 1) := dk_27 (dk_at dksX0_areApart_1 11 rfl rfl)
theorem dX0_areApart_34 : decode cX0_areApart 34 = .ok (.iload_n 3, 1) := dk_29 (dk_at dksX0_areApart_1 12 rfl rfl)
theorem dX0_areApart_35 : decode cX0_areApart 35 = .ok (.invokestatic 246, 3) := dk_184 0 246 (dk_at dksX0_areApart_1 13 rfl rfl)
theorem dX0_areApart_38 : decode cX0_areApart 38 = .ok (.ifCond .eq 43, 3) := dk_153 0 43 (dk_at dksX0_areApart_1 16 rfl rfl)
theorem dX0_areApart_41 : decode cX0_areApart 41 = .ok (.aload_n 0, 1) := dk_42 (dk_at dksX0_areApart_1 19 rfl rfl)
theorem dX0_areApart_42 : decode cX0_areApart 42 = .ok (.getfield 47, 3) := dk_180 0 47 (dk_at dksX0_areApart_1 20 rfl rfl)
theorem dX0_areApart_45 : decode cX0_areApart 45 = .ok (.getfield 213, 3) := dk_180 0 213 (dk_at dksX0_areApart_2 0 rfl rfl)
theorem dX0_areApart_48 : decode cX0_areApart 48 = .ok (.iload_n 2, 1) := dk_28 (dk_at dksX0_areApart_2 3 rfl rfl)
theorem dX0_areApart_49 : decode cX0_areApart 49 = .ok (.invokeinterface 154 2, 5) := by decide +kernel
theorem dX0_areApart_54 : decode cX0_areApart 54 = .ok (.checkcast 216, 3) := dk_192 0 216 (dk_at dksX0_areApart_2 9 rfl rfl)
theorem dX0_areApart_57 : decode cX0_areApart 57 = .ok (.aload_n 0, 1) := dk_42 (dk_at dksX0_areApart_2 12 rfl rfl)
theorem dX0_areApart_58 : decode cX0_areApart 58 = .ok (.getfield 47, 3) := dk_180 0 47 (dk_at dksX0_areApart_2 13 rfl rfl)
theorem dX0_areApart_61 : decode cX0_areApart 61 = .ok (.getfield 213, 3) := dk_180 0 213 (dk_at dksX0_areApart_2 16 rfl rfl)
theorem dX0_areApart_64 : decode cX0_areApart 64 = .ok (.iload_n 3, 1) := dk_29 (dk_at dksX0_areApart_2 19 rfl rfl)
theorem dX0_areApart_65 : decode cX0_areApart 65 = .ok (.invokeinterface 154 2, 5) := by decide +kernel
theorem dX0_areApart_70 : decode cX0_areApart 70 = .ok (.checkcast 216, 3) := dk_192 0 216 (dk_at dksX0_areApart_3 5 rfl rfl)
theorem dX0_areApart_73 : decode cX0_areApart 73 = .ok (.invokevirtual 454, 3) := dk_182 1 198 (dk_at dksX0_areApart_3 8 rfl rfl)
theorem dX0_areApart_76 : decode cX0_areApart 76 = .ok (.ifCond .eq 5, 3) := dk_153 0 5 (dk_at dksX0_areApart_3 11 rfl rfl)
theorem dX0_areApart_79 : decode cX0_areApart 79 = .ok (.iconst 0, 1) := dk_3 (dk_at dksX0_areApart_3 14 rfl rfl)
theorem dX0_areApart_80 : decode cX0_areApart 80 = .ok (.ireturn, 1) := dk_172 (dk_at dksX0_areApart_3 15 rfl rfl)
theorem dX0_areApart_81 : decode cX0_areApart 81 = .ok (.iinc 3 1, 3) := dk_132 3 1 (dk_at dksX0_areApart_3 16 rfl rfl)
theorem dX0_areApart_84 : decode cX0_areApart 84 = .ok (.goto (-64), 3) := dk_167 255 192 (dk_at dksX0_areApart_3 19 rfl rfl)
theorem dX0_areApart_87 : decode cX0_areApart 87 = .ok (.iinc 2 1, 3) := dk_132 2 1 (dk_at dksX0_areApart_4 0 rfl rfl)
theorem dX0_areApart_90 : decode cX0_areApart 90 = .ok (.goto (-88), 3) := dk_167 255 168 (dk_at dksX0_areApart_4 3 rfl rfl)
theorem dX0_areApart_93 : decode cX0_areApart 93 = .ok (.iconst 1, 1) := dk_4 (dk_at dksX0_areApart_4 6 rfl rfl)
theorem dX0_areApart_94 : decode cX0_areApart 94 = .ok (.ireturn, 1) := dk_172 (dk_at dksX0_areApart_4 7 rfl rfl)
abbrev cX0_areHalves : ByteArray := prog_1_method_97_code
def yX0_areHalves : MethodName := ⟨RX0, "areHalves", "(I)Z"⟩
def dkwX0_areHalves_8 : List UInt8 := [180, 0, 218, 160, 0, 5, 3, 172, 132, 2, 1, 167, 255, 66, 4, 172]
abbrev dktX0_areHalves_8 : List UInt8 := dkwX0_areHalves_8 ++ []
def dkwX0_areHalves_7 : List UInt8 := [198, 0, 31, 45, 180, 0, 218, 42, 180, 0, 47, 180, 0, 213, 28, 185, 0, 154, 2, 0, 192, 0, 216]
abbrev dktX0_areHalves_7 : List UInt8 := dkwX0_areHalves_7 ++ dktX0_areHalves_8
def dkwX0_areHalves_6 : List UInt8 := [180, 0, 47, 180, 0, 213, 21, 4, 185, 0, 154, 2, 0, 192, 0, 216, 78, 132, 4, 1, 167, 255, 136, 45]
abbrev dktX0_areHalves_6 : List UInt8 := dkwX0_areHalves_6 ++ dktX0_areHalves_7
def dkwX0_areHalves_5 : List UInt8 := [180, 0, 213, 21, 4, 185, 0, 154, 2, 0, 192, 0, 216, 180, 0, 219, 45, 180, 0, 219, 162, 0, 21, 42]
abbrev dktX0_areHalves_5 : List UInt8 := dkwX0_areHalves_5 ++ dktX0_areHalves_6
def dkwX0_areHalves_4 : List UInt8 := [185, 0, 154, 2, 0, 192, 0, 216, 180, 0, 219, 164, 0, 52, 45, 198, 0, 30, 42, 180, 0, 47]
abbrev dktX0_areHalves_4 : List UInt8 := dkwX0_areHalves_4 ++ dktX0_areHalves_5
def dkwX0_areHalves_3 : List UInt8 := [21, 4, 185, 0, 154, 2, 0, 192, 0, 216, 180, 0, 219, 42, 180, 0, 47, 180, 0, 213, 28]
abbrev dktX0_areHalves_3 : List UInt8 := dkwX0_areHalves_3 ++ dktX0_areHalves_4
def dkwX0_areHalves_2 : List UInt8 := [185, 0, 148, 1, 0, 162, 0, 109, 27, 21, 4, 184, 0, 246, 153, 0, 94, 42, 180, 0, 47, 180, 0, 213]
abbrev dktX0_areHalves_2 : List UInt8 := dkwX0_areHalves_2 ++ dktX0_areHalves_3
def dkwX0_areHalves_1 : List UInt8 := [154, 0, 6, 167, 0, 163, 1, 78, 3, 54, 4, 21, 4, 42, 180, 0, 47, 180, 0, 213]
abbrev dktX0_areHalves_1 : List UInt8 := dkwX0_areHalves_1 ++ dktX0_areHalves_2
def dkwX0_areHalves_0 : List UInt8 := [3, 61, 28, 42, 180, 0, 47, 180, 0, 213, 185, 0, 148, 1, 0, 162, 0, 180, 27, 28, 184, 0, 246]
abbrev dktX0_areHalves_0 : List UInt8 := dkwX0_areHalves_0 ++ dktX0_areHalves_1
theorem dksX0_areHalves_0 : cX0_areHalves.data.toList.drop 0 = dktX0_areHalves_0 := by decide +kernel
theorem dksX0_areHalves_1 : cX0_areHalves.data.toList.drop 23 = dktX0_areHalves_1 := dk_seg dksX0_areHalves_0 23 rfl rfl
theorem dksX0_areHalves_2 : cX0_areHalves.data.toList.drop 43 = dktX0_areHalves_2 := dk_seg dksX0_areHalves_1 20 rfl rfl
theorem dksX0_areHalves_3 : cX0_areHalves.data.toList.drop 67 = dktX0_areHalves_3 := dk_seg dksX0_areHalves_2 24 rfl rfl
theorem dksX0_areHalves_4 : cX0_areHalves.data.toList.drop 88 = dktX0_areHalves_4 := dk_seg dksX0_areHalves_3 21 rfl rfl
theorem dksX0_areHalves_5 : cX0_areHalves.data.toList.drop 110 = dktX0_areHalves_5 := dk_seg dksX0_areHalves_4 22 rfl rfl
theorem dksX0_areHalves_6 : cX0_areHalves.data.toList.drop 134 = dktX0_areHalves_6 := dk_seg dksX0_areHalves_5 24 rfl rfl
theorem dksX0_areHalves_7 : cX0_areHalves.data.toList.drop 158 = dktX0_areHalves_7 := dk_seg dksX0_areHalves_6 24 rfl rfl
theorem dksX0_areHalves_8 : cX0_areHalves.data.toList.drop 181 = dktX0_areHalves_8 := dk_seg dksX0_areHalves_7 23 rfl rfl
theorem dX0_areHalves_0 : decode cX0_areHalves 0 = .ok (.iconst 0, 1) := dk_3 (dk_at dksX0_areHalves_0 0 rfl rfl)
theorem dX0_areHalves_1 : decode cX0_areHalves 1 = .ok (.istore_n 2, 1) := dk_61 (dk_at dksX0_areHalves_0 1 rfl rfl)
theorem dX0_areHalves_2 : decode cX0_areHalves 2 = .ok (.iload_n 2, 1) := dk_28 (dk_at dksX0_areHalves_0 2 rfl rfl)
theorem dX0_areHalves_3 : decode cX0_areHalves 3 = .ok (.aload_n 0, 1) := dk_42 (dk_at dksX0_areHalves_0 3 rfl rfl)
theorem dX0_areHalves_4 : decode cX0_areHalves 4 = .ok (.getfield 47, 3) := dk_180 0 47 (dk_at dksX0_areHalves_0 4 rfl rfl)
theorem dX0_areHalves_7 : decode cX0_areHalves 7 = .ok (.getfield 213, 3) := dk_180 0 213 (dk_at dksX0_areHalves_0 7 rfl rfl)
theorem dX0_areHalves_10 : decode cX0_areHalves 10 = .ok (.invokeinterface 148 1, 5) := by decide +kernel
theorem dX0_areHalves_15 : decode cX0_areHalves 15 = .ok (.if_icmp .ge 180, 3) := dk_162 0 180 (dk_at dksX0_areHalves_0 15 rfl rfl)
theorem dX0_areHalves_18 : decode cX0_areHalves 18 = .ok (.iload_n 1, 1) := dk_27 (dk_at dksX0_areHalves_0 18 rfl rfl)
theorem dX0_areHalves_19 : decode cX0_areHalves 19 = .ok (.iload_n 2, 1) := dk_28 (dk_at dksX0_areHalves_0 19 rfl rfl)
theorem dX0_areHalves_20 : decode cX0_areHalves 20 = .ok (.invokestatic 246, 3) := dk_184 0 246 (dk_at dksX0_areHalves_0 20 rfl rfl)
theorem dX0_areHalves_23 : decode cX0_areHalves 23 = .ok (.ifCond .ne 6, 3) := dk_154 0 6 (dk_at dksX0_areHalves_1 0 rfl rfl)
theorem dX0_areHalves_26 : decode cX0_areHalves 26 = .ok (.goto 163, 3) := dk_167 0 163 (dk_at dksX0_areHalves_1 3 rfl rfl)
theorem dX0_areHalves_29 : decode cX0_areHalves 29 = .ok (.aconst_null, 1) := dk_1 (dk_at dksX0_areHalves_1 6 rfl rfl)
theorem dX0_areHalves_30 : decode cX0_areHalves 30 = .ok (.astore_n 3, 1) := dk_78 (dk_at dksX0_areHalves_1 7 rfl rfl)
theorem dX0_areHalves_31 : decode cX0_areHalves 31 = .ok (.iconst 0, 1) := dk_3 (dk_at dksX0_areHalves_1 8 rfl rfl)
theorem dX0_areHalves_32 : decode cX0_areHalves 32 = .ok (.istore 4, 2) := dk_54 4 (dk_at dksX0_areHalves_1 9 rfl rfl)
theorem dX0_areHalves_34 : decode cX0_areHalves 34 = .ok (.iload 4, 2) := dk_21 4 (dk_at dksX0_areHalves_1 11 rfl rfl)
theorem dX0_areHalves_36 : decode cX0_areHalves 36 = .ok (.aload_n 0, 1) := dk_42 (dk_at dksX0_areHalves_1 13 rfl rfl)
theorem dX0_areHalves_37 : decode cX0_areHalves 37 = .ok (.getfield 47, 3) := dk_180 0 47 (dk_at dksX0_areHalves_1 14 rfl rfl)
theorem dX0_areHalves_40 : decode cX0_areHalves 40 = .ok (.getfield 213, 3) := dk_180 0 213 (dk_at dksX0_areHalves_1 17 rfl rfl)
theorem dX0_areHalves_43 : decode cX0_areHalves 43 = .ok (.invokeinterface 148 1, 5) := by decide +kernel
theorem dX0_areHalves_48 : decode cX0_areHalves 48 = .ok (.if_icmp .ge 109, 3) := dk_162 0 109 (dk_at dksX0_areHalves_2 5 rfl rfl)
theorem dX0_areHalves_51 : decode cX0_areHalves 51 = .ok (.iload_n 1, 1) := dk_27 (dk_at dksX0_areHalves_2 8 rfl rfl)
theorem dX0_areHalves_52 : decode cX0_areHalves 52 = .ok (.iload 4, 2) := dk_21 4 (dk_at dksX0_areHalves_2 9 rfl rfl)
theorem dX0_areHalves_54 : decode cX0_areHalves 54 = .ok (.invokestatic 246, 3) := dk_184 0 246 (dk_at dksX0_areHalves_2 11 rfl rfl)
theorem dX0_areHalves_57 : decode cX0_areHalves 57 = .ok (.ifCond .eq 94, 3) := dk_153 0 94 (dk_at dksX0_areHalves_2 14 rfl rfl)
theorem dX0_areHalves_60 : decode cX0_areHalves 60 = .ok (.aload_n 0, 1) := dk_42 (dk_at dksX0_areHalves_2 17 rfl rfl)
theorem dX0_areHalves_61 : decode cX0_areHalves 61 = .ok (.getfield 47, 3) := dk_180 0 47 (dk_at dksX0_areHalves_2 18 rfl rfl)
theorem dX0_areHalves_64 : decode cX0_areHalves 64 = .ok (.getfield 213, 3) := dk_180 0 213 (dk_at dksX0_areHalves_2 21 rfl rfl)
theorem dX0_areHalves_67 : decode cX0_areHalves 67 = .ok (.iload 4, 2) := dk_21 4 (dk_at dksX0_areHalves_3 0 rfl rfl)
theorem dX0_areHalves_69 : decode cX0_areHalves 69 = .ok (.invokeinterface 154 2, 5) := by decide +kernel
theorem dX0_areHalves_74 : decode cX0_areHalves 74 = .ok (.checkcast 216, 3) := dk_192 0 216 (dk_at dksX0_areHalves_3 7 rfl rfl)
theorem dX0_areHalves_77 : decode cX0_areHalves 77 = .ok (.getfield 219, 3) := dk_180 0 219 (dk_at dksX0_areHalves_3 10 rfl rfl)
theorem dX0_areHalves_80 : decode cX0_areHalves 80 = .ok (.aload_n 0, 1) := dk_42 (dk_at dksX0_areHalves_3 13 rfl rfl)
theorem dX0_areHalves_81 : decode cX0_areHalves 81 = .ok (.getfield 47, 3) := dk_180 0 47 (dk_at dksX0_areHalves_3 14 rfl rfl)
theorem dX0_areHalves_84 : decode cX0_areHalves 84 = .ok (.getfield 213, 3) := dk_180 0 213 (dk_at dksX0_areHalves_3 17 rfl rfl)
theorem dX0_areHalves_87 : decode cX0_areHalves 87 = .ok (.iload_n 2, 1) := dk_28 (dk_at dksX0_areHalves_3 20 rfl rfl)
theorem dX0_areHalves_88 : decode cX0_areHalves 88 = .ok (.invokeinterface 154 2, 5) := by decide +kernel
theorem dX0_areHalves_93 : decode cX0_areHalves 93 = .ok (.checkcast 216, 3) := dk_192 0 216 (dk_at dksX0_areHalves_4 5 rfl rfl)
theorem dX0_areHalves_96 : decode cX0_areHalves 96 = .ok (.getfield 219, 3) := dk_180 0 219 (dk_at dksX0_areHalves_4 8 rfl rfl)
theorem dX0_areHalves_99 : decode cX0_areHalves 99 = .ok (.if_icmp .le 52, 3) := dk_164 0 52 (dk_at dksX0_areHalves_4 11 rfl rfl)
theorem dX0_areHalves_102 : decode cX0_areHalves 102 = .ok (.aload_n 3, 1) := dk_45 (dk_at dksX0_areHalves_4 14 rfl rfl)
theorem dX0_areHalves_103 : decode cX0_areHalves 103 = .ok (.ifnull 30, 3) := dk_198 0 30 (dk_at dksX0_areHalves_4 15 rfl rfl)
theorem dX0_areHalves_106 : decode cX0_areHalves 106 = .ok (.aload_n 0, 1) := dk_42 (dk_at dksX0_areHalves_4 18 rfl rfl)
theorem dX0_areHalves_107 : decode cX0_areHalves 107 = .ok (.getfield 47, 3) := dk_180 0 47 (dk_at dksX0_areHalves_4 19 rfl rfl)
theorem dX0_areHalves_110 : decode cX0_areHalves 110 = .ok (.getfield 213, 3) := dk_180 0 213 (dk_at dksX0_areHalves_5 0 rfl rfl)
theorem dX0_areHalves_113 : decode cX0_areHalves 113 = .ok (.iload 4, 2) := dk_21 4 (dk_at dksX0_areHalves_5 3 rfl rfl)
theorem dX0_areHalves_115 : decode cX0_areHalves 115 = .ok (.invokeinterface 154 2, 5) := by decide +kernel
theorem dX0_areHalves_120 : decode cX0_areHalves 120 = .ok (.checkcast 216, 3) := dk_192 0 216 (dk_at dksX0_areHalves_5 10 rfl rfl)
theorem dX0_areHalves_123 : decode cX0_areHalves 123 = .ok (.getfield 219, 3) := dk_180 0 219 (dk_at dksX0_areHalves_5 13 rfl rfl)
theorem dX0_areHalves_126 : decode cX0_areHalves 126 = .ok (.aload_n 3, 1) := dk_45 (dk_at dksX0_areHalves_5 16 rfl rfl)
theorem dX0_areHalves_127 : decode cX0_areHalves 127 = .ok (.getfield 219, 3) := dk_180 0 219 (dk_at dksX0_areHalves_5 17 rfl rfl)
theorem dX0_areHalves_130 : decode cX0_areHalves 130 = .ok (.if_icmp .ge 21, 3) := dk_162 0 21 (dk_at dksX0_areHalves_5 20 rfl rfl)
theorem dX0_areHalves_133 : decode cX0_areHalves 133 = .ok (.aload_n 0, 1) := dk_42 (dk_at dksX0_areHalves_5 23 rfl rfl)
theorem dX0_areHalves_134 : decode cX0_areHalves 134 = .ok (.getfield 47, 3) := dk_180 0 47 (dk_at dksX0_areHalves_6 0 rfl rfl)
theorem dX0_areHalves_137 : decode cX0_areHalves 137 = .ok (.getfield 213, 3) := dk_180 0 213 (dk_at dksX0_areHalves_6 3 rfl rfl)
theorem dX0_areHalves_140 : decode cX0_areHalves 140 = .ok (.iload 4, 2) := dk_21 4 (dk_at dksX0_areHalves_6 6 rfl rfl)
theorem dX0_areHalves_142 : decode cX0_areHalves 142 = .ok (.invokeinterface 154 2, 5) := by decide +kernel
theorem dX0_areHalves_147 : decode cX0_areHalves 147 = .ok (.checkcast 216, 3) := dk_192 0 216 (dk_at dksX0_areHalves_6 13 rfl rfl)
theorem dX0_areHalves_150 : decode cX0_areHalves 150 = .ok (.astore_n 3, 1) := dk_78 (dk_at dksX0_areHalves_6 16 rfl rfl)
theorem dX0_areHalves_151 : decode cX0_areHalves 151 = .ok (.iinc 4 1, 3) := dk_132 4 1 (dk_at dksX0_areHalves_6 17 rfl rfl)
theorem dX0_areHalves_154 : decode cX0_areHalves 154 = .ok (.goto (-120), 3) := dk_167 255 136 (dk_at dksX0_areHalves_6 20 rfl rfl)
theorem dX0_areHalves_157 : decode cX0_areHalves 157 = .ok (.aload_n 3, 1) := dk_45 (dk_at dksX0_areHalves_6 23 rfl rfl)
theorem dX0_areHalves_158 : decode cX0_areHalves 158 = .ok (.ifnull 31, 3) := dk_198 0 31 (dk_at dksX0_areHalves_7 0 rfl rfl)
theorem dX0_areHalves_161 : decode cX0_areHalves 161 = .ok (.aload_n 3, 1) := dk_45 (dk_at dksX0_areHalves_7 3 rfl rfl)
theorem dX0_areHalves_162 : decode cX0_areHalves 162 = .ok (.getfield 218, 3) := dk_180 0 218 (dk_at dksX0_areHalves_7 4 rfl rfl)
theorem dX0_areHalves_165 : decode cX0_areHalves 165 = .ok (.aload_n 0, 1) := dk_42 (dk_at dksX0_areHalves_7 7 rfl rfl)
theorem dX0_areHalves_166 : decode cX0_areHalves 166 = .ok (.getfield 47, 3) := dk_180 0 47 (dk_at dksX0_areHalves_7 8 rfl rfl)
theorem dX0_areHalves_169 : decode cX0_areHalves 169 = .ok (.getfield 213, 3) := dk_180 0 213 (dk_at dksX0_areHalves_7 11 rfl rfl)
theorem dX0_areHalves_172 : decode cX0_areHalves 172 = .ok (.iload_n 2, 1) := dk_28 (dk_at dksX0_areHalves_7 14 rfl rfl)
theorem dX0_areHalves_173 : decode cX0_areHalves 173 = .ok (.invokeinterface 154 2, 5) := by decide +kernel
theorem dX0_areHalves_178 : decode cX0_areHalves 178 = .ok (.checkcast 216, 3) := dk_192 0 216 (dk_at dksX0_areHalves_7 20 rfl rfl)
theorem dX0_areHalves_181 : decode cX0_areHalves 181 = .ok (.getfield 218, 3) := dk_180 0 218 (dk_at dksX0_areHalves_8 0 rfl rfl)
theorem dX0_areHalves_184 : decode cX0_areHalves 184 = .ok (.if_icmp .ne 5, 3) := dk_160 0 5 (dk_at dksX0_areHalves_8 3 rfl rfl)
theorem dX0_areHalves_187 : decode cX0_areHalves 187 = .ok (.iconst 0, 1) := dk_3 (dk_at dksX0_areHalves_8 6 rfl rfl)
theorem dX0_areHalves_188 : decode cX0_areHalves 188 = .ok (.ireturn, 1) := dk_172 (dk_at dksX0_areHalves_8 7 rfl rfl)
theorem dX0_areHalves_189 : decode cX0_areHalves 189 = .ok (.iinc 2 1, 3) := dk_132 2 1 (dk_at dksX0_areHalves_8 8 rfl rfl)
theorem dX0_areHalves_192 : decode cX0_areHalves 192 = .ok (.goto (-190), 3) := dk_167 255 66 (dk_at dksX0_areHalves_8 11 rfl rfl)
theorem dX0_areHalves_195 : decode cX0_areHalves 195 = .ok (.iconst 1, 1) := dk_4 (dk_at dksX0_areHalves_8 14 rfl rfl)
theorem dX0_areHalves_196 : decode cX0_areHalves 196 = .ok (.ireturn, 1) := dk_172 (dk_at dksX0_areHalves_8 15 rfl rfl)
abbrev cX0_granted : ByteArray := prog_1_method_100_code
def yX0_granted : MethodName := ⟨RX0, "granted", "()I"⟩
def dkwX0_granted_0 : List UInt8 := [42, 180, 0, 47, 182, 0, 126, 153, 0, 11, 42, 3, 182, 1, 211, 167, 0, 5, 16, 254, 172]
abbrev dktX0_granted_0 : List UInt8 := dkwX0_granted_0 ++ []
theorem dksX0_granted_0 : cX0_granted.data.toList.drop 0 = dktX0_granted_0 := by decide +kernel
theorem dX0_granted_0 : decode cX0_granted 0 = .ok (.aload_n 0, 1) := dk_42 (dk_at dksX0_granted_0 0 rfl rfl)
theorem dX0_granted_1 : decode cX0_granted 1 = .ok (.getfield 47, 3) := dk_180 0 47 (dk_at dksX0_granted_0 1 rfl rfl)
theorem dX0_granted_4 : decode cX0_granted 4 = .ok (.invokevirtual 126, 3) := dk_182 0 126 (dk_at dksX0_granted_0 4 rfl rfl)
theorem dX0_granted_7 : decode cX0_granted 7 = .ok (.ifCond .eq 11, 3) := dk_153 0 11 (dk_at dksX0_granted_0 7 rfl rfl)
theorem dX0_granted_10 : decode cX0_granted 10 = .ok (.aload_n 0, 1) := dk_42 (dk_at dksX0_granted_0 10 rfl rfl)
theorem dX0_granted_11 : decode cX0_granted 11 = .ok (.iconst 0, 1) := dk_3 (dk_at dksX0_granted_0 11 rfl rfl)
theorem dX0_granted_12 : decode cX0_granted 12 = .ok (.invokevirtual 467, 3) := dk_182 1 211 (dk_at dksX0_granted_0 12 rfl rfl)
theorem dX0_granted_15 : decode cX0_granted 15 = .ok (.goto 5, 3) := dk_167 0 5 (dk_at dksX0_granted_0 15 rfl rfl)
theorem dX0_granted_18 : decode cX0_granted 18 = .ok (.bipush (-2), 2) := dk_16 254 (dk_at dksX0_granted_0 18 rfl rfl)
theorem dX0_granted_20 : decode cX0_granted 20 = .ok (.ireturn, 1) := dk_172 (dk_at dksX0_granted_0 20 rfl rfl)
abbrev cX0_halves : ByteArray := prog_1_method_101_code
def yX0_halves : MethodName := ⟨RX0, "halves", "()I"⟩
def dkwX0_halves_1 : List UInt8 := [172]
abbrev dktX0_halves_1 : List UInt8 := dkwX0_halves_1 ++ []
def dkwX0_halves_0 : List UInt8 := [42, 180, 0, 47, 182, 0, 126, 153, 0, 15, 42, 42, 4, 182, 1, 211, 182, 1, 202, 167, 0, 5, 16, 254]
abbrev dktX0_halves_0 : List UInt8 := dkwX0_halves_0 ++ dktX0_halves_1
theorem dksX0_halves_0 : cX0_halves.data.toList.drop 0 = dktX0_halves_0 := by decide +kernel
theorem dksX0_halves_1 : cX0_halves.data.toList.drop 24 = dktX0_halves_1 := dk_seg dksX0_halves_0 24 rfl rfl
theorem dX0_halves_0 : decode cX0_halves 0 = .ok (.aload_n 0, 1) := dk_42 (dk_at dksX0_halves_0 0 rfl rfl)
theorem dX0_halves_1 : decode cX0_halves 1 = .ok (.getfield 47, 3) := dk_180 0 47 (dk_at dksX0_halves_0 1 rfl rfl)
theorem dX0_halves_4 : decode cX0_halves 4 = .ok (.invokevirtual 126, 3) := dk_182 0 126 (dk_at dksX0_halves_0 4 rfl rfl)
theorem dX0_halves_7 : decode cX0_halves 7 = .ok (.ifCond .eq 15, 3) := dk_153 0 15 (dk_at dksX0_halves_0 7 rfl rfl)
theorem dX0_halves_10 : decode cX0_halves 10 = .ok (.aload_n 0, 1) := dk_42 (dk_at dksX0_halves_0 10 rfl rfl)
theorem dX0_halves_11 : decode cX0_halves 11 = .ok (.aload_n 0, 1) := dk_42 (dk_at dksX0_halves_0 11 rfl rfl)
theorem dX0_halves_12 : decode cX0_halves 12 = .ok (.iconst 1, 1) := dk_4 (dk_at dksX0_halves_0 12 rfl rfl)
theorem dX0_halves_13 : decode cX0_halves 13 = .ok (.invokevirtual 467, 3) := dk_182 1 211 (dk_at dksX0_halves_0 13 rfl rfl)
theorem dX0_halves_16 : decode cX0_halves 16 = .ok (.invokevirtual 458, 3) := dk_182 1 202 (dk_at dksX0_halves_0 16 rfl rfl)
theorem dX0_halves_19 : decode cX0_halves 19 = .ok (.goto 5, 3) := dk_167 0 5 (dk_at dksX0_halves_0 19 rfl rfl)
theorem dX0_halves_22 : decode cX0_halves 22 = .ok (.bipush (-2), 2) := dk_16 254 (dk_at dksX0_halves_0 22 rfl rfl)
theorem dX0_halves_24 : decode cX0_halves 24 = .ok (.ireturn, 1) := dk_172 (dk_at dksX0_halves_1 0 rfl rfl)
abbrev cX0_halved : ByteArray := prog_1_method_102_code
def yX0_halved : MethodName := ⟨RX0, "halved", "()I"⟩
def dkwX0_halved_0 : List UInt8 := [42, 180, 0, 47, 182, 0, 126, 153, 0, 11, 42, 4, 182, 1, 211, 167, 0, 5, 16, 254, 172]
abbrev dktX0_halved_0 : List UInt8 := dkwX0_halved_0 ++ []
theorem dksX0_halved_0 : cX0_halved.data.toList.drop 0 = dktX0_halved_0 := by decide +kernel
theorem dX0_halved_0 : decode cX0_halved 0 = .ok (.aload_n 0, 1) := dk_42 (dk_at dksX0_halved_0 0 rfl rfl)
theorem dX0_halved_1 : decode cX0_halved 1 = .ok (.getfield 47, 3) := dk_180 0 47 (dk_at dksX0_halved_0 1 rfl rfl)
theorem dX0_halved_4 : decode cX0_halved 4 = .ok (.invokevirtual 126, 3) := dk_182 0 126 (dk_at dksX0_halved_0 4 rfl rfl)
theorem dX0_halved_7 : decode cX0_halved 7 = .ok (.ifCond .eq 11, 3) := dk_153 0 11 (dk_at dksX0_halved_0 7 rfl rfl)
theorem dX0_halved_10 : decode cX0_halved 10 = .ok (.aload_n 0, 1) := dk_42 (dk_at dksX0_halved_0 10 rfl rfl)
theorem dX0_halved_11 : decode cX0_halved 11 = .ok (.iconst 1, 1) := dk_4 (dk_at dksX0_halved_0 11 rfl rfl)
theorem dX0_halved_12 : decode cX0_halved 12 = .ok (.invokevirtual 467, 3) := dk_182 1 211 (dk_at dksX0_halved_0 12 rfl rfl)
theorem dX0_halved_15 : decode cX0_halved 15 = .ok (.goto 5, 3) := dk_167 0 5 (dk_at dksX0_halved_0 15 rfl rfl)
theorem dX0_halved_18 : decode cX0_halved 18 = .ok (.bipush (-2), 2) := dk_16 254 (dk_at dksX0_halved_0 18 rfl rfl)
theorem dX0_halved_20 : decode cX0_halved 20 = .ok (.ireturn, 1) := dk_172 (dk_at dksX0_halved_0 20 rfl rfl)
abbrev cX0_dry : ByteArray := prog_1_method_103_code
def yX0_dry : MethodName := ⟨RX0, "dry", "(III)J"⟩
def dkwX0_dry_5 : List UInt8 := [55, 4, 132, 6, 1, 167, 255, 214, 22, 4, 27, 184, 1, 65, 29, 184, 1, 69, 173]
abbrev dktX0_dry_5 : List UInt8 := dkwX0_dry_5 ++ []
def dkwX0_dry_4 : List UInt8 := [16, 100, 42, 180, 0, 47, 180, 1, 214, 100, 133, 167, 0, 11, 42, 180, 0, 47, 180, 1, 214, 133, 105]
abbrev dktX0_dry_4 : List UInt8 := dkwX0_dry_4 ++ dktX0_dry_5
def dkwX0_dry_3 : List UInt8 := [132, 6, 1, 167, 255, 231, 3, 54, 6, 21, 6, 27, 162, 0, 42, 22, 4, 21, 6, 28, 162, 0, 17]
abbrev dktX0_dry_3 : List UInt8 := dkwX0_dry_3 ++ dktX0_dry_4
def dkwX0_dry_2 : List UInt8 := [54, 6, 21, 6, 28, 162, 0, 25, 22, 4, 27, 21, 6, 100, 133, 105, 21, 6, 4, 96, 133, 109, 55, 4]
abbrev dktX0_dry_2 : List UInt8 := dkwX0_dry_2 ++ dktX0_dry_3
def dkwX0_dry_1 : List UInt8 := [9, 27, 133, 184, 0, 11, 153, 0, 10, 29, 184, 0, 231, 154, 0, 7, 20, 1, 57, 173, 10, 55, 4, 3]
abbrev dktX0_dry_1 : List UInt8 := dkwX0_dry_1 ++ dktX0_dry_2
def dkwX0_dry_0 : List UInt8 := [42, 180, 0, 47, 182, 0, 126, 153, 0, 33, 27, 133, 10, 20, 1, 135, 184, 0, 11, 153, 0, 21, 28, 133]
abbrev dktX0_dry_0 : List UInt8 := dkwX0_dry_0 ++ dktX0_dry_1
theorem dksX0_dry_0 : cX0_dry.data.toList.drop 0 = dktX0_dry_0 := by decide +kernel
theorem dksX0_dry_1 : cX0_dry.data.toList.drop 24 = dktX0_dry_1 := dk_seg dksX0_dry_0 24 rfl rfl
theorem dksX0_dry_2 : cX0_dry.data.toList.drop 48 = dktX0_dry_2 := dk_seg dksX0_dry_1 24 rfl rfl
theorem dksX0_dry_3 : cX0_dry.data.toList.drop 72 = dktX0_dry_3 := dk_seg dksX0_dry_2 24 rfl rfl
theorem dksX0_dry_4 : cX0_dry.data.toList.drop 95 = dktX0_dry_4 := dk_seg dksX0_dry_3 23 rfl rfl
theorem dksX0_dry_5 : cX0_dry.data.toList.drop 118 = dktX0_dry_5 := dk_seg dksX0_dry_4 23 rfl rfl
theorem dX0_dry_0 : decode cX0_dry 0 = .ok (.aload_n 0, 1) := dk_42 (dk_at dksX0_dry_0 0 rfl rfl)
theorem dX0_dry_1 : decode cX0_dry 1 = .ok (.getfield 47, 3) := dk_180 0 47 (dk_at dksX0_dry_0 1 rfl rfl)
theorem dX0_dry_4 : decode cX0_dry 4 = .ok (.invokevirtual 126, 3) := dk_182 0 126 (dk_at dksX0_dry_0 4 rfl rfl)
theorem dX0_dry_7 : decode cX0_dry 7 = .ok (.ifCond .eq 33, 3) := dk_153 0 33 (dk_at dksX0_dry_0 7 rfl rfl)
theorem dX0_dry_10 : decode cX0_dry 10 = .ok (.iload_n 1, 1) := dk_27 (dk_at dksX0_dry_0 10 rfl rfl)
theorem dX0_dry_11 : decode cX0_dry 11 = .ok (.i2l, 1) := dk_133 (dk_at dksX0_dry_0 11 rfl rfl)
theorem dX0_dry_12 : decode cX0_dry 12 = .ok (.lconst 1, 1) := dk_10 (dk_at dksX0_dry_0 12 rfl rfl)
theorem dX0_dry_13 : decode cX0_dry 13 = .ok (.ldc2_w 391, 3) := dk_20 1 135 (dk_at dksX0_dry_0 13 rfl rfl)
theorem dX0_dry_16 : decode cX0_dry 16 = .ok (.invokestatic 11, 3) := dk_184 0 11 (dk_at dksX0_dry_0 16 rfl rfl)
theorem dX0_dry_19 : decode cX0_dry 19 = .ok (.ifCond .eq 21, 3) := dk_153 0 21 (dk_at dksX0_dry_0 19 rfl rfl)
theorem dX0_dry_22 : decode cX0_dry 22 = .ok (.iload_n 2, 1) := dk_28 (dk_at dksX0_dry_0 22 rfl rfl)
theorem dX0_dry_23 : decode cX0_dry 23 = .ok (.i2l, 1) := dk_133 (dk_at dksX0_dry_0 23 rfl rfl)
theorem dX0_dry_24 : decode cX0_dry 24 = .ok (.lconst 0, 1) := dk_9 (dk_at dksX0_dry_1 0 rfl rfl)
theorem dX0_dry_25 : decode cX0_dry 25 = .ok (.iload_n 1, 1) := dk_27 (dk_at dksX0_dry_1 1 rfl rfl)
theorem dX0_dry_26 : decode cX0_dry 26 = .ok (.i2l, 1) := dk_133 (dk_at dksX0_dry_1 2 rfl rfl)
theorem dX0_dry_27 : decode cX0_dry 27 = .ok (.invokestatic 11, 3) := dk_184 0 11 (dk_at dksX0_dry_1 3 rfl rfl)
theorem dX0_dry_30 : decode cX0_dry 30 = .ok (.ifCond .eq 10, 3) := dk_153 0 10 (dk_at dksX0_dry_1 6 rfl rfl)
theorem dX0_dry_33 : decode cX0_dry 33 = .ok (.iload_n 3, 1) := dk_29 (dk_at dksX0_dry_1 9 rfl rfl)
theorem dX0_dry_34 : decode cX0_dry 34 = .ok (.invokestatic 231, 3) := dk_184 0 231 (dk_at dksX0_dry_1 10 rfl rfl)
theorem dX0_dry_37 : decode cX0_dry 37 = .ok (.ifCond .ne 7, 3) := dk_154 0 7 (dk_at dksX0_dry_1 13 rfl rfl)
theorem dX0_dry_40 : decode cX0_dry 40 = .ok (.ldc2_w 313, 3) := dk_20 1 57 (dk_at dksX0_dry_1 16 rfl rfl)
theorem dX0_dry_43 : decode cX0_dry 43 = .ok (.lreturn, 1) := dk_173 (dk_at dksX0_dry_1 19 rfl rfl)
theorem dX0_dry_44 : decode cX0_dry 44 = .ok (.lconst 1, 1) := dk_10 (dk_at dksX0_dry_1 20 rfl rfl)
theorem dX0_dry_45 : decode cX0_dry 45 = .ok (.lstore 4, 2) := dk_55 4 (dk_at dksX0_dry_1 21 rfl rfl)
theorem dX0_dry_47 : decode cX0_dry 47 = .ok (.iconst 0, 1) := dk_3 (dk_at dksX0_dry_1 23 rfl rfl)
theorem dX0_dry_48 : decode cX0_dry 48 = .ok (.istore 6, 2) := dk_54 6 (dk_at dksX0_dry_2 0 rfl rfl)
theorem dX0_dry_50 : decode cX0_dry 50 = .ok (.iload 6, 2) := dk_21 6 (dk_at dksX0_dry_2 2 rfl rfl)
theorem dX0_dry_52 : decode cX0_dry 52 = .ok (.iload_n 2, 1) := dk_28 (dk_at dksX0_dry_2 4 rfl rfl)
theorem dX0_dry_53 : decode cX0_dry 53 = .ok (.if_icmp .ge 25, 3) := dk_162 0 25 (dk_at dksX0_dry_2 5 rfl rfl)
theorem dX0_dry_56 : decode cX0_dry 56 = .ok (.lload 4, 2) := dk_22 4 (dk_at dksX0_dry_2 8 rfl rfl)
theorem dX0_dry_58 : decode cX0_dry 58 = .ok (.iload_n 1, 1) := dk_27 (dk_at dksX0_dry_2 10 rfl rfl)
theorem dX0_dry_59 : decode cX0_dry 59 = .ok (.iload 6, 2) := dk_21 6 (dk_at dksX0_dry_2 11 rfl rfl)
theorem dX0_dry_61 : decode cX0_dry 61 = .ok (.isub, 1) := dk_100 (dk_at dksX0_dry_2 13 rfl rfl)
theorem dX0_dry_62 : decode cX0_dry 62 = .ok (.i2l, 1) := dk_133 (dk_at dksX0_dry_2 14 rfl rfl)
theorem dX0_dry_63 : decode cX0_dry 63 = .ok (.lmul, 1) := dk_105 (dk_at dksX0_dry_2 15 rfl rfl)
theorem dX0_dry_64 : decode cX0_dry 64 = .ok (.iload 6, 2) := dk_21 6 (dk_at dksX0_dry_2 16 rfl rfl)
theorem dX0_dry_66 : decode cX0_dry 66 = .ok (.iconst 1, 1) := dk_4 (dk_at dksX0_dry_2 18 rfl rfl)
theorem dX0_dry_67 : decode cX0_dry 67 = .ok (.iadd, 1) := dk_96 (dk_at dksX0_dry_2 19 rfl rfl)
theorem dX0_dry_68 : decode cX0_dry 68 = .ok (.i2l, 1) := dk_133 (dk_at dksX0_dry_2 20 rfl rfl)
theorem dX0_dry_69 : decode cX0_dry 69 = .ok (.ldiv, 1) := dk_109 (dk_at dksX0_dry_2 21 rfl rfl)
theorem dX0_dry_70 : decode cX0_dry 70 = .ok (.lstore 4, 2) := dk_55 4 (dk_at dksX0_dry_2 22 rfl rfl)
theorem dX0_dry_72 : decode cX0_dry 72 = .ok (.iinc 6 1, 3) := dk_132 6 1 (dk_at dksX0_dry_3 0 rfl rfl)
theorem dX0_dry_75 : decode cX0_dry 75 = .ok (.goto (-25), 3) := dk_167 255 231 (dk_at dksX0_dry_3 3 rfl rfl)
theorem dX0_dry_78 : decode cX0_dry 78 = .ok (.iconst 0, 1) := dk_3 (dk_at dksX0_dry_3 6 rfl rfl)
theorem dX0_dry_79 : decode cX0_dry 79 = .ok (.istore 6, 2) := dk_54 6 (dk_at dksX0_dry_3 7 rfl rfl)
theorem dX0_dry_81 : decode cX0_dry 81 = .ok (.iload 6, 2) := dk_21 6 (dk_at dksX0_dry_3 9 rfl rfl)
theorem dX0_dry_83 : decode cX0_dry 83 = .ok (.iload_n 1, 1) := dk_27 (dk_at dksX0_dry_3 11 rfl rfl)
theorem dX0_dry_84 : decode cX0_dry 84 = .ok (.if_icmp .ge 42, 3) := dk_162 0 42 (dk_at dksX0_dry_3 12 rfl rfl)
theorem dX0_dry_87 : decode cX0_dry 87 = .ok (.lload 4, 2) := dk_22 4 (dk_at dksX0_dry_3 15 rfl rfl)
theorem dX0_dry_89 : decode cX0_dry 89 = .ok (.iload 6, 2) := dk_21 6 (dk_at dksX0_dry_3 17 rfl rfl)
theorem dX0_dry_91 : decode cX0_dry 91 = .ok (.iload_n 2, 1) := dk_28 (dk_at dksX0_dry_3 19 rfl rfl)
theorem dX0_dry_92 : decode cX0_dry 92 = .ok (.if_icmp .ge 17, 3) := dk_162 0 17 (dk_at dksX0_dry_3 20 rfl rfl)
theorem dX0_dry_95 : decode cX0_dry 95 = .ok (.bipush 100, 2) := dk_16 100 (dk_at dksX0_dry_4 0 rfl rfl)
theorem dX0_dry_97 : decode cX0_dry 97 = .ok (.aload_n 0, 1) := dk_42 (dk_at dksX0_dry_4 2 rfl rfl)
theorem dX0_dry_98 : decode cX0_dry 98 = .ok (.getfield 47, 3) := dk_180 0 47 (dk_at dksX0_dry_4 3 rfl rfl)
theorem dX0_dry_101 : decode cX0_dry 101 = .ok (.getfield 470, 3) := dk_180 1 214 (dk_at dksX0_dry_4 6 rfl rfl)
theorem dX0_dry_104 : decode cX0_dry 104 = .ok (.isub, 1) := dk_100 (dk_at dksX0_dry_4 9 rfl rfl)
theorem dX0_dry_105 : decode cX0_dry 105 = .ok (.i2l, 1) := dk_133 (dk_at dksX0_dry_4 10 rfl rfl)
theorem dX0_dry_106 : decode cX0_dry 106 = .ok (.goto 11, 3) := dk_167 0 11 (dk_at dksX0_dry_4 11 rfl rfl)
theorem dX0_dry_109 : decode cX0_dry 109 = .ok (.aload_n 0, 1) := dk_42 (dk_at dksX0_dry_4 14 rfl rfl)
theorem dX0_dry_110 : decode cX0_dry 110 = .ok (.getfield 47, 3) := dk_180 0 47 (dk_at dksX0_dry_4 15 rfl rfl)
theorem dX0_dry_113 : decode cX0_dry 113 = .ok (.getfield 470, 3) := dk_180 1 214 (dk_at dksX0_dry_4 18 rfl rfl)
theorem dX0_dry_116 : decode cX0_dry 116 = .ok (.i2l, 1) := dk_133 (dk_at dksX0_dry_4 21 rfl rfl)
theorem dX0_dry_117 : decode cX0_dry 117 = .ok (.lmul, 1) := dk_105 (dk_at dksX0_dry_4 22 rfl rfl)
theorem dX0_dry_118 : decode cX0_dry 118 = .ok (.lstore 4, 2) := dk_55 4 (dk_at dksX0_dry_5 0 rfl rfl)
theorem dX0_dry_120 : decode cX0_dry 120 = .ok (.iinc 6 1, 3) := dk_132 6 1 (dk_at dksX0_dry_5 2 rfl rfl)
theorem dX0_dry_123 : decode cX0_dry 123 = .ok (.goto (-42), 3) := dk_167 255 214 (dk_at dksX0_dry_5 5 rfl rfl)
theorem dX0_dry_126 : decode cX0_dry 126 = .ok (.lload 4, 2) := dk_22 4 (dk_at dksX0_dry_5 8 rfl rfl)
theorem dX0_dry_128 : decode cX0_dry 128 = .ok (.iload_n 1, 1) := dk_27 (dk_at dksX0_dry_5 10 rfl rfl)
theorem dX0_dry_129 : decode cX0_dry 129 = .ok (.invokestatic 321, 3) := dk_184 1 65 (dk_at dksX0_dry_5 11 rfl rfl)
theorem dX0_dry_132 : decode cX0_dry 132 = .ok (.iload_n 3, 1) := dk_29 (dk_at dksX0_dry_5 14 rfl rfl)
theorem dX0_dry_133 : decode cX0_dry 133 = .ok (.invokestatic 325, 3) := dk_184 1 69 (dk_at dksX0_dry_5 15 rfl rfl)
theorem dX0_dry_136 : decode cX0_dry 136 = .ok (.lreturn, 1) := dk_173 (dk_at dksX0_dry_5 18 rfl rfl)
abbrev cX0_insist : ByteArray := prog_1_method_104_code
def yX0_insist : MethodName := ⟨RX0, "insist", "(I)I"⟩
def dkwX0_insist_2 : List UInt8 := [108, 61, 28, 17, 39, 16, 16, 100, 27, 100, 104, 163, 0, 5, 29, 172, 132, 3, 1, 167, 255, 220, 2, 172]
abbrev dktX0_insist_2 : List UInt8 := dkwX0_insist_2 ++ []
def dkwX0_insist_1 : List UInt8 := [172, 19, 1, 95, 61, 4, 62, 29, 16, 60, 163, 0, 36, 28, 42, 180, 0, 47, 180, 1, 214, 104, 16, 100]
abbrev dktX0_insist_1 : List UInt8 := dkwX0_insist_1 ++ dktX0_insist_2
def dkwX0_insist_0 : List UInt8 := [42, 180, 0, 47, 182, 0, 126, 153, 0, 15, 27, 133, 9, 20, 1, 51, 184, 0, 11, 154, 0, 6, 16, 254]
abbrev dktX0_insist_0 : List UInt8 := dkwX0_insist_0 ++ dktX0_insist_1
theorem dksX0_insist_0 : cX0_insist.data.toList.drop 0 = dktX0_insist_0 := by decide +kernel
theorem dksX0_insist_1 : cX0_insist.data.toList.drop 24 = dktX0_insist_1 := dk_seg dksX0_insist_0 24 rfl rfl
theorem dksX0_insist_2 : cX0_insist.data.toList.drop 48 = dktX0_insist_2 := dk_seg dksX0_insist_1 24 rfl rfl
theorem dX0_insist_0 : decode cX0_insist 0 = .ok (.aload_n 0, 1) := dk_42 (dk_at dksX0_insist_0 0 rfl rfl)
theorem dX0_insist_1 : decode cX0_insist 1 = .ok (.getfield 47, 3) := dk_180 0 47 (dk_at dksX0_insist_0 1 rfl rfl)
theorem dX0_insist_4 : decode cX0_insist 4 = .ok (.invokevirtual 126, 3) := dk_182 0 126 (dk_at dksX0_insist_0 4 rfl rfl)
theorem dX0_insist_7 : decode cX0_insist 7 = .ok (.ifCond .eq 15, 3) := dk_153 0 15 (dk_at dksX0_insist_0 7 rfl rfl)
theorem dX0_insist_10 : decode cX0_insist 10 = .ok (.iload_n 1, 1) := dk_27 (dk_at dksX0_insist_0 10 rfl rfl)
theorem dX0_insist_11 : decode cX0_insist 11 = .ok (.i2l, 1) := dk_133 (dk_at dksX0_insist_0 11 rfl rfl)
theorem dX0_insist_12 : decode cX0_insist 12 = .ok (.lconst 0, 1) := dk_9 (dk_at dksX0_insist_0 12 rfl rfl)
theorem dX0_insist_13 : decode cX0_insist 13 = .ok (.ldc2_w 307, 3) := dk_20 1 51 (dk_at dksX0_insist_0 13 rfl rfl)
theorem dX0_insist_16 : decode cX0_insist 16 = .ok (.invokestatic 11, 3) := dk_184 0 11 (dk_at dksX0_insist_0 16 rfl rfl)
theorem dX0_insist_19 : decode cX0_insist 19 = .ok (.ifCond .ne 6, 3) := dk_154 0 6 (dk_at dksX0_insist_0 19 rfl rfl)
theorem dX0_insist_22 : decode cX0_insist 22 = .ok (.bipush (-2), 2) := dk_16 254 (dk_at dksX0_insist_0 22 rfl rfl)
theorem dX0_insist_24 : decode cX0_insist 24 = .ok (.ireturn, 1) := dk_172 (dk_at dksX0_insist_1 0 rfl rfl)
theorem dX0_insist_25 : decode cX0_insist 25 = .ok (.ldc_w 351, 3) := dk_19 1 95 (dk_at dksX0_insist_1 1 rfl rfl)
theorem dX0_insist_28 : decode cX0_insist 28 = .ok (.istore_n 2, 1) := dk_61 (dk_at dksX0_insist_1 4 rfl rfl)
theorem dX0_insist_29 : decode cX0_insist 29 = .ok (.iconst 1, 1) := dk_4 (dk_at dksX0_insist_1 5 rfl rfl)
theorem dX0_insist_30 : decode cX0_insist 30 = .ok (.istore_n 3, 1) := dk_62 (dk_at dksX0_insist_1 6 rfl rfl)
theorem dX0_insist_31 : decode cX0_insist 31 = .ok (.iload_n 3, 1) := dk_29 (dk_at dksX0_insist_1 7 rfl rfl)
theorem dX0_insist_32 : decode cX0_insist 32 = .ok (.bipush 60, 2) := dk_16 60 (dk_at dksX0_insist_1 8 rfl rfl)
theorem dX0_insist_34 : decode cX0_insist 34 = .ok (.if_icmp .gt 36, 3) := dk_163 0 36 (dk_at dksX0_insist_1 10 rfl rfl)
theorem dX0_insist_37 : decode cX0_insist 37 = .ok (.iload_n 2, 1) := dk_28 (dk_at dksX0_insist_1 13 rfl rfl)
theorem dX0_insist_38 : decode cX0_insist 38 = .ok (.aload_n 0, 1) := dk_42 (dk_at dksX0_insist_1 14 rfl rfl)
theorem dX0_insist_39 : decode cX0_insist 39 = .ok (.getfield 47, 3) := dk_180 0 47 (dk_at dksX0_insist_1 15 rfl rfl)
theorem dX0_insist_42 : decode cX0_insist 42 = .ok (.getfield 470, 3) := dk_180 1 214 (dk_at dksX0_insist_1 18 rfl rfl)
theorem dX0_insist_45 : decode cX0_insist 45 = .ok (.imul, 1) := dk_104 (dk_at dksX0_insist_1 21 rfl rfl)
theorem dX0_insist_46 : decode cX0_insist 46 = .ok (.bipush 100, 2) := dk_16 100 (dk_at dksX0_insist_1 22 rfl rfl)
theorem dX0_insist_48 : decode cX0_insist 48 = .ok (.idiv, 1) := dk_108 (dk_at dksX0_insist_2 0 rfl rfl)
theorem dX0_insist_49 : decode cX0_insist 49 = .ok (.istore_n 2, 1) := dk_61 (dk_at dksX0_insist_2 1 rfl rfl)
theorem dX0_insist_50 : decode cX0_insist 50 = .ok (.iload_n 2, 1) := dk_28 (dk_at dksX0_insist_2 2 rfl rfl)
theorem dX0_insist_51 : decode cX0_insist 51 = .ok (.sipush 10000, 3) := dk_17 39 16 (dk_at dksX0_insist_2 3 rfl rfl)
theorem dX0_insist_54 : decode cX0_insist 54 = .ok (.bipush 100, 2) := dk_16 100 (dk_at dksX0_insist_2 6 rfl rfl)
theorem dX0_insist_56 : decode cX0_insist 56 = .ok (.iload_n 1, 1) := dk_27 (dk_at dksX0_insist_2 8 rfl rfl)
theorem dX0_insist_57 : decode cX0_insist 57 = .ok (.isub, 1) := dk_100 (dk_at dksX0_insist_2 9 rfl rfl)
theorem dX0_insist_58 : decode cX0_insist 58 = .ok (.imul, 1) := dk_104 (dk_at dksX0_insist_2 10 rfl rfl)
theorem dX0_insist_59 : decode cX0_insist 59 = .ok (.if_icmp .gt 5, 3) := dk_163 0 5 (dk_at dksX0_insist_2 11 rfl rfl)
theorem dX0_insist_62 : decode cX0_insist 62 = .ok (.iload_n 3, 1) := dk_29 (dk_at dksX0_insist_2 14 rfl rfl)
theorem dX0_insist_63 : decode cX0_insist 63 = .ok (.ireturn, 1) := dk_172 (dk_at dksX0_insist_2 15 rfl rfl)
theorem dX0_insist_64 : decode cX0_insist 64 = .ok (.iinc 3 1, 3) := dk_132 3 1 (dk_at dksX0_insist_2 16 rfl rfl)
theorem dX0_insist_67 : decode cX0_insist 67 = .ok (.goto (-36), 3) := dk_167 255 220 (dk_at dksX0_insist_2 19 rfl rfl)
theorem dX0_insist_70 : decode cX0_insist 70 = .ok (.iconst (-1), 1) := dk_2 (dk_at dksX0_insist_2 22 rfl rfl)
theorem dX0_insist_71 : decode cX0_insist 71 = .ok (.ireturn, 1) := dk_172 (dk_at dksX0_insist_2 23 rfl rfl)
abbrev cX0_tell : ByteArray := prog_1_method_108_code
def yX0_tell : MethodName := ⟨RX0, "tell", "(III)I"⟩
def dkwX0_tell_5 : List UInt8 := [21, 4, 182, 1, 234, 172]
abbrev dktX0_tell_5 : List UInt8 := dkwX0_tell_5 ++ []
def dkwX0_tell_4 : List UInt8 := [167, 0, 11, 42, 27, 182, 0, 170, 180, 0, 189, 54, 4, 42, 28, 27, 29, 182, 1, 232, 42, 28, 27]
abbrev dktX0_tell_4 : List UInt8 := dkwX0_tell_4 ++ dktX0_tell_5
def dkwX0_tell_3 : List UInt8 := [27, 182, 0, 170, 180, 0, 180, 167, 0, 27, 28, 4, 160, 0, 14, 42, 27, 182, 0, 170, 180, 0, 183]
abbrev dktX0_tell_3 : List UInt8 := dkwX0_tell_3 ++ dktX0_tell_4
def dkwX0_tell_2 : List UInt8 := [184, 0, 11, 154, 0, 6, 16, 254, 172, 42, 182, 1, 229, 153, 0, 6, 16, 251, 172, 28, 154, 0, 14, 42]
abbrev dktX0_tell_2 : List UInt8 := dkwX0_tell_2 ++ dktX0_tell_3
def dkwX0_tell_1 : List UInt8 := [154, 0, 9, 20, 1, 163, 167, 0, 17, 28, 4, 160, 0, 9, 20, 1, 51, 167, 0, 6, 20, 1, 102]
abbrev dktX0_tell_1 : List UInt8 := dkwX0_tell_1 ++ dktX0_tell_2
def dkwX0_tell_0 : List UInt8 := [42, 27, 182, 0, 165, 153, 0, 48, 28, 133, 9, 20, 1, 146, 184, 0, 11, 153, 0, 36, 29, 133, 9, 28]
abbrev dktX0_tell_0 : List UInt8 := dkwX0_tell_0 ++ dktX0_tell_1
theorem dksX0_tell_0 : cX0_tell.data.toList.drop 0 = dktX0_tell_0 := by decide +kernel
theorem dksX0_tell_1 : cX0_tell.data.toList.drop 24 = dktX0_tell_1 := dk_seg dksX0_tell_0 24 rfl rfl
theorem dksX0_tell_2 : cX0_tell.data.toList.drop 47 = dktX0_tell_2 := dk_seg dksX0_tell_1 23 rfl rfl
theorem dksX0_tell_3 : cX0_tell.data.toList.drop 71 = dktX0_tell_3 := dk_seg dksX0_tell_2 24 rfl rfl
theorem dksX0_tell_4 : cX0_tell.data.toList.drop 94 = dktX0_tell_4 := dk_seg dksX0_tell_3 23 rfl rfl
theorem dksX0_tell_5 : cX0_tell.data.toList.drop 117 = dktX0_tell_5 := dk_seg dksX0_tell_4 23 rfl rfl
theorem dX0_tell_0 : decode cX0_tell 0 = .ok (.aload_n 0, 1) := dk_42 (dk_at dksX0_tell_0 0 rfl rfl)
theorem dX0_tell_1 : decode cX0_tell 1 = .ok (.iload_n 1, 1) := dk_27 (dk_at dksX0_tell_0 1 rfl rfl)
theorem dX0_tell_2 : decode cX0_tell 2 = .ok (.invokevirtual 165, 3) := dk_182 0 165 (dk_at dksX0_tell_0 2 rfl rfl)
theorem dX0_tell_5 : decode cX0_tell 5 = .ok (.ifCond .eq 48, 3) := dk_153 0 48 (dk_at dksX0_tell_0 5 rfl rfl)
theorem dX0_tell_8 : decode cX0_tell 8 = .ok (.iload_n 2, 1) := dk_28 (dk_at dksX0_tell_0 8 rfl rfl)
theorem dX0_tell_9 : decode cX0_tell 9 = .ok (.i2l, 1) := dk_133 (dk_at dksX0_tell_0 9 rfl rfl)
theorem dX0_tell_10 : decode cX0_tell 10 = .ok (.lconst 0, 1) := dk_9 (dk_at dksX0_tell_0 10 rfl rfl)
theorem dX0_tell_11 : decode cX0_tell 11 = .ok (.ldc2_w 402, 3) := dk_20 1 146 (dk_at dksX0_tell_0 11 rfl rfl)
theorem dX0_tell_14 : decode cX0_tell 14 = .ok (.invokestatic 11, 3) := dk_184 0 11 (dk_at dksX0_tell_0 14 rfl rfl)
theorem dX0_tell_17 : decode cX0_tell 17 = .ok (.ifCond .eq 36, 3) := dk_153 0 36 (dk_at dksX0_tell_0 17 rfl rfl)
theorem dX0_tell_20 : decode cX0_tell 20 = .ok (.iload_n 3, 1) := dk_29 (dk_at dksX0_tell_0 20 rfl rfl)
theorem dX0_tell_21 : decode cX0_tell 21 = .ok (.i2l, 1) := dk_133 (dk_at dksX0_tell_0 21 rfl rfl)
theorem dX0_tell_22 : decode cX0_tell 22 = .ok (.lconst 0, 1) := dk_9 (dk_at dksX0_tell_0 22 rfl rfl)
theorem dX0_tell_23 : decode cX0_tell 23 = .ok (.iload_n 2, 1) := dk_28 (dk_at dksX0_tell_0 23 rfl rfl)
theorem dX0_tell_24 : decode cX0_tell 24 = .ok (.ifCond .ne 9, 3) := dk_154 0 9 (dk_at dksX0_tell_1 0 rfl rfl)
theorem dX0_tell_27 : decode cX0_tell 27 = .ok (.ldc2_w 419, 3) := dk_20 1 163 (dk_at dksX0_tell_1 3 rfl rfl)
theorem dX0_tell_30 : decode cX0_tell 30 = .ok (.goto 17, 3) := dk_167 0 17 (dk_at dksX0_tell_1 6 rfl rfl)
theorem dX0_tell_33 : decode cX0_tell 33 = .ok (.iload_n 2, 1) := dk_28 (dk_at dksX0_tell_1 9 rfl rfl)
theorem dX0_tell_34 : decode cX0_tell 34 = .ok (.iconst 1, 1) := dk_4 (dk_at dksX0_tell_1 10 rfl rfl)
theorem dX0_tell_35 : decode cX0_tell 35 = .ok (.if_icmp .ne 9, 3) := dk_160 0 9 (dk_at dksX0_tell_1 11 rfl rfl)
theorem dX0_tell_38 : decode cX0_tell 38 = .ok (.ldc2_w 307, 3) := dk_20 1 51 (dk_at dksX0_tell_1 14 rfl rfl)
theorem dX0_tell_41 : decode cX0_tell 41 = .ok (.goto 6, 3) := dk_167 0 6 (dk_at dksX0_tell_1 17 rfl rfl)
theorem dX0_tell_44 : decode cX0_tell 44 = .ok (.ldc2_w 358, 3) := dk_20 1 102 (dk_at dksX0_tell_1 20 rfl rfl)
theorem dX0_tell_47 : decode cX0_tell 47 = .ok (.invokestatic 11, 3) := dk_184 0 11 (dk_at dksX0_tell_2 0 rfl rfl)
theorem dX0_tell_50 : decode cX0_tell 50 = .ok (.ifCond .ne 6, 3) := dk_154 0 6 (dk_at dksX0_tell_2 3 rfl rfl)
theorem dX0_tell_53 : decode cX0_tell 53 = .ok (.bipush (-2), 2) := dk_16 254 (dk_at dksX0_tell_2 6 rfl rfl)
theorem dX0_tell_55 : decode cX0_tell 55 = .ok (.ireturn, 1) := dk_172 (dk_at dksX0_tell_2 8 rfl rfl)
theorem dX0_tell_56 : decode cX0_tell 56 = .ok (.aload_n 0, 1) := dk_42 (dk_at dksX0_tell_2 9 rfl rfl)
theorem dX0_tell_57 : decode cX0_tell 57 = .ok (.invokevirtual 485, 3) := dk_182 1 229 (dk_at dksX0_tell_2 10 rfl rfl)
theorem dX0_tell_60 : decode cX0_tell 60 = .ok (.ifCond .eq 6, 3) := dk_153 0 6 (dk_at dksX0_tell_2 13 rfl rfl)
theorem dX0_tell_63 : decode cX0_tell 63 = .ok (.bipush (-5), 2) := dk_16 251 (dk_at dksX0_tell_2 16 rfl rfl)
theorem dX0_tell_65 : decode cX0_tell 65 = .ok (.ireturn, 1) := dk_172 (dk_at dksX0_tell_2 18 rfl rfl)
theorem dX0_tell_66 : decode cX0_tell 66 = .ok (.iload_n 2, 1) := dk_28 (dk_at dksX0_tell_2 19 rfl rfl)
theorem dX0_tell_67 : decode cX0_tell 67 = .ok (.ifCond .ne 14, 3) := dk_154 0 14 (dk_at dksX0_tell_2 20 rfl rfl)
theorem dX0_tell_70 : decode cX0_tell 70 = .ok (.aload_n 0, 1) := dk_42 (dk_at dksX0_tell_2 23 rfl rfl)
theorem dX0_tell_71 : decode cX0_tell 71 = .ok (.iload_n 1, 1) := dk_27 (dk_at dksX0_tell_3 0 rfl rfl)
theorem dX0_tell_72 : decode cX0_tell 72 = .ok (.invokevirtual 170, 3) := dk_182 0 170 (dk_at dksX0_tell_3 1 rfl rfl)
theorem dX0_tell_75 : decode cX0_tell 75 = .ok (.getfield 180, 3) := dk_180 0 180 (dk_at dksX0_tell_3 4 rfl rfl)
theorem dX0_tell_78 : decode cX0_tell 78 = .ok (.goto 27, 3) := dk_167 0 27 (dk_at dksX0_tell_3 7 rfl rfl)
theorem dX0_tell_81 : decode cX0_tell 81 = .ok (.iload_n 2, 1) := dk_28 (dk_at dksX0_tell_3 10 rfl rfl)
theorem dX0_tell_82 : decode cX0_tell 82 = .ok (.iconst 1, 1) := dk_4 (dk_at dksX0_tell_3 11 rfl rfl)
theorem dX0_tell_83 : decode cX0_tell 83 = .ok (.if_icmp .ne 14, 3) := dk_160 0 14 (dk_at dksX0_tell_3 12 rfl rfl)
theorem dX0_tell_86 : decode cX0_tell 86 = .ok (.aload_n 0, 1) := dk_42 (dk_at dksX0_tell_3 15 rfl rfl)
theorem dX0_tell_87 : decode cX0_tell 87 = .ok (.iload_n 1, 1) := dk_27 (dk_at dksX0_tell_3 16 rfl rfl)
theorem dX0_tell_88 : decode cX0_tell 88 = .ok (.invokevirtual 170, 3) := dk_182 0 170 (dk_at dksX0_tell_3 17 rfl rfl)
theorem dX0_tell_91 : decode cX0_tell 91 = .ok (.getfield 183, 3) := dk_180 0 183 (dk_at dksX0_tell_3 20 rfl rfl)
theorem dX0_tell_94 : decode cX0_tell 94 = .ok (.goto 11, 3) := dk_167 0 11 (dk_at dksX0_tell_4 0 rfl rfl)
theorem dX0_tell_97 : decode cX0_tell 97 = .ok (.aload_n 0, 1) := dk_42 (dk_at dksX0_tell_4 3 rfl rfl)
theorem dX0_tell_98 : decode cX0_tell 98 = .ok (.iload_n 1, 1) := dk_27 (dk_at dksX0_tell_4 4 rfl rfl)
theorem dX0_tell_99 : decode cX0_tell 99 = .ok (.invokevirtual 170, 3) := dk_182 0 170 (dk_at dksX0_tell_4 5 rfl rfl)
theorem dX0_tell_102 : decode cX0_tell 102 = .ok (.getfield 189, 3) := dk_180 0 189 (dk_at dksX0_tell_4 8 rfl rfl)
theorem dX0_tell_105 : decode cX0_tell 105 = .ok (.istore 4, 2) := dk_54 4 (dk_at dksX0_tell_4 11 rfl rfl)
theorem dX0_tell_107 : decode cX0_tell 107 = .ok (.aload_n 0, 1) := dk_42 (dk_at dksX0_tell_4 13 rfl rfl)
theorem dX0_tell_108 : decode cX0_tell 108 = .ok (.iload_n 2, 1) := dk_28 (dk_at dksX0_tell_4 14 rfl rfl)
theorem dX0_tell_109 : decode cX0_tell 109 = .ok (.iload_n 1, 1) := dk_27 (dk_at dksX0_tell_4 15 rfl rfl)
theorem dX0_tell_110 : decode cX0_tell 110 = .ok (.iload_n 3, 1) := dk_29 (dk_at dksX0_tell_4 16 rfl rfl)
theorem dX0_tell_111 : decode cX0_tell 111 = .ok (.invokevirtual 488, 3) := dk_182 1 232 (dk_at dksX0_tell_4 17 rfl rfl)
theorem dX0_tell_114 : decode cX0_tell 114 = .ok (.aload_n 0, 1) := dk_42 (dk_at dksX0_tell_4 20 rfl rfl)
theorem dX0_tell_115 : decode cX0_tell 115 = .ok (.iload_n 2, 1) := dk_28 (dk_at dksX0_tell_4 21 rfl rfl)
theorem dX0_tell_116 : decode cX0_tell 116 = .ok (.iload_n 1, 1) := dk_27 (dk_at dksX0_tell_4 22 rfl rfl)
theorem dX0_tell_117 : decode cX0_tell 117 = .ok (.iload 4, 2) := dk_21 4 (dk_at dksX0_tell_5 0 rfl rfl)
theorem dX0_tell_119 : decode cX0_tell 119 = .ok (.invokevirtual 490, 3) := dk_182 1 234 (dk_at dksX0_tell_5 2 rfl rfl)
theorem dX0_tell_122 : decode cX0_tell 122 = .ok (.ireturn, 1) := dk_172 (dk_at dksX0_tell_5 5 rfl rfl)
abbrev cX0_isFull : ByteArray := prog_1_method_106_code
def yX0_isFull : MethodName := ⟨RX0, "isFull", "()Z"⟩
def dkwX0_isFull_0 : List UInt8 := [42, 180, 0, 47, 180, 1, 217, 185, 0, 148, 1, 0, 16, 60, 160, 0, 7, 4, 167, 0, 4, 3, 172]
abbrev dktX0_isFull_0 : List UInt8 := dkwX0_isFull_0 ++ []
theorem dksX0_isFull_0 : cX0_isFull.data.toList.drop 0 = dktX0_isFull_0 := by decide +kernel
theorem dX0_isFull_0 : decode cX0_isFull 0 = .ok (.aload_n 0, 1) := dk_42 (dk_at dksX0_isFull_0 0 rfl rfl)
theorem dX0_isFull_1 : decode cX0_isFull 1 = .ok (.getfield 47, 3) := dk_180 0 47 (dk_at dksX0_isFull_0 1 rfl rfl)
theorem dX0_isFull_4 : decode cX0_isFull 4 = .ok (.getfield 473, 3) := dk_180 1 217 (dk_at dksX0_isFull_0 4 rfl rfl)
theorem dX0_isFull_7 : decode cX0_isFull 7 = .ok (.invokeinterface 148 1, 5) := by decide +kernel
theorem dX0_isFull_12 : decode cX0_isFull 12 = .ok (.bipush 60, 2) := dk_16 60 (dk_at dksX0_isFull_0 12 rfl rfl)
theorem dX0_isFull_14 : decode cX0_isFull 14 = .ok (.if_icmp .ne 7, 3) := dk_160 0 7 (dk_at dksX0_isFull_0 14 rfl rfl)
theorem dX0_isFull_17 : decode cX0_isFull 17 = .ok (.iconst 1, 1) := dk_4 (dk_at dksX0_isFull_0 17 rfl rfl)
theorem dX0_isFull_18 : decode cX0_isFull 18 = .ok (.goto 4, 3) := dk_167 0 4 (dk_at dksX0_isFull_0 18 rfl rfl)
theorem dX0_isFull_21 : decode cX0_isFull 21 = .ok (.iconst 0, 1) := dk_3 (dk_at dksX0_isFull_0 21 rfl rfl)
theorem dX0_isFull_22 : decode cX0_isFull 22 = .ok (.ireturn, 1) := dk_172 (dk_at dksX0_isFull_0 22 rfl rfl)
abbrev cX0_lays : ByteArray := prog_1_method_107_code
def yX0_lays : MethodName := ⟨RX0, "lays", "(III)V"⟩
def dkwX0_lays_2 : List UInt8 := [167, 0, 12, 42, 28, 182, 0, 170, 29, 181, 0, 189, 177]
abbrev dktX0_lays_2 : List UInt8 := dkwX0_lays_2 ++ []
def dkwX0_lays_1 : List UInt8 := [182, 0, 170, 29, 181, 0, 180, 167, 0, 29, 27, 4, 160, 0, 15, 42, 28, 182, 0, 170, 29, 181, 0, 183]
abbrev dktX0_lays_1 : List UInt8 := dkwX0_lays_1 ++ dktX0_lays_2
def dkwX0_lays_0 : List UInt8 := [27, 6, 160, 0, 16, 42, 180, 0, 47, 180, 0, 195, 28, 29, 79, 167, 0, 45, 27, 154, 0, 15, 42, 28]
abbrev dktX0_lays_0 : List UInt8 := dkwX0_lays_0 ++ dktX0_lays_1
theorem dksX0_lays_0 : cX0_lays.data.toList.drop 0 = dktX0_lays_0 := by decide +kernel
theorem dksX0_lays_1 : cX0_lays.data.toList.drop 24 = dktX0_lays_1 := dk_seg dksX0_lays_0 24 rfl rfl
theorem dksX0_lays_2 : cX0_lays.data.toList.drop 48 = dktX0_lays_2 := dk_seg dksX0_lays_1 24 rfl rfl
theorem dX0_lays_0 : decode cX0_lays 0 = .ok (.iload_n 1, 1) := dk_27 (dk_at dksX0_lays_0 0 rfl rfl)
theorem dX0_lays_1 : decode cX0_lays 1 = .ok (.iconst 3, 1) := dk_6 (dk_at dksX0_lays_0 1 rfl rfl)
theorem dX0_lays_2 : decode cX0_lays 2 = .ok (.if_icmp .ne 16, 3) := dk_160 0 16 (dk_at dksX0_lays_0 2 rfl rfl)
theorem dX0_lays_5 : decode cX0_lays 5 = .ok (.aload_n 0, 1) := dk_42 (dk_at dksX0_lays_0 5 rfl rfl)
theorem dX0_lays_6 : decode cX0_lays 6 = .ok (.getfield 47, 3) := dk_180 0 47 (dk_at dksX0_lays_0 6 rfl rfl)
theorem dX0_lays_9 : decode cX0_lays 9 = .ok (.getfield 195, 3) := dk_180 0 195 (dk_at dksX0_lays_0 9 rfl rfl)
theorem dX0_lays_12 : decode cX0_lays 12 = .ok (.iload_n 2, 1) := dk_28 (dk_at dksX0_lays_0 12 rfl rfl)
theorem dX0_lays_13 : decode cX0_lays 13 = .ok (.iload_n 3, 1) := dk_29 (dk_at dksX0_lays_0 13 rfl rfl)
theorem dX0_lays_14 : decode cX0_lays 14 = .ok (.iastore, 1) := dk_79 (dk_at dksX0_lays_0 14 rfl rfl)
theorem dX0_lays_15 : decode cX0_lays 15 = .ok (.goto 45, 3) := dk_167 0 45 (dk_at dksX0_lays_0 15 rfl rfl)
theorem dX0_lays_18 : decode cX0_lays 18 = .ok (.iload_n 1, 1) := dk_27 (dk_at dksX0_lays_0 18 rfl rfl)
theorem dX0_lays_19 : decode cX0_lays 19 = .ok (.ifCond .ne 15, 3) := dk_154 0 15 (dk_at dksX0_lays_0 19 rfl rfl)
theorem dX0_lays_22 : decode cX0_lays 22 = .ok (.aload_n 0, 1) := dk_42 (dk_at dksX0_lays_0 22 rfl rfl)
theorem dX0_lays_23 : decode cX0_lays 23 = .ok (.iload_n 2, 1) := dk_28 (dk_at dksX0_lays_0 23 rfl rfl)
theorem dX0_lays_24 : decode cX0_lays 24 = .ok (.invokevirtual 170, 3) := dk_182 0 170 (dk_at dksX0_lays_1 0 rfl rfl)
theorem dX0_lays_27 : decode cX0_lays 27 = .ok (.iload_n 3, 1) := dk_29 (dk_at dksX0_lays_1 3 rfl rfl)
theorem dX0_lays_28 : decode cX0_lays 28 = .ok (.putfield 180, 3) := dk_181 0 180 (dk_at dksX0_lays_1 4 rfl rfl)
theorem dX0_lays_31 : decode cX0_lays 31 = .ok (.goto 29, 3) := dk_167 0 29 (dk_at dksX0_lays_1 7 rfl rfl)
theorem dX0_lays_34 : decode cX0_lays 34 = .ok (.iload_n 1, 1) := dk_27 (dk_at dksX0_lays_1 10 rfl rfl)
theorem dX0_lays_35 : decode cX0_lays 35 = .ok (.iconst 1, 1) := dk_4 (dk_at dksX0_lays_1 11 rfl rfl)
theorem dX0_lays_36 : decode cX0_lays 36 = .ok (.if_icmp .ne 15, 3) := dk_160 0 15 (dk_at dksX0_lays_1 12 rfl rfl)
theorem dX0_lays_39 : decode cX0_lays 39 = .ok (.aload_n 0, 1) := dk_42 (dk_at dksX0_lays_1 15 rfl rfl)
theorem dX0_lays_40 : decode cX0_lays 40 = .ok (.iload_n 2, 1) := dk_28 (dk_at dksX0_lays_1 16 rfl rfl)
theorem dX0_lays_41 : decode cX0_lays 41 = .ok (.invokevirtual 170, 3) := dk_182 0 170 (dk_at dksX0_lays_1 17 rfl rfl)
theorem dX0_lays_44 : decode cX0_lays 44 = .ok (.iload_n 3, 1) := dk_29 (dk_at dksX0_lays_1 20 rfl rfl)
theorem dX0_lays_45 : decode cX0_lays 45 = .ok (.putfield 183, 3) := dk_181 0 183 (dk_at dksX0_lays_1 21 rfl rfl)
theorem dX0_lays_48 : decode cX0_lays 48 = .ok (.goto 12, 3) := dk_167 0 12 (dk_at dksX0_lays_2 0 rfl rfl)
theorem dX0_lays_51 : decode cX0_lays 51 = .ok (.aload_n 0, 1) := dk_42 (dk_at dksX0_lays_2 3 rfl rfl)
theorem dX0_lays_52 : decode cX0_lays 52 = .ok (.iload_n 2, 1) := dk_28 (dk_at dksX0_lays_2 4 rfl rfl)
theorem dX0_lays_53 : decode cX0_lays 53 = .ok (.invokevirtual 170, 3) := dk_182 0 170 (dk_at dksX0_lays_2 5 rfl rfl)
theorem dX0_lays_56 : decode cX0_lays 56 = .ok (.iload_n 3, 1) := dk_29 (dk_at dksX0_lays_2 8 rfl rfl)
theorem dX0_lays_57 : decode cX0_lays 57 = .ok (.putfield 189, 3) := dk_181 0 189 (dk_at dksX0_lays_2 9 rfl rfl)
theorem dX0_lays_60 : decode cX0_lays 60 = .ok (.return_, 1) := dk_177 (dk_at dksX0_lays_2 12 rfl rfl)
abbrev cX0_changes : ByteArray := prog_1_method_105_code
def yX0_changes : MethodName := ⟨RX0, "changes", "(III)I"⟩
def dkwX0_changes_1 : List UInt8 := [172]
abbrev dktX0_changes_1 : List UInt8 := dkwX0_changes_1 ++ []
def dkwX0_changes_0 : List UInt8 := [42, 180, 0, 47, 180, 1, 217, 187, 1, 220, 89, 27, 28, 29, 183, 1, 222, 185, 1, 225, 2, 0, 87, 29]
abbrev dktX0_changes_0 : List UInt8 := dkwX0_changes_0 ++ dktX0_changes_1
theorem dksX0_changes_0 : cX0_changes.data.toList.drop 0 = dktX0_changes_0 := by decide +kernel
theorem dksX0_changes_1 : cX0_changes.data.toList.drop 24 = dktX0_changes_1 := dk_seg dksX0_changes_0 24 rfl rfl
theorem dX0_changes_0 : decode cX0_changes 0 = .ok (.aload_n 0, 1) := dk_42 (dk_at dksX0_changes_0 0 rfl rfl)
theorem dX0_changes_1 : decode cX0_changes 1 = .ok (.getfield 47, 3) := dk_180 0 47 (dk_at dksX0_changes_0 1 rfl rfl)
theorem dX0_changes_4 : decode cX0_changes 4 = .ok (.getfield 473, 3) := dk_180 1 217 (dk_at dksX0_changes_0 4 rfl rfl)
theorem dX0_changes_7 : decode cX0_changes 7 = .ok (.new 476, 3) := dk_187 1 220 (dk_at dksX0_changes_0 7 rfl rfl)
theorem dX0_changes_10 : decode cX0_changes 10 = .ok (.dup, 1) := dk_89 (dk_at dksX0_changes_0 10 rfl rfl)
theorem dX0_changes_11 : decode cX0_changes 11 = .ok (.iload_n 1, 1) := dk_27 (dk_at dksX0_changes_0 11 rfl rfl)
theorem dX0_changes_12 : decode cX0_changes 12 = .ok (.iload_n 2, 1) := dk_28 (dk_at dksX0_changes_0 12 rfl rfl)
theorem dX0_changes_13 : decode cX0_changes 13 = .ok (.iload_n 3, 1) := dk_29 (dk_at dksX0_changes_0 13 rfl rfl)
theorem dX0_changes_14 : decode cX0_changes 14 = .ok (.invokespecial 478, 3) := dk_183 1 222 (dk_at dksX0_changes_0 14 rfl rfl)
theorem dX0_changes_17 : decode cX0_changes 17 = .ok (.invokeinterface 481 2, 5) := by decide +kernel
theorem dX0_changes_22 : decode cX0_changes 22 = .ok (.pop, 1) := dk_87 (dk_at dksX0_changes_0 22 rfl rfl)
theorem dX0_changes_23 : decode cX0_changes 23 = .ok (.iload_n 3, 1) := dk_29 (dk_at dksX0_changes_0 23 rfl rfl)
theorem dX0_changes_24 : decode cX0_changes 24 = .ok (.ireturn, 1) := dk_172 (dk_at dksX0_changes_1 0 rfl rfl)
abbrev cX0_needs : ByteArray := prog_1_method_109_code
def yX0_needs : MethodName := ⟨RX0, "needs", "(II)I"⟩
def dkwX0_needs_2 : List UInt8 := [182, 1, 232, 42, 6, 27, 29, 182, 1, 234, 172]
abbrev dktX0_needs_2 : List UInt8 := dkwX0_needs_2 ++ []
def dkwX0_needs_1 : List UInt8 := [182, 1, 229, 153, 0, 6, 16, 251, 172, 42, 180, 0, 47, 180, 0, 195, 27, 46, 62, 42, 6, 27, 28]
abbrev dktX0_needs_1 : List UInt8 := dkwX0_needs_1 ++ dktX0_needs_2
def dkwX0_needs_0 : List UInt8 := [42, 27, 182, 0, 192, 153, 0, 15, 28, 133, 9, 20, 1, 102, 184, 0, 11, 154, 0, 6, 16, 254, 172, 42]
abbrev dktX0_needs_0 : List UInt8 := dkwX0_needs_0 ++ dktX0_needs_1
theorem dksX0_needs_0 : cX0_needs.data.toList.drop 0 = dktX0_needs_0 := by decide +kernel
theorem dksX0_needs_1 : cX0_needs.data.toList.drop 24 = dktX0_needs_1 := dk_seg dksX0_needs_0 24 rfl rfl
theorem dksX0_needs_2 : cX0_needs.data.toList.drop 47 = dktX0_needs_2 := dk_seg dksX0_needs_1 23 rfl rfl
theorem dX0_needs_0 : decode cX0_needs 0 = .ok (.aload_n 0, 1) := dk_42 (dk_at dksX0_needs_0 0 rfl rfl)
theorem dX0_needs_1 : decode cX0_needs 1 = .ok (.iload_n 1, 1) := dk_27 (dk_at dksX0_needs_0 1 rfl rfl)
theorem dX0_needs_2 : decode cX0_needs 2 = .ok (.invokevirtual 192, 3) := dk_182 0 192 (dk_at dksX0_needs_0 2 rfl rfl)
theorem dX0_needs_5 : decode cX0_needs 5 = .ok (.ifCond .eq 15, 3) := dk_153 0 15 (dk_at dksX0_needs_0 5 rfl rfl)
theorem dX0_needs_8 : decode cX0_needs 8 = .ok (.iload_n 2, 1) := dk_28 (dk_at dksX0_needs_0 8 rfl rfl)
theorem dX0_needs_9 : decode cX0_needs 9 = .ok (.i2l, 1) := dk_133 (dk_at dksX0_needs_0 9 rfl rfl)
theorem dX0_needs_10 : decode cX0_needs 10 = .ok (.lconst 0, 1) := dk_9 (dk_at dksX0_needs_0 10 rfl rfl)
theorem dX0_needs_11 : decode cX0_needs 11 = .ok (.ldc2_w 358, 3) := dk_20 1 102 (dk_at dksX0_needs_0 11 rfl rfl)
theorem dX0_needs_14 : decode cX0_needs 14 = .ok (.invokestatic 11, 3) := dk_184 0 11 (dk_at dksX0_needs_0 14 rfl rfl)
theorem dX0_needs_17 : decode cX0_needs 17 = .ok (.ifCond .ne 6, 3) := dk_154 0 6 (dk_at dksX0_needs_0 17 rfl rfl)
theorem dX0_needs_20 : decode cX0_needs 20 = .ok (.bipush (-2), 2) := dk_16 254 (dk_at dksX0_needs_0 20 rfl rfl)
theorem dX0_needs_22 : decode cX0_needs 22 = .ok (.ireturn, 1) := dk_172 (dk_at dksX0_needs_0 22 rfl rfl)
theorem dX0_needs_23 : decode cX0_needs 23 = .ok (.aload_n 0, 1) := dk_42 (dk_at dksX0_needs_0 23 rfl rfl)
theorem dX0_needs_24 : decode cX0_needs 24 = .ok (.invokevirtual 485, 3) := dk_182 1 229 (dk_at dksX0_needs_1 0 rfl rfl)
theorem dX0_needs_27 : decode cX0_needs 27 = .ok (.ifCond .eq 6, 3) := dk_153 0 6 (dk_at dksX0_needs_1 3 rfl rfl)
theorem dX0_needs_30 : decode cX0_needs 30 = .ok (.bipush (-5), 2) := dk_16 251 (dk_at dksX0_needs_1 6 rfl rfl)
theorem dX0_needs_32 : decode cX0_needs 32 = .ok (.ireturn, 1) := dk_172 (dk_at dksX0_needs_1 8 rfl rfl)
theorem dX0_needs_33 : decode cX0_needs 33 = .ok (.aload_n 0, 1) := dk_42 (dk_at dksX0_needs_1 9 rfl rfl)
theorem dX0_needs_34 : decode cX0_needs 34 = .ok (.getfield 47, 3) := dk_180 0 47 (dk_at dksX0_needs_1 10 rfl rfl)
theorem dX0_needs_37 : decode cX0_needs 37 = .ok (.getfield 195, 3) := dk_180 0 195 (dk_at dksX0_needs_1 13 rfl rfl)
theorem dX0_needs_40 : decode cX0_needs 40 = .ok (.iload_n 1, 1) := dk_27 (dk_at dksX0_needs_1 16 rfl rfl)
theorem dX0_needs_41 : decode cX0_needs 41 = .ok (.iaload, 1) := dk_46 (dk_at dksX0_needs_1 17 rfl rfl)
theorem dX0_needs_42 : decode cX0_needs 42 = .ok (.istore_n 3, 1) := dk_62 (dk_at dksX0_needs_1 18 rfl rfl)
theorem dX0_needs_43 : decode cX0_needs 43 = .ok (.aload_n 0, 1) := dk_42 (dk_at dksX0_needs_1 19 rfl rfl)
theorem dX0_needs_44 : decode cX0_needs 44 = .ok (.iconst 3, 1) := dk_6 (dk_at dksX0_needs_1 20 rfl rfl)
theorem dX0_needs_45 : decode cX0_needs 45 = .ok (.iload_n 1, 1) := dk_27 (dk_at dksX0_needs_1 21 rfl rfl)
theorem dX0_needs_46 : decode cX0_needs 46 = .ok (.iload_n 2, 1) := dk_28 (dk_at dksX0_needs_1 22 rfl rfl)
theorem dX0_needs_47 : decode cX0_needs 47 = .ok (.invokevirtual 488, 3) := dk_182 1 232 (dk_at dksX0_needs_2 0 rfl rfl)
theorem dX0_needs_50 : decode cX0_needs 50 = .ok (.aload_n 0, 1) := dk_42 (dk_at dksX0_needs_2 3 rfl rfl)
theorem dX0_needs_51 : decode cX0_needs 51 = .ok (.iconst 3, 1) := dk_6 (dk_at dksX0_needs_2 4 rfl rfl)
theorem dX0_needs_52 : decode cX0_needs 52 = .ok (.iload_n 1, 1) := dk_27 (dk_at dksX0_needs_2 5 rfl rfl)
theorem dX0_needs_53 : decode cX0_needs 53 = .ok (.iload_n 3, 1) := dk_29 (dk_at dksX0_needs_2 6 rfl rfl)
theorem dX0_needs_54 : decode cX0_needs 54 = .ok (.invokevirtual 490, 3) := dk_182 1 234 (dk_at dksX0_needs_2 7 rfl rfl)
theorem dX0_needs_57 : decode cX0_needs 57 = .ok (.ireturn, 1) := dk_172 (dk_at dksX0_needs_2 10 rfl rfl)
abbrev cX0_undo : ByteArray := prog_1_method_110_code
def yX0_undo : MethodName := ⟨RX0, "undo", "()I"⟩
def dkwX0_undo_3 : List UInt8 := [182, 1, 232, 27, 172]
abbrev dktX0_undo_3 : List UInt8 := dkwX0_undo_3 ++ []
def dkwX0_undo_2 : List UInt8 := [185, 1, 236, 2, 0, 192, 1, 220, 77, 42, 44, 180, 1, 239, 44, 180, 1, 242, 44, 180, 1, 244]
abbrev dktX0_undo_2 : List UInt8 := dkwX0_undo_2 ++ dktX0_undo_3
def dkwX0_undo_1 : List UInt8 := [185, 0, 148, 1, 0, 4, 100, 60, 27, 156, 0, 6, 16, 251, 172, 42, 180, 0, 47, 180, 1, 217, 27]
abbrev dktX0_undo_1 : List UInt8 := dkwX0_undo_1 ++ dktX0_undo_2
def dkwX0_undo_0 : List UInt8 := [42, 180, 0, 47, 182, 0, 126, 154, 0, 6, 16, 254, 172, 42, 180, 0, 47, 180, 1, 217]
abbrev dktX0_undo_0 : List UInt8 := dkwX0_undo_0 ++ dktX0_undo_1
theorem dksX0_undo_0 : cX0_undo.data.toList.drop 0 = dktX0_undo_0 := by decide +kernel
theorem dksX0_undo_1 : cX0_undo.data.toList.drop 20 = dktX0_undo_1 := dk_seg dksX0_undo_0 20 rfl rfl
theorem dksX0_undo_2 : cX0_undo.data.toList.drop 43 = dktX0_undo_2 := dk_seg dksX0_undo_1 23 rfl rfl
theorem dksX0_undo_3 : cX0_undo.data.toList.drop 65 = dktX0_undo_3 := dk_seg dksX0_undo_2 22 rfl rfl
theorem dX0_undo_0 : decode cX0_undo 0 = .ok (.aload_n 0, 1) := dk_42 (dk_at dksX0_undo_0 0 rfl rfl)
theorem dX0_undo_1 : decode cX0_undo 1 = .ok (.getfield 47, 3) := dk_180 0 47 (dk_at dksX0_undo_0 1 rfl rfl)
theorem dX0_undo_4 : decode cX0_undo 4 = .ok (.invokevirtual 126, 3) := dk_182 0 126 (dk_at dksX0_undo_0 4 rfl rfl)
theorem dX0_undo_7 : decode cX0_undo 7 = .ok (.ifCond .ne 6, 3) := dk_154 0 6 (dk_at dksX0_undo_0 7 rfl rfl)
theorem dX0_undo_10 : decode cX0_undo 10 = .ok (.bipush (-2), 2) := dk_16 254 (dk_at dksX0_undo_0 10 rfl rfl)
theorem dX0_undo_12 : decode cX0_undo 12 = .ok (.ireturn, 1) := dk_172 (dk_at dksX0_undo_0 12 rfl rfl)
theorem dX0_undo_13 : decode cX0_undo 13 = .ok (.aload_n 0, 1) := dk_42 (dk_at dksX0_undo_0 13 rfl rfl)
theorem dX0_undo_14 : decode cX0_undo 14 = .ok (.getfield 47, 3) := dk_180 0 47 (dk_at dksX0_undo_0 14 rfl rfl)
theorem dX0_undo_17 : decode cX0_undo 17 = .ok (.getfield 473, 3) := dk_180 1 217 (dk_at dksX0_undo_0 17 rfl rfl)
theorem dX0_undo_20 : decode cX0_undo 20 = .ok (.invokeinterface 148 1, 5) := by decide +kernel
theorem dX0_undo_25 : decode cX0_undo 25 = .ok (.iconst 1, 1) := dk_4 (dk_at dksX0_undo_1 5 rfl rfl)
theorem dX0_undo_26 : decode cX0_undo 26 = .ok (.isub, 1) := dk_100 (dk_at dksX0_undo_1 6 rfl rfl)
theorem dX0_undo_27 : decode cX0_undo 27 = .ok (.istore_n 1, 1) := dk_60 (dk_at dksX0_undo_1 7 rfl rfl)
theorem dX0_undo_28 : decode cX0_undo 28 = .ok (.iload_n 1, 1) := dk_27 (dk_at dksX0_undo_1 8 rfl rfl)
theorem dX0_undo_29 : decode cX0_undo 29 = .ok (.ifCond .ge 6, 3) := dk_156 0 6 (dk_at dksX0_undo_1 9 rfl rfl)
theorem dX0_undo_32 : decode cX0_undo 32 = .ok (.bipush (-5), 2) := dk_16 251 (dk_at dksX0_undo_1 12 rfl rfl)
theorem dX0_undo_34 : decode cX0_undo 34 = .ok (.ireturn, 1) := dk_172 (dk_at dksX0_undo_1 14 rfl rfl)
theorem dX0_undo_35 : decode cX0_undo 35 = .ok (.aload_n 0, 1) := dk_42 (dk_at dksX0_undo_1 15 rfl rfl)
theorem dX0_undo_36 : decode cX0_undo 36 = .ok (.getfield 47, 3) := dk_180 0 47 (dk_at dksX0_undo_1 16 rfl rfl)
theorem dX0_undo_39 : decode cX0_undo 39 = .ok (.getfield 473, 3) := dk_180 1 217 (dk_at dksX0_undo_1 19 rfl rfl)
theorem dX0_undo_42 : decode cX0_undo 42 = .ok (.iload_n 1, 1) := dk_27 (dk_at dksX0_undo_1 22 rfl rfl)
theorem dX0_undo_43 : decode cX0_undo 43 = .ok (.invokeinterface 492 2, 5) := by decide +kernel
theorem dX0_undo_48 : decode cX0_undo 48 = .ok (.checkcast 476, 3) := dk_192 1 220 (dk_at dksX0_undo_2 5 rfl rfl)
theorem dX0_undo_51 : decode cX0_undo 51 = .ok (.astore_n 2, 1) := dk_77 (dk_at dksX0_undo_2 8 rfl rfl)
theorem dX0_undo_52 : decode cX0_undo 52 = .ok (.aload_n 0, 1) := dk_42 (dk_at dksX0_undo_2 9 rfl rfl)
theorem dX0_undo_53 : decode cX0_undo 53 = .ok (.aload_n 2, 1) := dk_44 (dk_at dksX0_undo_2 10 rfl rfl)
theorem dX0_undo_54 : decode cX0_undo 54 = .ok (.getfield 495, 3) := dk_180 1 239 (dk_at dksX0_undo_2 11 rfl rfl)
theorem dX0_undo_57 : decode cX0_undo 57 = .ok (.aload_n 2, 1) := dk_44 (dk_at dksX0_undo_2 14 rfl rfl)
theorem dX0_undo_58 : decode cX0_undo 58 = .ok (.getfield 498, 3) := dk_180 1 242 (dk_at dksX0_undo_2 15 rfl rfl)
theorem dX0_undo_61 : decode cX0_undo 61 = .ok (.aload_n 2, 1) := dk_44 (dk_at dksX0_undo_2 18 rfl rfl)
theorem dX0_undo_62 : decode cX0_undo 62 = .ok (.getfield 500, 3) := dk_180 1 244 (dk_at dksX0_undo_2 19 rfl rfl)
theorem dX0_undo_65 : decode cX0_undo 65 = .ok (.invokevirtual 488, 3) := dk_182 1 232 (dk_at dksX0_undo_3 0 rfl rfl)
theorem dX0_undo_68 : decode cX0_undo 68 = .ok (.iload_n 1, 1) := dk_27 (dk_at dksX0_undo_3 3 rfl rfl)
theorem dX0_undo_69 : decode cX0_undo 69 = .ok (.ireturn, 1) := dk_172 (dk_at dksX0_undo_3 4 rfl rfl)
abbrev cX0_drawn : ByteArray := prog_1_method_114_code
def yX0_drawn : MethodName := ⟨RX0, "drawn", "(II)I"⟩
def dkwX0_drawn_3 : List UInt8 := [182, 1, 10, 182, 1, 22, 172]
abbrev dktX0_drawn_3 : List UInt8 := dkwX0_drawn_3 ++ []
def dkwX0_drawn_2 : List UInt8 := [167, 0, 4, 3, 172, 28, 4, 160, 0, 11, 42, 29, 182, 1, 25, 167, 0, 14, 42, 180, 0, 68, 29]
abbrev dktX0_drawn_2 : List UInt8 := dkwX0_drawn_2 ++ dktX0_drawn_3
def dkwX0_drawn_1 : List UInt8 := [27, 133, 182, 2, 11, 62, 28, 154, 0, 5, 29, 172, 29, 2, 160, 0, 14, 28, 4, 160, 0, 7, 2]
abbrev dktX0_drawn_1 : List UInt8 := dkwX0_drawn_1 ++ dktX0_drawn_2
def dkwX0_drawn_0 : List UInt8 := [42, 27, 182, 2, 8, 153, 0, 15, 28, 133, 9, 20, 1, 146, 184, 0, 11, 154, 0, 6, 16, 254, 172, 42]
abbrev dktX0_drawn_0 : List UInt8 := dkwX0_drawn_0 ++ dktX0_drawn_1
theorem dksX0_drawn_0 : cX0_drawn.data.toList.drop 0 = dktX0_drawn_0 := by decide +kernel
theorem dksX0_drawn_1 : cX0_drawn.data.toList.drop 24 = dktX0_drawn_1 := dk_seg dksX0_drawn_0 24 rfl rfl
theorem dksX0_drawn_2 : cX0_drawn.data.toList.drop 47 = dktX0_drawn_2 := dk_seg dksX0_drawn_1 23 rfl rfl
theorem dksX0_drawn_3 : cX0_drawn.data.toList.drop 70 = dktX0_drawn_3 := dk_seg dksX0_drawn_2 23 rfl rfl
theorem dX0_drawn_0 : decode cX0_drawn 0 = .ok (.aload_n 0, 1) := dk_42 (dk_at dksX0_drawn_0 0 rfl rfl)
theorem dX0_drawn_1 : decode cX0_drawn 1 = .ok (.iload_n 1, 1) := dk_27 (dk_at dksX0_drawn_0 1 rfl rfl)
theorem dX0_drawn_2 : decode cX0_drawn 2 = .ok (.invokevirtual 520, 3) := dk_182 2 8 (dk_at dksX0_drawn_0 2 rfl rfl)
theorem dX0_drawn_5 : decode cX0_drawn 5 = .ok (.ifCond .eq 15, 3) := dk_153 0 15 (dk_at dksX0_drawn_0 5 rfl rfl)
theorem dX0_drawn_8 : decode cX0_drawn 8 = .ok (.iload_n 2, 1) := dk_28 (dk_at dksX0_drawn_0 8 rfl rfl)
theorem dX0_drawn_9 : decode cX0_drawn 9 = .ok (.i2l, 1) := dk_133 (dk_at dksX0_drawn_0 9 rfl rfl)
theorem dX0_drawn_10 : decode cX0_drawn 10 = .ok (.lconst 0, 1) := dk_9 (dk_at dksX0_drawn_0 10 rfl rfl)
theorem dX0_drawn_11 : decode cX0_drawn 11 = .ok (.ldc2_w 402, 3) := dk_20 1 146 (dk_at dksX0_drawn_0 11 rfl rfl)
theorem dX0_drawn_14 : decode cX0_drawn 14 = .ok (.invokestatic 11, 3) := dk_184 0 11 (dk_at dksX0_drawn_0 14 rfl rfl)
theorem dX0_drawn_17 : decode cX0_drawn 17 = .ok (.ifCond .ne 6, 3) := dk_154 0 6 (dk_at dksX0_drawn_0 17 rfl rfl)
theorem dX0_drawn_20 : decode cX0_drawn 20 = .ok (.bipush (-2), 2) := dk_16 254 (dk_at dksX0_drawn_0 20 rfl rfl)
theorem dX0_drawn_22 : decode cX0_drawn 22 = .ok (.ireturn, 1) := dk_172 (dk_at dksX0_drawn_0 22 rfl rfl)
theorem dX0_drawn_23 : decode cX0_drawn 23 = .ok (.aload_n 0, 1) := dk_42 (dk_at dksX0_drawn_0 23 rfl rfl)
theorem dX0_drawn_24 : decode cX0_drawn 24 = .ok (.iload_n 1, 1) := dk_27 (dk_at dksX0_drawn_1 0 rfl rfl)
theorem dX0_drawn_25 : decode cX0_drawn 25 = .ok (.i2l, 1) := dk_133 (dk_at dksX0_drawn_1 1 rfl rfl)
theorem dX0_drawn_26 : decode cX0_drawn 26 = .ok (.invokevirtual 523, 3) := dk_182 2 11 (dk_at dksX0_drawn_1 2 rfl rfl)
theorem dX0_drawn_29 : decode cX0_drawn 29 = .ok (.istore_n 3, 1) := dk_62 (dk_at dksX0_drawn_1 5 rfl rfl)
theorem dX0_drawn_30 : decode cX0_drawn 30 = .ok (.iload_n 2, 1) := dk_28 (dk_at dksX0_drawn_1 6 rfl rfl)
theorem dX0_drawn_31 : decode cX0_drawn 31 = .ok (.ifCond .ne 5, 3) := dk_154 0 5 (dk_at dksX0_drawn_1 7 rfl rfl)
theorem dX0_drawn_34 : decode cX0_drawn 34 = .ok (.iload_n 3, 1) := dk_29 (dk_at dksX0_drawn_1 10 rfl rfl)
theorem dX0_drawn_35 : decode cX0_drawn 35 = .ok (.ireturn, 1) := dk_172 (dk_at dksX0_drawn_1 11 rfl rfl)
theorem dX0_drawn_36 : decode cX0_drawn 36 = .ok (.iload_n 3, 1) := dk_29 (dk_at dksX0_drawn_1 12 rfl rfl)
theorem dX0_drawn_37 : decode cX0_drawn 37 = .ok (.iconst (-1), 1) := dk_2 (dk_at dksX0_drawn_1 13 rfl rfl)
theorem dX0_drawn_38 : decode cX0_drawn 38 = .ok (.if_icmp .ne 14, 3) := dk_160 0 14 (dk_at dksX0_drawn_1 14 rfl rfl)
theorem dX0_drawn_41 : decode cX0_drawn 41 = .ok (.iload_n 2, 1) := dk_28 (dk_at dksX0_drawn_1 17 rfl rfl)
theorem dX0_drawn_42 : decode cX0_drawn 42 = .ok (.iconst 1, 1) := dk_4 (dk_at dksX0_drawn_1 18 rfl rfl)
theorem dX0_drawn_43 : decode cX0_drawn 43 = .ok (.if_icmp .ne 7, 3) := dk_160 0 7 (dk_at dksX0_drawn_1 19 rfl rfl)
theorem dX0_drawn_46 : decode cX0_drawn 46 = .ok (.iconst (-1), 1) := dk_2 (dk_at dksX0_drawn_1 22 rfl rfl)
theorem dX0_drawn_47 : decode cX0_drawn 47 = .ok (.goto 4, 3) := dk_167 0 4 (dk_at dksX0_drawn_2 0 rfl rfl)
theorem dX0_drawn_50 : decode cX0_drawn 50 = .ok (.iconst 0, 1) := dk_3 (dk_at dksX0_drawn_2 3 rfl rfl)
theorem dX0_drawn_51 : decode cX0_drawn 51 = .ok (.ireturn, 1) := dk_172 (dk_at dksX0_drawn_2 4 rfl rfl)
theorem dX0_drawn_52 : decode cX0_drawn 52 = .ok (.iload_n 2, 1) := dk_28 (dk_at dksX0_drawn_2 5 rfl rfl)
theorem dX0_drawn_53 : decode cX0_drawn 53 = .ok (.iconst 1, 1) := dk_4 (dk_at dksX0_drawn_2 6 rfl rfl)
theorem dX0_drawn_54 : decode cX0_drawn 54 = .ok (.if_icmp .ne 11, 3) := dk_160 0 11 (dk_at dksX0_drawn_2 7 rfl rfl)
theorem dX0_drawn_57 : decode cX0_drawn 57 = .ok (.aload_n 0, 1) := dk_42 (dk_at dksX0_drawn_2 10 rfl rfl)
theorem dX0_drawn_58 : decode cX0_drawn 58 = .ok (.iload_n 3, 1) := dk_29 (dk_at dksX0_drawn_2 11 rfl rfl)
theorem dX0_drawn_59 : decode cX0_drawn 59 = .ok (.invokevirtual 281, 3) := dk_182 1 25 (dk_at dksX0_drawn_2 12 rfl rfl)
theorem dX0_drawn_62 : decode cX0_drawn 62 = .ok (.goto 14, 3) := dk_167 0 14 (dk_at dksX0_drawn_2 15 rfl rfl)
theorem dX0_drawn_65 : decode cX0_drawn 65 = .ok (.aload_n 0, 1) := dk_42 (dk_at dksX0_drawn_2 18 rfl rfl)
theorem dX0_drawn_66 : decode cX0_drawn 66 = .ok (.getfield 68, 3) := dk_180 0 68 (dk_at dksX0_drawn_2 19 rfl rfl)
theorem dX0_drawn_69 : decode cX0_drawn 69 = .ok (.iload_n 3, 1) := dk_29 (dk_at dksX0_drawn_2 22 rfl rfl)
theorem dX0_drawn_70 : decode cX0_drawn 70 = .ok (.invokevirtual 266, 3) := dk_182 1 10 (dk_at dksX0_drawn_3 0 rfl rfl)
theorem dX0_drawn_73 : decode cX0_drawn 73 = .ok (.invokevirtual 278, 3) := dk_182 1 22 (dk_at dksX0_drawn_3 3 rfl rfl)
theorem dX0_drawn_76 : decode cX0_drawn 76 = .ok (.ireturn, 1) := dk_172 (dk_at dksX0_drawn_3 6 rfl rfl)
abbrev cX0_isSeed : ByteArray := prog_1_method_113_code
def yX0_isSeed : MethodName := ⟨RX0, "isSeed", "(I)Z"⟩
def dkwX0_isSeed_1 : List UInt8 := [167, 0, 4, 3, 172]
abbrev dktX0_isSeed_1 : List UInt8 := dkwX0_isSeed_1 ++ []
def dkwX0_isSeed_0 : List UInt8 := [42, 180, 0, 47, 182, 0, 126, 153, 0, 19, 27, 133, 9, 20, 2, 6, 184, 0, 11, 153, 0, 7, 4]
abbrev dktX0_isSeed_0 : List UInt8 := dkwX0_isSeed_0 ++ dktX0_isSeed_1
theorem dksX0_isSeed_0 : cX0_isSeed.data.toList.drop 0 = dktX0_isSeed_0 := by decide +kernel
theorem dksX0_isSeed_1 : cX0_isSeed.data.toList.drop 23 = dktX0_isSeed_1 := dk_seg dksX0_isSeed_0 23 rfl rfl
theorem dX0_isSeed_0 : decode cX0_isSeed 0 = .ok (.aload_n 0, 1) := dk_42 (dk_at dksX0_isSeed_0 0 rfl rfl)
theorem dX0_isSeed_1 : decode cX0_isSeed 1 = .ok (.getfield 47, 3) := dk_180 0 47 (dk_at dksX0_isSeed_0 1 rfl rfl)
theorem dX0_isSeed_4 : decode cX0_isSeed 4 = .ok (.invokevirtual 126, 3) := dk_182 0 126 (dk_at dksX0_isSeed_0 4 rfl rfl)
theorem dX0_isSeed_7 : decode cX0_isSeed 7 = .ok (.ifCond .eq 19, 3) := dk_153 0 19 (dk_at dksX0_isSeed_0 7 rfl rfl)
theorem dX0_isSeed_10 : decode cX0_isSeed 10 = .ok (.iload_n 1, 1) := dk_27 (dk_at dksX0_isSeed_0 10 rfl rfl)
theorem dX0_isSeed_11 : decode cX0_isSeed 11 = .ok (.i2l, 1) := dk_133 (dk_at dksX0_isSeed_0 11 rfl rfl)
theorem dX0_isSeed_12 : decode cX0_isSeed 12 = .ok (.lconst 0, 1) := dk_9 (dk_at dksX0_isSeed_0 12 rfl rfl)
theorem dX0_isSeed_13 : decode cX0_isSeed 13 = .ok (.ldc2_w 518, 3) := dk_20 2 6 (dk_at dksX0_isSeed_0 13 rfl rfl)
theorem dX0_isSeed_16 : decode cX0_isSeed 16 = .ok (.invokestatic 11, 3) := dk_184 0 11 (dk_at dksX0_isSeed_0 16 rfl rfl)
theorem dX0_isSeed_19 : decode cX0_isSeed 19 = .ok (.ifCond .eq 7, 3) := dk_153 0 7 (dk_at dksX0_isSeed_0 19 rfl rfl)
theorem dX0_isSeed_22 : decode cX0_isSeed 22 = .ok (.iconst 1, 1) := dk_4 (dk_at dksX0_isSeed_0 22 rfl rfl)
theorem dX0_isSeed_23 : decode cX0_isSeed 23 = .ok (.goto 4, 3) := dk_167 0 4 (dk_at dksX0_isSeed_1 0 rfl rfl)
theorem dX0_isSeed_26 : decode cX0_isSeed 26 = .ok (.iconst 0, 1) := dk_3 (dk_at dksX0_isSeed_1 3 rfl rfl)
theorem dX0_isSeed_27 : decode cX0_isSeed 27 = .ok (.ireturn, 1) := dk_172 (dk_at dksX0_isSeed_1 4 rfl rfl)
abbrev cX0_delaysOf : ByteArray := prog_1_method_112_code
def yX0_delaysOf : MethodName := ⟨RX0, "delaysOf", "(J)I"⟩
def dkwX0_delaysOf_2 : List UInt8 := [180, 0, 183, 162, 0, 10, 4, 21, 4, 120, 167, 0, 4, 3, 128, 62, 132, 4, 1, 167, 255, 217, 29, 172]
abbrev dktX0_delaysOf_2 : List UInt8 := dkwX0_delaysOf_2 ++ []
def dkwX0_delaysOf_1 : List UInt8 := [54, 4, 21, 4, 42, 182, 0, 160, 162, 0, 36, 29, 42, 182, 2, 3, 42, 21, 4, 182, 0, 170]
abbrev dktX0_delaysOf_1 : List UInt8 := dkwX0_delaysOf_1 ++ dktX0_delaysOf_2
def dkwX0_delaysOf_0 : List UInt8 := [42, 31, 181, 1, 249, 42, 182, 2, 3, 42, 180, 0, 47, 180, 1, 214, 162, 0, 5, 2, 172, 3, 62, 3]
abbrev dktX0_delaysOf_0 : List UInt8 := dkwX0_delaysOf_0 ++ dktX0_delaysOf_1
theorem dksX0_delaysOf_0 : cX0_delaysOf.data.toList.drop 0 = dktX0_delaysOf_0 := by decide +kernel
theorem dksX0_delaysOf_1 : cX0_delaysOf.data.toList.drop 24 = dktX0_delaysOf_1 := dk_seg dksX0_delaysOf_0 24 rfl rfl
theorem dksX0_delaysOf_2 : cX0_delaysOf.data.toList.drop 46 = dktX0_delaysOf_2 := dk_seg dksX0_delaysOf_1 22 rfl rfl
theorem dX0_delaysOf_0 : decode cX0_delaysOf 0 = .ok (.aload_n 0, 1) := dk_42 (dk_at dksX0_delaysOf_0 0 rfl rfl)
theorem dX0_delaysOf_1 : decode cX0_delaysOf 1 = .ok (.lload_n 1, 1) := dk_31 (dk_at dksX0_delaysOf_0 1 rfl rfl)
theorem dX0_delaysOf_2 : decode cX0_delaysOf 2 = .ok (.putfield 505, 3) := dk_181 1 249 (dk_at dksX0_delaysOf_0 2 rfl rfl)
theorem dX0_delaysOf_5 : decode cX0_delaysOf 5 = .ok (.aload_n 0, 1) := dk_42 (dk_at dksX0_delaysOf_0 5 rfl rfl)
theorem dX0_delaysOf_6 : decode cX0_delaysOf 6 = .ok (.invokevirtual 515, 3) := dk_182 2 3 (dk_at dksX0_delaysOf_0 6 rfl rfl)
theorem dX0_delaysOf_9 : decode cX0_delaysOf 9 = .ok (.aload_n 0, 1) := dk_42 (dk_at dksX0_delaysOf_0 9 rfl rfl)
theorem dX0_delaysOf_10 : decode cX0_delaysOf 10 = .ok (.getfield 47, 3) := dk_180 0 47 (dk_at dksX0_delaysOf_0 10 rfl rfl)
theorem dX0_delaysOf_13 : decode cX0_delaysOf 13 = .ok (.getfield 470, 3) := dk_180 1 214 (dk_at dksX0_delaysOf_0 13 rfl rfl)
theorem dX0_delaysOf_16 : decode cX0_delaysOf 16 = .ok (.if_icmp .ge 5, 3) := dk_162 0 5 (dk_at dksX0_delaysOf_0 16 rfl rfl)
theorem dX0_delaysOf_19 : decode cX0_delaysOf 19 = .ok (.iconst (-1), 1) := dk_2 (dk_at dksX0_delaysOf_0 19 rfl rfl)
theorem dX0_delaysOf_20 : decode cX0_delaysOf 20 = .ok (.ireturn, 1) := dk_172 (dk_at dksX0_delaysOf_0 20 rfl rfl)
theorem dX0_delaysOf_21 : decode cX0_delaysOf 21 = .ok (.iconst 0, 1) := dk_3 (dk_at dksX0_delaysOf_0 21 rfl rfl)
theorem dX0_delaysOf_22 : decode cX0_delaysOf 22 = .ok (.istore_n 3, 1) := dk_62 (dk_at dksX0_delaysOf_0 22 rfl rfl)
theorem dX0_delaysOf_23 : decode cX0_delaysOf 23 = .ok (.iconst 0, 1) := dk_3 (dk_at dksX0_delaysOf_0 23 rfl rfl)
theorem dX0_delaysOf_24 : decode cX0_delaysOf 24 = .ok (.istore 4, 2) := dk_54 4 (dk_at dksX0_delaysOf_1 0 rfl rfl)
theorem dX0_delaysOf_26 : decode cX0_delaysOf 26 = .ok (.iload 4, 2) := dk_21 4 (dk_at dksX0_delaysOf_1 2 rfl rfl)
theorem dX0_delaysOf_28 : decode cX0_delaysOf 28 = .ok (.aload_n 0, 1) := dk_42 (dk_at dksX0_delaysOf_1 4 rfl rfl)
theorem dX0_delaysOf_29 : decode cX0_delaysOf 29 = .ok (.invokevirtual 160, 3) := dk_182 0 160 (dk_at dksX0_delaysOf_1 5 rfl rfl)
theorem dX0_delaysOf_32 : decode cX0_delaysOf 32 = .ok (.if_icmp .ge 36, 3) := dk_162 0 36 (dk_at dksX0_delaysOf_1 8 rfl rfl)
theorem dX0_delaysOf_35 : decode cX0_delaysOf 35 = .ok (.iload_n 3, 1) := dk_29 (dk_at dksX0_delaysOf_1 11 rfl rfl)
theorem dX0_delaysOf_36 : decode cX0_delaysOf 36 = .ok (.aload_n 0, 1) := dk_42 (dk_at dksX0_delaysOf_1 12 rfl rfl)
theorem dX0_delaysOf_37 : decode cX0_delaysOf 37 = .ok (.invokevirtual 515, 3) := dk_182 2 3 (dk_at dksX0_delaysOf_1 13 rfl rfl)
theorem dX0_delaysOf_40 : decode cX0_delaysOf 40 = .ok (.aload_n 0, 1) := dk_42 (dk_at dksX0_delaysOf_1 16 rfl rfl)
theorem dX0_delaysOf_41 : decode cX0_delaysOf 41 = .ok (.iload 4, 2) := dk_21 4 (dk_at dksX0_delaysOf_1 17 rfl rfl)
theorem dX0_delaysOf_43 : decode cX0_delaysOf 43 = .ok (.invokevirtual 170, 3) := dk_182 0 170 (dk_at dksX0_delaysOf_1 19 rfl rfl)
theorem dX0_delaysOf_46 : decode cX0_delaysOf 46 = .ok (.getfield 183, 3) := dk_180 0 183 (dk_at dksX0_delaysOf_2 0 rfl rfl)
theorem dX0_delaysOf_49 : decode cX0_delaysOf 49 = .ok (.if_icmp .ge 10, 3) := dk_162 0 10 (dk_at dksX0_delaysOf_2 3 rfl rfl)
theorem dX0_delaysOf_52 : decode cX0_delaysOf 52 = .ok (.iconst 1, 1) := dk_4 (dk_at dksX0_delaysOf_2 6 rfl rfl)
theorem dX0_delaysOf_53 : decode cX0_delaysOf 53 = .ok (.iload 4, 2) := dk_21 4 (dk_at dksX0_delaysOf_2 7 rfl rfl)
theorem dX0_delaysOf_55 : decode cX0_delaysOf 55 = .ok (.ishl, 1) := dk_120 (dk_at dksX0_delaysOf_2 9 rfl rfl)
theorem dX0_delaysOf_56 : decode cX0_delaysOf 56 = .ok (.goto 4, 3) := dk_167 0 4 (dk_at dksX0_delaysOf_2 10 rfl rfl)
theorem dX0_delaysOf_59 : decode cX0_delaysOf 59 = .ok (.iconst 0, 1) := dk_3 (dk_at dksX0_delaysOf_2 13 rfl rfl)
theorem dX0_delaysOf_60 : decode cX0_delaysOf 60 = .ok (.ior, 1) := dk_128 (dk_at dksX0_delaysOf_2 14 rfl rfl)
theorem dX0_delaysOf_61 : decode cX0_delaysOf 61 = .ok (.istore_n 3, 1) := dk_62 (dk_at dksX0_delaysOf_2 15 rfl rfl)
theorem dX0_delaysOf_62 : decode cX0_delaysOf 62 = .ok (.iinc 4 1, 3) := dk_132 4 1 (dk_at dksX0_delaysOf_2 16 rfl rfl)
theorem dX0_delaysOf_65 : decode cX0_delaysOf 65 = .ok (.goto (-39), 3) := dk_167 255 217 (dk_at dksX0_delaysOf_2 19 rfl rfl)
theorem dX0_delaysOf_68 : decode cX0_delaysOf 68 = .ok (.iload_n 3, 1) := dk_29 (dk_at dksX0_delaysOf_2 22 rfl rfl)
theorem dX0_delaysOf_69 : decode cX0_delaysOf 69 = .ok (.ireturn, 1) := dk_172 (dk_at dksX0_delaysOf_2 23 rfl rfl)
abbrev cX0_draw : ByteArray := prog_1_method_111_code
def yX0_draw : MethodName := ⟨RX0, "draw", "()I"⟩
def dkwX0_draw_1 : List UInt8 := [20, 2, 1, 109, 20, 1, 51, 113, 136, 172]
abbrev dktX0_draw_1 : List UInt8 := dkwX0_draw_1 ++ []
def dkwX0_draw_0 : List UInt8 := [42, 20, 1, 247, 42, 180, 1, 249, 105, 20, 1, 253, 97, 20, 1, 255, 113, 181, 1, 249, 42, 180, 1, 249]
abbrev dktX0_draw_0 : List UInt8 := dkwX0_draw_0 ++ dktX0_draw_1
theorem dksX0_draw_0 : cX0_draw.data.toList.drop 0 = dktX0_draw_0 := by decide +kernel
theorem dksX0_draw_1 : cX0_draw.data.toList.drop 24 = dktX0_draw_1 := dk_seg dksX0_draw_0 24 rfl rfl
theorem dX0_draw_0 : decode cX0_draw 0 = .ok (.aload_n 0, 1) := dk_42 (dk_at dksX0_draw_0 0 rfl rfl)
theorem dX0_draw_1 : decode cX0_draw 1 = .ok (.ldc2_w 503, 3) := dk_20 1 247 (dk_at dksX0_draw_0 1 rfl rfl)
theorem dX0_draw_4 : decode cX0_draw 4 = .ok (.aload_n 0, 1) := dk_42 (dk_at dksX0_draw_0 4 rfl rfl)
theorem dX0_draw_5 : decode cX0_draw 5 = .ok (.getfield 505, 3) := dk_180 1 249 (dk_at dksX0_draw_0 5 rfl rfl)
theorem dX0_draw_8 : decode cX0_draw 8 = .ok (.lmul, 1) := dk_105 (dk_at dksX0_draw_0 8 rfl rfl)
theorem dX0_draw_9 : decode cX0_draw 9 = .ok (.ldc2_w 509, 3) := dk_20 1 253 (dk_at dksX0_draw_0 9 rfl rfl)
theorem dX0_draw_12 : decode cX0_draw 12 = .ok (.ladd, 1) := dk_97 (dk_at dksX0_draw_0 12 rfl rfl)
theorem dX0_draw_13 : decode cX0_draw 13 = .ok (.ldc2_w 511, 3) := dk_20 1 255 (dk_at dksX0_draw_0 13 rfl rfl)
theorem dX0_draw_16 : decode cX0_draw 16 = .ok (.lrem, 1) := dk_113 (dk_at dksX0_draw_0 16 rfl rfl)
theorem dX0_draw_17 : decode cX0_draw 17 = .ok (.putfield 505, 3) := dk_181 1 249 (dk_at dksX0_draw_0 17 rfl rfl)
theorem dX0_draw_20 : decode cX0_draw 20 = .ok (.aload_n 0, 1) := dk_42 (dk_at dksX0_draw_0 20 rfl rfl)
theorem dX0_draw_21 : decode cX0_draw 21 = .ok (.getfield 505, 3) := dk_180 1 249 (dk_at dksX0_draw_0 21 rfl rfl)
theorem dX0_draw_24 : decode cX0_draw 24 = .ok (.ldc2_w 513, 3) := dk_20 2 1 (dk_at dksX0_draw_1 0 rfl rfl)
theorem dX0_draw_27 : decode cX0_draw 27 = .ok (.ldiv, 1) := dk_109 (dk_at dksX0_draw_1 3 rfl rfl)
theorem dX0_draw_28 : decode cX0_draw 28 = .ok (.ldc2_w 307, 3) := dk_20 1 51 (dk_at dksX0_draw_1 4 rfl rfl)
theorem dX0_draw_31 : decode cX0_draw 31 = .ok (.lrem, 1) := dk_113 (dk_at dksX0_draw_1 7 rfl rfl)
theorem dX0_draw_32 : decode cX0_draw 32 = .ok (.l2i, 1) := dk_136 (dk_at dksX0_draw_1 8 rfl rfl)
theorem dX0_draw_33 : decode cX0_draw 33 = .ok (.ireturn, 1) := dk_172 (dk_at dksX0_draw_1 9 rfl rfl)
abbrev cX0_luck : ByteArray := prog_1_method_115_code
def yX0_luck : MethodName := ⟨RX0, "luck", "(III)I"⟩
def dkwX0_luck_3 : List UInt8 := [160, 0, 7, 4, 167, 0, 4, 3, 96, 54, 4, 132, 5, 1, 167, 255, 209, 21, 4, 172]
abbrev dktX0_luck_3 : List UInt8 := dkwX0_luck_3 ++ []
def dkwX0_luck_2 : List UInt8 := [21, 5, 133, 97, 182, 2, 11, 54, 6, 21, 4, 21, 6, 2, 159, 0, 17, 42, 21, 6, 182, 1, 25, 29]
abbrev dktX0_luck_2 : List UInt8 := dkwX0_luck_2 ++ dktX0_luck_3
def dkwX0_luck_1 : List UInt8 := [182, 0, 192, 154, 0, 6, 16, 254, 172, 3, 54, 4, 3, 54, 5, 21, 5, 28, 162, 0, 47, 42, 27, 133]
abbrev dktX0_luck_1 : List UInt8 := dkwX0_luck_1 ++ dktX0_luck_2
def dkwX0_luck_0 : List UInt8 := [42, 27, 182, 2, 8, 153, 0, 23, 28, 133, 10, 20, 2, 15, 184, 0, 11, 153, 0, 11, 42, 29]
abbrev dktX0_luck_0 : List UInt8 := dkwX0_luck_0 ++ dktX0_luck_1
theorem dksX0_luck_0 : cX0_luck.data.toList.drop 0 = dktX0_luck_0 := by decide +kernel
theorem dksX0_luck_1 : cX0_luck.data.toList.drop 22 = dktX0_luck_1 := dk_seg dksX0_luck_0 22 rfl rfl
theorem dksX0_luck_2 : cX0_luck.data.toList.drop 46 = dktX0_luck_2 := dk_seg dksX0_luck_1 24 rfl rfl
theorem dksX0_luck_3 : cX0_luck.data.toList.drop 70 = dktX0_luck_3 := dk_seg dksX0_luck_2 24 rfl rfl
theorem dX0_luck_0 : decode cX0_luck 0 = .ok (.aload_n 0, 1) := dk_42 (dk_at dksX0_luck_0 0 rfl rfl)
theorem dX0_luck_1 : decode cX0_luck 1 = .ok (.iload_n 1, 1) := dk_27 (dk_at dksX0_luck_0 1 rfl rfl)
theorem dX0_luck_2 : decode cX0_luck 2 = .ok (.invokevirtual 520, 3) := dk_182 2 8 (dk_at dksX0_luck_0 2 rfl rfl)
theorem dX0_luck_5 : decode cX0_luck 5 = .ok (.ifCond .eq 23, 3) := dk_153 0 23 (dk_at dksX0_luck_0 5 rfl rfl)
theorem dX0_luck_8 : decode cX0_luck 8 = .ok (.iload_n 2, 1) := dk_28 (dk_at dksX0_luck_0 8 rfl rfl)
theorem dX0_luck_9 : decode cX0_luck 9 = .ok (.i2l, 1) := dk_133 (dk_at dksX0_luck_0 9 rfl rfl)
theorem dX0_luck_10 : decode cX0_luck 10 = .ok (.lconst 1, 1) := dk_10 (dk_at dksX0_luck_0 10 rfl rfl)
theorem dX0_luck_11 : decode cX0_luck 11 = .ok (.ldc2_w 527, 3) := dk_20 2 15 (dk_at dksX0_luck_0 11 rfl rfl)
theorem dX0_luck_14 : decode cX0_luck 14 = .ok (.invokestatic 11, 3) := dk_184 0 11 (dk_at dksX0_luck_0 14 rfl rfl)
theorem dX0_luck_17 : decode cX0_luck 17 = .ok (.ifCond .eq 11, 3) := dk_153 0 11 (dk_at dksX0_luck_0 17 rfl rfl)
theorem dX0_luck_20 : decode cX0_luck 20 = .ok (.aload_n 0, 1) := dk_42 (dk_at dksX0_luck_0 20 rfl rfl)
theorem dX0_luck_21 : decode cX0_luck 21 = .ok (.iload_n 3, 1) := dk_29 (dk_at dksX0_luck_0 21 rfl rfl)
theorem dX0_luck_22 : decode cX0_luck 22 = .ok (.invokevirtual 192, 3) := dk_182 0 192 (dk_at dksX0_luck_1 0 rfl rfl)
theorem dX0_luck_25 : decode cX0_luck 25 = .ok (.ifCond .ne 6, 3) := dk_154 0 6 (dk_at dksX0_luck_1 3 rfl rfl)
theorem dX0_luck_28 : decode cX0_luck 28 = .ok (.bipush (-2), 2) := dk_16 254 (dk_at dksX0_luck_1 6 rfl rfl)
theorem dX0_luck_30 : decode cX0_luck 30 = .ok (.ireturn, 1) := dk_172 (dk_at dksX0_luck_1 8 rfl rfl)
theorem dX0_luck_31 : decode cX0_luck 31 = .ok (.iconst 0, 1) := dk_3 (dk_at dksX0_luck_1 9 rfl rfl)
theorem dX0_luck_32 : decode cX0_luck 32 = .ok (.istore 4, 2) := dk_54 4 (dk_at dksX0_luck_1 10 rfl rfl)
theorem dX0_luck_34 : decode cX0_luck 34 = .ok (.iconst 0, 1) := dk_3 (dk_at dksX0_luck_1 12 rfl rfl)
theorem dX0_luck_35 : decode cX0_luck 35 = .ok (.istore 5, 2) := dk_54 5 (dk_at dksX0_luck_1 13 rfl rfl)
theorem dX0_luck_37 : decode cX0_luck 37 = .ok (.iload 5, 2) := dk_21 5 (dk_at dksX0_luck_1 15 rfl rfl)
theorem dX0_luck_39 : decode cX0_luck 39 = .ok (.iload_n 2, 1) := dk_28 (dk_at dksX0_luck_1 17 rfl rfl)
theorem dX0_luck_40 : decode cX0_luck 40 = .ok (.if_icmp .ge 47, 3) := dk_162 0 47 (dk_at dksX0_luck_1 18 rfl rfl)
theorem dX0_luck_43 : decode cX0_luck 43 = .ok (.aload_n 0, 1) := dk_42 (dk_at dksX0_luck_1 21 rfl rfl)
theorem dX0_luck_44 : decode cX0_luck 44 = .ok (.iload_n 1, 1) := dk_27 (dk_at dksX0_luck_1 22 rfl rfl)
theorem dX0_luck_45 : decode cX0_luck 45 = .ok (.i2l, 1) := dk_133 (dk_at dksX0_luck_1 23 rfl rfl)
theorem dX0_luck_46 : decode cX0_luck 46 = .ok (.iload 5, 2) := dk_21 5 (dk_at dksX0_luck_2 0 rfl rfl)
theorem dX0_luck_48 : decode cX0_luck 48 = .ok (.i2l, 1) := dk_133 (dk_at dksX0_luck_2 2 rfl rfl)
theorem dX0_luck_49 : decode cX0_luck 49 = .ok (.ladd, 1) := dk_97 (dk_at dksX0_luck_2 3 rfl rfl)
theorem dX0_luck_50 : decode cX0_luck 50 = .ok (.invokevirtual 523, 3) := dk_182 2 11 (dk_at dksX0_luck_2 4 rfl rfl)
theorem dX0_luck_53 : decode cX0_luck 53 = .ok (.istore 6, 2) := dk_54 6 (dk_at dksX0_luck_2 7 rfl rfl)
theorem dX0_luck_55 : decode cX0_luck 55 = .ok (.iload 4, 2) := dk_21 4 (dk_at dksX0_luck_2 9 rfl rfl)
theorem dX0_luck_57 : decode cX0_luck 57 = .ok (.iload 6, 2) := dk_21 6 (dk_at dksX0_luck_2 11 rfl rfl)
theorem dX0_luck_59 : decode cX0_luck 59 = .ok (.iconst (-1), 1) := dk_2 (dk_at dksX0_luck_2 13 rfl rfl)
theorem dX0_luck_60 : decode cX0_luck 60 = .ok (.if_icmp .eq 17, 3) := dk_159 0 17 (dk_at dksX0_luck_2 14 rfl rfl)
theorem dX0_luck_63 : decode cX0_luck 63 = .ok (.aload_n 0, 1) := dk_42 (dk_at dksX0_luck_2 17 rfl rfl)
theorem dX0_luck_64 : decode cX0_luck 64 = .ok (.iload 6, 2) := dk_21 6 (dk_at dksX0_luck_2 18 rfl rfl)
theorem dX0_luck_66 : decode cX0_luck 66 = .ok (.invokevirtual 281, 3) := dk_182 1 25 (dk_at dksX0_luck_2 20 rfl rfl)
theorem dX0_luck_69 : decode cX0_luck 69 = .ok (.iload_n 3, 1) := dk_29 (dk_at dksX0_luck_2 23 rfl rfl)
theorem dX0_luck_70 : decode cX0_luck 70 = .ok (.if_icmp .ne 7, 3) := dk_160 0 7 (dk_at dksX0_luck_3 0 rfl rfl)
theorem dX0_luck_73 : decode cX0_luck 73 = .ok (.iconst 1, 1) := dk_4 (dk_at dksX0_luck_3 3 rfl rfl)
theorem dX0_luck_74 : decode cX0_luck 74 = .ok (.goto 4, 3) := dk_167 0 4 (dk_at dksX0_luck_3 4 rfl rfl)
theorem dX0_luck_77 : decode cX0_luck 77 = .ok (.iconst 0, 1) := dk_3 (dk_at dksX0_luck_3 7 rfl rfl)
theorem dX0_luck_78 : decode cX0_luck 78 = .ok (.iadd, 1) := dk_96 (dk_at dksX0_luck_3 8 rfl rfl)
theorem dX0_luck_79 : decode cX0_luck 79 = .ok (.istore 4, 2) := dk_54 4 (dk_at dksX0_luck_3 9 rfl rfl)
theorem dX0_luck_81 : decode cX0_luck 81 = .ok (.iinc 5 1, 3) := dk_132 5 1 (dk_at dksX0_luck_3 11 rfl rfl)
theorem dX0_luck_84 : decode cX0_luck 84 = .ok (.goto (-47), 3) := dk_167 255 209 (dk_at dksX0_luck_3 14 rfl rfl)
theorem dX0_luck_87 : decode cX0_luck 87 = .ok (.iload 4, 2) := dk_21 4 (dk_at dksX0_luck_3 17 rfl rfl)
theorem dX0_luck_89 : decode cX0_luck 89 = .ok (.ireturn, 1) := dk_172 (dk_at dksX0_luck_3 19 rfl rfl)
abbrev cX0_count : ByteArray := prog_1_method_116_code
def yX0_count : MethodName := ⟨RX0, "count", "(I)I"⟩
def dkwX0_count_8 : List UInt8 := [180, 2, 17, 199, 0, 7, 3, 167, 0, 4, 4, 96, 61, 132, 5, 1, 167, 255, 224, 28, 172, 2, 172]
abbrev dktX0_count_8 : List UInt8 := dkwX0_count_8 ++ []
def dkwX0_count_7 : List UInt8 := [45, 190, 54, 4, 3, 54, 5, 21, 5, 21, 4, 162, 0, 31, 45, 21, 5, 50, 58, 6, 28, 25, 6]
abbrev dktX0_count_7 : List UInt8 := dkwX0_count_7 ++ dktX0_count_8
def dkwX0_count_6 : List UInt8 := [180, 0, 114, 172, 42, 180, 0, 47, 180, 1, 217, 185, 0, 148, 1, 0, 172, 3, 61, 42, 180, 0, 19, 78]
abbrev dktX0_count_6 : List UInt8 := dkwX0_count_6 ++ dktX0_count_7
def dkwX0_count_5 : List UInt8 := [42, 180, 0, 47, 180, 0, 240, 185, 0, 148, 1, 0, 172, 42, 180, 0, 47, 180, 0, 133, 172, 42]
abbrev dktX0_count_5 : List UInt8 := dkwX0_count_5 ++ dktX0_count_6
def dkwX0_count_4 : List UInt8 := [185, 0, 148, 1, 0, 172, 42, 180, 0, 47, 180, 0, 213, 185, 0, 148, 1, 0, 172, 42, 182, 1, 154, 172]
abbrev dktX0_count_4 : List UInt8 := dkwX0_count_4 ++ dktX0_count_5
def dkwX0_count_3 : List UInt8 := [42, 180, 0, 47, 180, 1, 214, 172, 42, 182, 0, 160, 172, 42, 180, 0, 47, 180, 0, 199]
abbrev dktX0_count_3 : List UInt8 := dkwX0_count_3 ++ dktX0_count_4
def dkwX0_count_2 : List UInt8 := [42, 180, 0, 47, 180, 0, 207, 172, 42, 180, 0, 47, 180, 1, 16, 172, 42, 180, 0, 47, 180, 1, 183, 172]
abbrev dktX0_count_2 : List UInt8 := dkwX0_count_2 ++ dktX0_count_3
def dkwX0_count_1 : List UInt8 := [170, 0, 0, 0, 0, 0, 225, 0, 0, 0, 0, 0, 0, 0, 12, 0, 0, 0, 67, 0, 0, 0, 75, 0, 0, 0, 83, 0, 0, 0, 91, 0, 0, 0, 99, 0, 0, 0, 104, 0, 0, 0, 117, 0, 0, 0, 130, 0, 0, 0, 135, 0, 0, 0, 148, 0, 0, 0, 156, 0, 0, 0, 161, 0, 0, 0, 174]
abbrev dktX0_count_1 : List UInt8 := dkwX0_count_1 ++ dktX0_count_2
def dkwX0_count_0 : List UInt8 := [27]
abbrev dktX0_count_0 : List UInt8 := dkwX0_count_0 ++ dktX0_count_1
theorem dksX0_count_0 : cX0_count.data.toList.drop 0 = dktX0_count_0 := by decide +kernel
theorem dksX0_count_1 : cX0_count.data.toList.drop 1 = dktX0_count_1 := dk_seg dksX0_count_0 1 rfl rfl
theorem dksX0_count_2 : cX0_count.data.toList.drop 68 = dktX0_count_2 := dk_seg dksX0_count_1 67 rfl rfl
theorem dksX0_count_3 : cX0_count.data.toList.drop 92 = dktX0_count_3 := dk_seg dksX0_count_2 24 rfl rfl
theorem dksX0_count_4 : cX0_count.data.toList.drop 112 = dktX0_count_4 := dk_seg dksX0_count_3 20 rfl rfl
theorem dksX0_count_5 : cX0_count.data.toList.drop 136 = dktX0_count_5 := dk_seg dksX0_count_4 24 rfl rfl
theorem dksX0_count_6 : cX0_count.data.toList.drop 158 = dktX0_count_6 := dk_seg dksX0_count_5 22 rfl rfl
theorem dksX0_count_7 : cX0_count.data.toList.drop 182 = dktX0_count_7 := dk_seg dksX0_count_6 24 rfl rfl
theorem dksX0_count_8 : cX0_count.data.toList.drop 205 = dktX0_count_8 := dk_seg dksX0_count_7 23 rfl rfl
theorem dX0_count_0 : decode cX0_count 0 = .ok (.iload_n 1, 1) := dk_27 (dk_at dksX0_count_0 0 rfl rfl)
theorem dX0_count_1 : decode cX0_count 1 = .ok (.tableswitch 225 0 12 #[67, 75, 83, 91, 99, 104, 117, 130, 135, 148, 156, 161, 174], 67) := by decide +kernel
theorem dX0_count_68 : decode cX0_count 68 = .ok (.aload_n 0, 1) := dk_42 (dk_at dksX0_count_2 0 rfl rfl)
theorem dX0_count_69 : decode cX0_count 69 = .ok (.getfield 47, 3) := dk_180 0 47 (dk_at dksX0_count_2 1 rfl rfl)
theorem dX0_count_72 : decode cX0_count 72 = .ok (.getfield 207, 3) := dk_180 0 207 (dk_at dksX0_count_2 4 rfl rfl)
theorem dX0_count_75 : decode cX0_count 75 = .ok (.ireturn, 1) := dk_172 (dk_at dksX0_count_2 7 rfl rfl)
theorem dX0_count_76 : decode cX0_count 76 = .ok (.aload_n 0, 1) := dk_42 (dk_at dksX0_count_2 8 rfl rfl)
theorem dX0_count_77 : decode cX0_count 77 = .ok (.getfield 47, 3) := dk_180 0 47 (dk_at dksX0_count_2 9 rfl rfl)
theorem dX0_count_80 : decode cX0_count 80 = .ok (.getfield 272, 3) := dk_180 1 16 (dk_at dksX0_count_2 12 rfl rfl)
theorem dX0_count_83 : decode cX0_count 83 = .ok (.ireturn, 1) := dk_172 (dk_at dksX0_count_2 15 rfl rfl)
theorem dX0_count_84 : decode cX0_count 84 = .ok (.aload_n 0, 1) := dk_42 (dk_at dksX0_count_2 16 rfl rfl)
theorem dX0_count_85 : decode cX0_count 85 = .ok (.getfield 47, 3) := dk_180 0 47 (dk_at dksX0_count_2 17 rfl rfl)
theorem dX0_count_88 : decode cX0_count 88 = .ok (.getfield 439, 3) := dk_180 1 183 (dk_at dksX0_count_2 20 rfl rfl)
theorem dX0_count_91 : decode cX0_count 91 = .ok (.ireturn, 1) := dk_172 (dk_at dksX0_count_2 23 rfl rfl)
theorem dX0_count_92 : decode cX0_count 92 = .ok (.aload_n 0, 1) := dk_42 (dk_at dksX0_count_3 0 rfl rfl)
theorem dX0_count_93 : decode cX0_count 93 = .ok (.getfield 47, 3) := dk_180 0 47 (dk_at dksX0_count_3 1 rfl rfl)
theorem dX0_count_96 : decode cX0_count 96 = .ok (.getfield 470, 3) := dk_180 1 214 (dk_at dksX0_count_3 4 rfl rfl)
theorem dX0_count_99 : decode cX0_count 99 = .ok (.ireturn, 1) := dk_172 (dk_at dksX0_count_3 7 rfl rfl)
theorem dX0_count_100 : decode cX0_count 100 = .ok (.aload_n 0, 1) := dk_42 (dk_at dksX0_count_3 8 rfl rfl)
theorem dX0_count_101 : decode cX0_count 101 = .ok (.invokevirtual 160, 3) := dk_182 0 160 (dk_at dksX0_count_3 9 rfl rfl)
theorem dX0_count_104 : decode cX0_count 104 = .ok (.ireturn, 1) := dk_172 (dk_at dksX0_count_3 12 rfl rfl)
theorem dX0_count_105 : decode cX0_count 105 = .ok (.aload_n 0, 1) := dk_42 (dk_at dksX0_count_3 13 rfl rfl)
theorem dX0_count_106 : decode cX0_count 106 = .ok (.getfield 47, 3) := dk_180 0 47 (dk_at dksX0_count_3 14 rfl rfl)
theorem dX0_count_109 : decode cX0_count 109 = .ok (.getfield 199, 3) := dk_180 0 199 (dk_at dksX0_count_3 17 rfl rfl)
theorem dX0_count_112 : decode cX0_count 112 = .ok (.invokeinterface 148 1, 5) := by decide +kernel
theorem dX0_count_117 : decode cX0_count 117 = .ok (.ireturn, 1) := dk_172 (dk_at dksX0_count_4 5 rfl rfl)
theorem dX0_count_118 : decode cX0_count 118 = .ok (.aload_n 0, 1) := dk_42 (dk_at dksX0_count_4 6 rfl rfl)
theorem dX0_count_119 : decode cX0_count 119 = .ok (.getfield 47, 3) := dk_180 0 47 (dk_at dksX0_count_4 7 rfl rfl)
theorem dX0_count_122 : decode cX0_count 122 = .ok (.getfield 213, 3) := dk_180 0 213 (dk_at dksX0_count_4 10 rfl rfl)
theorem dX0_count_125 : decode cX0_count 125 = .ok (.invokeinterface 148 1, 5) := by decide +kernel
theorem dX0_count_130 : decode cX0_count 130 = .ok (.ireturn, 1) := dk_172 (dk_at dksX0_count_4 18 rfl rfl)
theorem dX0_count_131 : decode cX0_count 131 = .ok (.aload_n 0, 1) := dk_42 (dk_at dksX0_count_4 19 rfl rfl)
theorem dX0_count_132 : decode cX0_count 132 = .ok (.invokevirtual 410, 3) := dk_182 1 154 (dk_at dksX0_count_4 20 rfl rfl)
theorem dX0_count_135 : decode cX0_count 135 = .ok (.ireturn, 1) := dk_172 (dk_at dksX0_count_4 23 rfl rfl)
theorem dX0_count_136 : decode cX0_count 136 = .ok (.aload_n 0, 1) := dk_42 (dk_at dksX0_count_5 0 rfl rfl)
theorem dX0_count_137 : decode cX0_count 137 = .ok (.getfield 47, 3) := dk_180 0 47 (dk_at dksX0_count_5 1 rfl rfl)
theorem dX0_count_140 : decode cX0_count 140 = .ok (.getfield 240, 3) := dk_180 0 240 (dk_at dksX0_count_5 4 rfl rfl)
theorem dX0_count_143 : decode cX0_count 143 = .ok (.invokeinterface 148 1, 5) := by decide +kernel
theorem dX0_count_148 : decode cX0_count 148 = .ok (.ireturn, 1) := dk_172 (dk_at dksX0_count_5 12 rfl rfl)
theorem dX0_count_149 : decode cX0_count 149 = .ok (.aload_n 0, 1) := dk_42 (dk_at dksX0_count_5 13 rfl rfl)
theorem dX0_count_150 : decode cX0_count 150 = .ok (.getfield 47, 3) := dk_180 0 47 (dk_at dksX0_count_5 14 rfl rfl)
theorem dX0_count_153 : decode cX0_count 153 = .ok (.getfield 133, 3) := dk_180 0 133 (dk_at dksX0_count_5 17 rfl rfl)
theorem dX0_count_156 : decode cX0_count 156 = .ok (.ireturn, 1) := dk_172 (dk_at dksX0_count_5 20 rfl rfl)
theorem dX0_count_157 : decode cX0_count 157 = .ok (.aload_n 0, 1) := dk_42 (dk_at dksX0_count_5 21 rfl rfl)
theorem dX0_count_158 : decode cX0_count 158 = .ok (.getfield 114, 3) := dk_180 0 114 (dk_at dksX0_count_6 0 rfl rfl)
theorem dX0_count_161 : decode cX0_count 161 = .ok (.ireturn, 1) := dk_172 (dk_at dksX0_count_6 3 rfl rfl)
theorem dX0_count_162 : decode cX0_count 162 = .ok (.aload_n 0, 1) := dk_42 (dk_at dksX0_count_6 4 rfl rfl)
theorem dX0_count_163 : decode cX0_count 163 = .ok (.getfield 47, 3) := dk_180 0 47 (dk_at dksX0_count_6 5 rfl rfl)
theorem dX0_count_166 : decode cX0_count 166 = .ok (.getfield 473, 3) := dk_180 1 217 (dk_at dksX0_count_6 8 rfl rfl)
theorem dX0_count_169 : decode cX0_count 169 = .ok (.invokeinterface 148 1, 5) := by decide +kernel
theorem dX0_count_174 : decode cX0_count 174 = .ok (.ireturn, 1) := dk_172 (dk_at dksX0_count_6 16 rfl rfl)
theorem dX0_count_175 : decode cX0_count 175 = .ok (.iconst 0, 1) := dk_3 (dk_at dksX0_count_6 17 rfl rfl)
theorem dX0_count_176 : decode cX0_count 176 = .ok (.istore_n 2, 1) := dk_61 (dk_at dksX0_count_6 18 rfl rfl)
theorem dX0_count_177 : decode cX0_count 177 = .ok (.aload_n 0, 1) := dk_42 (dk_at dksX0_count_6 19 rfl rfl)
theorem dX0_count_178 : decode cX0_count 178 = .ok (.getfield 19, 3) := dk_180 0 19 (dk_at dksX0_count_6 20 rfl rfl)
theorem dX0_count_181 : decode cX0_count 181 = .ok (.astore_n 3, 1) := dk_78 (dk_at dksX0_count_6 23 rfl rfl)
theorem dX0_count_182 : decode cX0_count 182 = .ok (.aload_n 3, 1) := dk_45 (dk_at dksX0_count_7 0 rfl rfl)
theorem dX0_count_183 : decode cX0_count 183 = .ok (.arraylength, 1) := dk_190 (dk_at dksX0_count_7 1 rfl rfl)
theorem dX0_count_184 : decode cX0_count 184 = .ok (.istore 4, 2) := dk_54 4 (dk_at dksX0_count_7 2 rfl rfl)
theorem dX0_count_186 : decode cX0_count 186 = .ok (.iconst 0, 1) := dk_3 (dk_at dksX0_count_7 4 rfl rfl)
theorem dX0_count_187 : decode cX0_count 187 = .ok (.istore 5, 2) := dk_54 5 (dk_at dksX0_count_7 5 rfl rfl)
theorem dX0_count_189 : decode cX0_count 189 = .ok (.iload 5, 2) := dk_21 5 (dk_at dksX0_count_7 7 rfl rfl)
theorem dX0_count_191 : decode cX0_count 191 = .ok (.iload 4, 2) := dk_21 4 (dk_at dksX0_count_7 9 rfl rfl)
theorem dX0_count_193 : decode cX0_count 193 = .ok (.if_icmp .ge 31, 3) := dk_162 0 31 (dk_at dksX0_count_7 11 rfl rfl)
theorem dX0_count_196 : decode cX0_count 196 = .ok (.aload_n 3, 1) := dk_45 (dk_at dksX0_count_7 14 rfl rfl)
theorem dX0_count_197 : decode cX0_count 197 = .ok (.iload 5, 2) := dk_21 5 (dk_at dksX0_count_7 15 rfl rfl)
theorem dX0_count_199 : decode cX0_count 199 = .ok (.aaload, 1) := dk_50 (dk_at dksX0_count_7 17 rfl rfl)
theorem dX0_count_200 : decode cX0_count 200 = .ok (.astore 6, 2) := dk_58 6 (dk_at dksX0_count_7 18 rfl rfl)
theorem dX0_count_202 : decode cX0_count 202 = .ok (.iload_n 2, 1) := dk_28 (dk_at dksX0_count_7 20 rfl rfl)
theorem dX0_count_203 : decode cX0_count 203 = .ok (.aload 6, 2) := dk_25 6 (dk_at dksX0_count_7 21 rfl rfl)
theorem dX0_count_205 : decode cX0_count 205 = .ok (.getfield 529, 3) := dk_180 2 17 (dk_at dksX0_count_8 0 rfl rfl)
theorem dX0_count_208 : decode cX0_count 208 = .ok (.ifnonnull 7, 3) := dk_199 0 7 (dk_at dksX0_count_8 3 rfl rfl)
theorem dX0_count_211 : decode cX0_count 211 = .ok (.iconst 0, 1) := dk_3 (dk_at dksX0_count_8 6 rfl rfl)
theorem dX0_count_212 : decode cX0_count 212 = .ok (.goto 4, 3) := dk_167 0 4 (dk_at dksX0_count_8 7 rfl rfl)
theorem dX0_count_215 : decode cX0_count 215 = .ok (.iconst 1, 1) := dk_4 (dk_at dksX0_count_8 10 rfl rfl)
theorem dX0_count_216 : decode cX0_count 216 = .ok (.iadd, 1) := dk_96 (dk_at dksX0_count_8 11 rfl rfl)
theorem dX0_count_217 : decode cX0_count 217 = .ok (.istore_n 2, 1) := dk_61 (dk_at dksX0_count_8 12 rfl rfl)
theorem dX0_count_218 : decode cX0_count 218 = .ok (.iinc 5 1, 3) := dk_132 5 1 (dk_at dksX0_count_8 13 rfl rfl)
theorem dX0_count_221 : decode cX0_count 221 = .ok (.goto (-32), 3) := dk_167 255 224 (dk_at dksX0_count_8 16 rfl rfl)
theorem dX0_count_224 : decode cX0_count 224 = .ok (.iload_n 2, 1) := dk_28 (dk_at dksX0_count_8 19 rfl rfl)
theorem dX0_count_225 : decode cX0_count 225 = .ok (.ireturn, 1) := dk_172 (dk_at dksX0_count_8 20 rfl rfl)
theorem dX0_count_226 : decode cX0_count 226 = .ok (.iconst (-1), 1) := dk_2 (dk_at dksX0_count_8 21 rfl rfl)
theorem dX0_count_227 : decode cX0_count 227 = .ok (.ireturn, 1) := dk_172 (dk_at dksX0_count_8 22 rfl rfl)
abbrev cX0_image : ByteArray := prog_1_method_117_code
def yX0_image : MethodName := ⟨RX0, "image", "(I)I"⟩
def dkwX0_image_1 : List UInt8 := [182, 2, 21, 83, 3, 172]
abbrev dktX0_image_1 : List UInt8 := dkwX0_image_1 ++ []
def dkwX0_image_0 : List UInt8 := [27, 133, 9, 20, 1, 146, 184, 0, 11, 154, 0, 6, 16, 254, 172, 42, 180, 0, 51, 27, 42, 180, 0, 47]
abbrev dktX0_image_0 : List UInt8 := dkwX0_image_0 ++ dktX0_image_1
theorem dksX0_image_0 : cX0_image.data.toList.drop 0 = dktX0_image_0 := by decide +kernel
theorem dksX0_image_1 : cX0_image.data.toList.drop 24 = dktX0_image_1 := dk_seg dksX0_image_0 24 rfl rfl
theorem dX0_image_0 : decode cX0_image 0 = .ok (.iload_n 1, 1) := dk_27 (dk_at dksX0_image_0 0 rfl rfl)
theorem dX0_image_1 : decode cX0_image 1 = .ok (.i2l, 1) := dk_133 (dk_at dksX0_image_0 1 rfl rfl)
theorem dX0_image_2 : decode cX0_image 2 = .ok (.lconst 0, 1) := dk_9 (dk_at dksX0_image_0 2 rfl rfl)
theorem dX0_image_3 : decode cX0_image 3 = .ok (.ldc2_w 402, 3) := dk_20 1 146 (dk_at dksX0_image_0 3 rfl rfl)
theorem dX0_image_6 : decode cX0_image 6 = .ok (.invokestatic 11, 3) := dk_184 0 11 (dk_at dksX0_image_0 6 rfl rfl)
theorem dX0_image_9 : decode cX0_image 9 = .ok (.ifCond .ne 6, 3) := dk_154 0 6 (dk_at dksX0_image_0 9 rfl rfl)
theorem dX0_image_12 : decode cX0_image 12 = .ok (.bipush (-2), 2) := dk_16 254 (dk_at dksX0_image_0 12 rfl rfl)
theorem dX0_image_14 : decode cX0_image 14 = .ok (.ireturn, 1) := dk_172 (dk_at dksX0_image_0 14 rfl rfl)
theorem dX0_image_15 : decode cX0_image 15 = .ok (.aload_n 0, 1) := dk_42 (dk_at dksX0_image_0 15 rfl rfl)
theorem dX0_image_16 : decode cX0_image 16 = .ok (.getfield 51, 3) := dk_180 0 51 (dk_at dksX0_image_0 16 rfl rfl)
theorem dX0_image_19 : decode cX0_image 19 = .ok (.iload_n 1, 1) := dk_27 (dk_at dksX0_image_0 19 rfl rfl)
theorem dX0_image_20 : decode cX0_image 20 = .ok (.aload_n 0, 1) := dk_42 (dk_at dksX0_image_0 20 rfl rfl)
theorem dX0_image_21 : decode cX0_image 21 = .ok (.getfield 47, 3) := dk_180 0 47 (dk_at dksX0_image_0 21 rfl rfl)
theorem dX0_image_24 : decode cX0_image 24 = .ok (.invokevirtual 533, 3) := dk_182 2 21 (dk_at dksX0_image_1 0 rfl rfl)
theorem dX0_image_27 : decode cX0_image 27 = .ok (.aastore, 1) := dk_83 (dk_at dksX0_image_1 3 rfl rfl)
theorem dX0_image_28 : decode cX0_image 28 = .ok (.iconst 0, 1) := dk_3 (dk_at dksX0_image_1 4 rfl rfl)
theorem dX0_image_29 : decode cX0_image 29 = .ok (.ireturn, 1) := dk_172 (dk_at dksX0_image_1 5 rfl rfl)
abbrev cX0_back : ByteArray := prog_1_method_118_code
def yX0_back : MethodName := ⟨RX0, "back", "(I)I"⟩
def dkwX0_back_1 : List UInt8 := [16, 250, 172, 42, 42, 180, 0, 51, 27, 50, 182, 2, 21, 181, 0, 47, 3, 172]
abbrev dktX0_back_1 : List UInt8 := dkwX0_back_1 ++ []
def dkwX0_back_0 : List UInt8 := [27, 133, 9, 20, 1, 146, 184, 0, 11, 154, 0, 6, 16, 254, 172, 42, 180, 0, 51, 27, 50, 199, 0, 6]
abbrev dktX0_back_0 : List UInt8 := dkwX0_back_0 ++ dktX0_back_1
theorem dksX0_back_0 : cX0_back.data.toList.drop 0 = dktX0_back_0 := by decide +kernel
theorem dksX0_back_1 : cX0_back.data.toList.drop 24 = dktX0_back_1 := dk_seg dksX0_back_0 24 rfl rfl
theorem dX0_back_0 : decode cX0_back 0 = .ok (.iload_n 1, 1) := dk_27 (dk_at dksX0_back_0 0 rfl rfl)
theorem dX0_back_1 : decode cX0_back 1 = .ok (.i2l, 1) := dk_133 (dk_at dksX0_back_0 1 rfl rfl)
theorem dX0_back_2 : decode cX0_back 2 = .ok (.lconst 0, 1) := dk_9 (dk_at dksX0_back_0 2 rfl rfl)
theorem dX0_back_3 : decode cX0_back 3 = .ok (.ldc2_w 402, 3) := dk_20 1 146 (dk_at dksX0_back_0 3 rfl rfl)
theorem dX0_back_6 : decode cX0_back 6 = .ok (.invokestatic 11, 3) := dk_184 0 11 (dk_at dksX0_back_0 6 rfl rfl)
theorem dX0_back_9 : decode cX0_back 9 = .ok (.ifCond .ne 6, 3) := dk_154 0 6 (dk_at dksX0_back_0 9 rfl rfl)
theorem dX0_back_12 : decode cX0_back 12 = .ok (.bipush (-2), 2) := dk_16 254 (dk_at dksX0_back_0 12 rfl rfl)
theorem dX0_back_14 : decode cX0_back 14 = .ok (.ireturn, 1) := dk_172 (dk_at dksX0_back_0 14 rfl rfl)
theorem dX0_back_15 : decode cX0_back 15 = .ok (.aload_n 0, 1) := dk_42 (dk_at dksX0_back_0 15 rfl rfl)
theorem dX0_back_16 : decode cX0_back 16 = .ok (.getfield 51, 3) := dk_180 0 51 (dk_at dksX0_back_0 16 rfl rfl)
theorem dX0_back_19 : decode cX0_back 19 = .ok (.iload_n 1, 1) := dk_27 (dk_at dksX0_back_0 19 rfl rfl)
theorem dX0_back_20 : decode cX0_back 20 = .ok (.aaload, 1) := dk_50 (dk_at dksX0_back_0 20 rfl rfl)
theorem dX0_back_21 : decode cX0_back 21 = .ok (.ifnonnull 6, 3) := dk_199 0 6 (dk_at dksX0_back_0 21 rfl rfl)
theorem dX0_back_24 : decode cX0_back 24 = .ok (.bipush (-6), 2) := dk_16 250 (dk_at dksX0_back_1 0 rfl rfl)
theorem dX0_back_26 : decode cX0_back 26 = .ok (.ireturn, 1) := dk_172 (dk_at dksX0_back_1 2 rfl rfl)
theorem dX0_back_27 : decode cX0_back 27 = .ok (.aload_n 0, 1) := dk_42 (dk_at dksX0_back_1 3 rfl rfl)
theorem dX0_back_28 : decode cX0_back 28 = .ok (.aload_n 0, 1) := dk_42 (dk_at dksX0_back_1 4 rfl rfl)
theorem dX0_back_29 : decode cX0_back 29 = .ok (.getfield 51, 3) := dk_180 0 51 (dk_at dksX0_back_1 5 rfl rfl)
theorem dX0_back_32 : decode cX0_back 32 = .ok (.iload_n 1, 1) := dk_27 (dk_at dksX0_back_1 8 rfl rfl)
theorem dX0_back_33 : decode cX0_back 33 = .ok (.aaload, 1) := dk_50 (dk_at dksX0_back_1 9 rfl rfl)
theorem dX0_back_34 : decode cX0_back 34 = .ok (.invokevirtual 533, 3) := dk_182 2 21 (dk_at dksX0_back_1 10 rfl rfl)
theorem dX0_back_37 : decode cX0_back 37 = .ok (.putfield 47, 3) := dk_181 0 47 (dk_at dksX0_back_1 13 rfl rfl)
theorem dX0_back_40 : decode cX0_back 40 = .ok (.iconst 0, 1) := dk_3 (dk_at dksX0_back_1 16 rfl rfl)
theorem dX0_back_41 : decode cX0_back 41 = .ok (.ireturn, 1) := dk_172 (dk_at dksX0_back_1 17 rfl rfl)
theorem q134 : (Jvm.Cond.initialized "WarByHours") ∈ lw_all := lw_g (lw_at lw_m1 1 rfl) rfl
theorem q177 : (Jvm.Cond.instanceMethod ({ cls := "WarByHours", name := "row", desc := "(III)I" } : Jvm.MethodName)) ∈ lw_all := lw_g (lw_at lw_m1 44 rfl) rfl
theorem q178 : (Jvm.Cond.selects "WarByHours" ({ cls := "WarByHours", name := "row", desc := "(III)I" } : Jvm.MethodName) ({ cls := "WarByHours", name := "row", desc := "(III)I" } : Jvm.MethodName)) ∈ lw_all := lw_g (lw_at lw_m1 45 rfl) rfl
theorem q179 : (Jvm.Cond.code ({ cls := "WarByHours", name := "row", desc := "(III)I" } : Jvm.MethodName) prog_1_method_5_code (4 : Nat) (Option.some Jvm.ClassFile.FieldType.int)) ∈ lw_all := lw_g (lw_at lw_m1 46 rfl) rfl
theorem q180 : (Jvm.Cond.methodLink "WarByHours" (15 : Nat) ({ cls := "WarByHours", name := "isSlot", desc := "(I)Z" } : Jvm.MethodName)) ∈ lw_all := lw_g (lw_at lw_m1 47 rfl) rfl
theorem q181 : (Jvm.Cond.static ({ cls := "WarByHours", name := "isSlot", desc := "(I)Z" } : Jvm.MethodName)) ∈ lw_all := lw_g (lw_at lw_m1 48 rfl) rfl
theorem q182 : (Jvm.Cond.code ({ cls := "WarByHours", name := "isSlot", desc := "(I)Z" } : Jvm.MethodName) prog_1_method_4_code (1 : Nat) (Option.some Jvm.ClassFile.FieldType.boolean)) ∈ lw_all := lw_g (lw_at lw_m1 49 rfl) rfl
theorem q183 : (Jvm.Cond.constantLong "WarByHours" (9 : Nat) (3 : Int64)) ∈ lw_all := lw_g (lw_at lw_m1 50 rfl) rfl
theorem q184 : (Jvm.Cond.methodLink "WarByHours" (11 : Nat) ({ cls := "WarByHours", name := "in", desc := "(JJJ)Z" } : Jvm.MethodName)) ∈ lw_all := lw_g (lw_at lw_m1 51 rfl) rfl
theorem q185 : (Jvm.Cond.static ({ cls := "WarByHours", name := "in", desc := "(JJJ)Z" } : Jvm.MethodName)) ∈ lw_all := lw_g (lw_at lw_m1 52 rfl) rfl
theorem q186 : (Jvm.Cond.code ({ cls := "WarByHours", name := "in", desc := "(JJJ)Z" } : Jvm.MethodName) prog_1_method_1_code (6 : Nat) (Option.some Jvm.ClassFile.FieldType.boolean)) ∈ lw_all := lw_g (lw_at lw_m1 53 rfl) rfl
theorem q187 : (Jvm.Cond.methodLink "WarByHours" (23 : Nat) ({ cls := "WarByHours$Slot", name := "begins", desc := "(II)Z" } : Jvm.MethodName)) ∈ lw_all := lw_g (lw_at lw_m1 54 rfl) rfl
theorem q283 : (Jvm.Cond.instanceMethod ({ cls := "WarByHours", name := "write", desc := "(IIJ)I" } : Jvm.MethodName)) ∈ lw_all := lw_g (lw_at lw_m1 150 rfl) rfl
theorem q284 : (Jvm.Cond.selects "WarByHours" ({ cls := "WarByHours", name := "write", desc := "(IIJ)I" } : Jvm.MethodName) ({ cls := "WarByHours", name := "write", desc := "(IIJ)I" } : Jvm.MethodName)) ∈ lw_all := lw_g (lw_at lw_m1 151 rfl) rfl
theorem q285 : (Jvm.Cond.code ({ cls := "WarByHours", name := "write", desc := "(IIJ)I" } : Jvm.MethodName) prog_1_method_6_code (5 : Nat) (Option.some Jvm.ClassFile.FieldType.int)) ∈ lw_all := lw_g (lw_at lw_m1 152 rfl) rfl
theorem q286 : (Jvm.Cond.methodLink "WarByHours" (29 : Nat) ({ cls := "WarByHours$Slot", name := "puts", desc := "(IJ)I" } : Jvm.MethodName)) ∈ lw_all := lw_g (lw_at lw_m1 153 rfl) rfl
theorem q362 : (Jvm.Cond.instanceMethod ({ cls := "WarByHours", name := "paste", desc := "(IIIII)I" } : Jvm.MethodName)) ∈ lw_all := lw_g (lw_at lw_m1 229 rfl) rfl
theorem q363 : (Jvm.Cond.selects "WarByHours" ({ cls := "WarByHours", name := "paste", desc := "(IIIII)I" } : Jvm.MethodName) ({ cls := "WarByHours", name := "paste", desc := "(IIIII)I" } : Jvm.MethodName)) ∈ lw_all := lw_g (lw_at lw_m1 230 rfl) rfl
theorem q364 : (Jvm.Cond.code ({ cls := "WarByHours", name := "paste", desc := "(IIIII)I" } : Jvm.MethodName) prog_1_method_7_code (6 : Nat) (Option.some Jvm.ClassFile.FieldType.int)) ∈ lw_all := lw_g (lw_at lw_m1 231 rfl) rfl
theorem q365 : (Jvm.Cond.methodLink "WarByHours" (33 : Nat) ({ cls := "WarByHours$Slot", name := "pastes", desc := "(ILWarByHours$Slot;II)I" } : Jvm.MethodName)) ∈ lw_all := lw_g (lw_at lw_m1 232 rfl) rfl
theorem q378 : (Jvm.Cond.instantiable "WarByHours" (19 : Nat)) ∈ lw_all := lw_g (lw_at lw_m2 5 rfl) rfl
theorem q380 : (Jvm.Cond.instanceMethod ({ cls := "WarByHours", name := "<init>", desc := "()V" } : Jvm.MethodName)) ∈ lw_all := lw_g (lw_at lw_m2 7 rfl) rfl
theorem q381 : (Jvm.Cond.code ({ cls := "WarByHours", name := "<init>", desc := "()V" } : Jvm.MethodName) prog_1_method_8_code (1 : Nat) (Option.none : Option Jvm.ClassFile.FieldType)) ∈ lw_all := lw_g (lw_at lw_m2 8 rfl) rfl
theorem q382 : (Jvm.Cond.methodLink "WarByHours" (37 : Nat) ({ cls := "java/lang/Object", name := "<init>", desc := "()V" } : Jvm.MethodName)) ∈ lw_all := lw_g (lw_at lw_m2 9 rfl) rfl
theorem q383 : (Jvm.Cond.classLink "WarByHours" (24 : Nat) "WarByHours$Slot") ∈ lw_all := lw_g (lw_at lw_m2 10 rfl) rfl
theorem q385 : (Jvm.Cond.methodLinkNest "WarByHours" (43 : Nat) ({ cls := "WarByHours$Slot", name := "<init>", desc := "()V" } : Jvm.MethodName) "WarByHours") ∈ lw_tbl := lw_at lw_m2 12 rfl
theorem q390 : (Jvm.Cond.fieldLinkNest "WarByHours" (529 : Nat) "WarByHours$Slot" "held" "Ljava/lang/Object;" "WarByHours") ∈ lw_tbl := lw_at lw_m2 17 rfl
theorem q394 : (Jvm.Cond.classLink "WarByHours" (44 : Nat) "WarByHours$War") ∈ lw_all := lw_g (lw_at lw_m2 21 rfl) rfl
theorem q396 : (Jvm.Cond.methodLinkNest "WarByHours" (46 : Nat) ({ cls := "WarByHours$War", name := "<init>", desc := "()V" } : Jvm.MethodName) "WarByHours") ∈ lw_tbl := lw_at lw_m2 23 rfl
theorem q437 : (Jvm.Cond.fieldLinkNest "WarByHours" (144 : Nat) "WarByHours$War" "trains" "Ljava/util/List;" "WarByHours") ∈ lw_tbl := lw_at lw_m2 64 rfl
theorem q441 : (Jvm.Cond.fieldLinkNest "WarByHours" (199 : Nat) "WarByHours$War" "teas" "Ljava/util/List;" "WarByHours") ∈ lw_tbl := lw_at lw_m2 68 rfl
theorem q444 : (Jvm.Cond.fieldLinkNest "WarByHours" (228 : Nat) "WarByHours$War" "rules" "Ljava/util/List;" "WarByHours") ∈ lw_tbl := lw_at lw_m2 71 rfl
theorem q447 : (Jvm.Cond.fieldLinkNest "WarByHours" (213 : Nat) "WarByHours$War" "asks" "Ljava/util/List;" "WarByHours") ∈ lw_tbl := lw_at lw_m2 74 rfl
theorem q450 : (Jvm.Cond.fieldLinkNest "WarByHours" (240 : Nat) "WarByHours$War" "spies" "Ljava/util/List;" "WarByHours") ∈ lw_tbl := lw_at lw_m2 77 rfl
theorem q452 : (Jvm.Cond.fieldLinkNest "WarByHours" (473 : Nat) "WarByHours$War" "changes" "Ljava/util/List;" "WarByHours") ∈ lw_tbl := lw_at lw_m2 79 rfl
theorem q457 : (Jvm.Cond.fieldLinkNest "WarByHours" (195 : Nat) "WarByHours$War" "needs" "[I" "WarByHours") ∈ lw_tbl := lw_at lw_m2 84 rfl
theorem q461 : (Jvm.Cond.fieldLinkNest "WarByHours" (207 : Nat) "WarByHours$War" "minutes" "I" "WarByHours") ∈ lw_tbl := lw_at lw_m2 88 rfl
theorem q466 : (Jvm.Cond.fieldLinkNest "WarByHours" (272 : Nat) "WarByHours$War" "late" "I" "WarByHours") ∈ lw_tbl := lw_at lw_m2 93 rfl
theorem q469 : (Jvm.Cond.fieldLinkNest "WarByHours" (439 : Nat) "WarByHours$War" "peace" "I" "WarByHours") ∈ lw_tbl := lw_at lw_m2 96 rfl
theorem q472 : (Jvm.Cond.fieldLinkNest "WarByHours" (470 : Nat) "WarByHours$War" "rain" "I" "WarByHours") ∈ lw_tbl := lw_at lw_m2 99 rfl
theorem q474 : (Jvm.Cond.fieldLinkNest "WarByHours" (133 : Nat) "WarByHours$War" "lines" "I" "WarByHours") ∈ lw_tbl := lw_at lw_m2 101 rfl
theorem q502 : (Jvm.Cond.classLink "WarByHours" (63 : Nat) "WarByHours$Front") ∈ lw_all := lw_g (lw_at lw_m2 129 rfl) rfl
theorem q504 : (Jvm.Cond.methodLinkNest "WarByHours" (65 : Nat) ({ cls := "WarByHours$Front", name := "<init>", desc := "(LWarByHours;)V" } : Jvm.MethodName) "WarByHours") ∈ lw_tbl := lw_at lw_m2 131 rfl
theorem q509 : (Jvm.Cond.fieldLinkNest "WarByHours" (270 : Nat) "WarByHours$Front" "at" "[I" "WarByHours") ∈ lw_tbl := lw_at lw_m2 136 rfl
theorem q516 : (Jvm.Cond.classLink "WarByHours" (72 : Nat) "WarByHours$Send") ∈ lw_all := lw_g (lw_at lw_m2 143 rfl) rfl
theorem q518 : (Jvm.Cond.methodLinkNest "WarByHours" (74 : Nat) ({ cls := "WarByHours$Send", name := "<init>", desc := "(LWarByHours;)V" } : Jvm.MethodName) "WarByHours") ∈ lw_tbl := lw_at lw_m2 145 rfl
theorem q535 : (Jvm.Cond.classLink "WarByHours" (79 : Nat) "WarByHours$Fewest") ∈ lw_all := lw_g (lw_at lw_m2 162 rfl) rfl
theorem q537 : (Jvm.Cond.methodLinkNest "WarByHours" (81 : Nat) ({ cls := "WarByHours$Fewest", name := "<init>", desc := "(LWarByHours;)V" } : Jvm.MethodName) "WarByHours") ∈ lw_tbl := lw_at lw_m2 164 rfl
theorem q548 : (Jvm.Cond.classLink "WarByHours" (86 : Nat) "WarByHours$Risk") ∈ lw_all := lw_g (lw_at lw_m2 175 rfl) rfl
theorem q550 : (Jvm.Cond.methodLinkNest "WarByHours" (88 : Nat) ({ cls := "WarByHours$Risk", name := "<init>", desc := "(LWarByHours;)V" } : Jvm.MethodName) "WarByHours") ∈ lw_tbl := lw_at lw_m2 177 rfl
theorem q563 : (Jvm.Cond.classLink "WarByHours" (93 : Nat) "WarByHours$Bribe") ∈ lw_all := lw_g (lw_at lw_m2 190 rfl) rfl
theorem q565 : (Jvm.Cond.methodLinkNest "WarByHours" (95 : Nat) ({ cls := "WarByHours$Bribe", name := "<init>", desc := "(LWarByHours;)V" } : Jvm.MethodName) "WarByHours") ∈ lw_tbl := lw_at lw_m2 192 rfl
theorem q578 : (Jvm.Cond.classLink "WarByHours" (100 : Nat) "WarByHours$Duel") ∈ lw_all := lw_g (lw_at lw_m2 205 rfl) rfl
theorem q580 : (Jvm.Cond.methodLinkNest "WarByHours" (102 : Nat) ({ cls := "WarByHours$Duel", name := "<init>", desc := "(LWarByHours;)V" } : Jvm.MethodName) "WarByHours") ∈ lw_tbl := lw_at lw_m2 207 rfl
theorem q587 : (Jvm.Cond.fieldLinkNest "WarByHours" (364 : Nat) "WarByHours$Duel" "many" "[I" "WarByHours") ∈ lw_tbl := lw_at lw_m2 214 rfl
theorem q598 : (Jvm.Cond.classLink "WarByHours" (107 : Nat) "WarByHours$Hold") ∈ lw_all := lw_g (lw_at lw_m2 225 rfl) rfl
theorem q600 : (Jvm.Cond.methodLinkNest "WarByHours" (109 : Nat) ({ cls := "WarByHours$Hold", name := "<init>", desc := "()V" } : Jvm.MethodName) "WarByHours") ∈ lw_tbl := lw_at lw_m2 227 rfl
theorem q605 : (Jvm.Cond.fieldLinkNest "WarByHours" (404 : Nat) "WarByHours$Hold" "way" "[I" "WarByHours") ∈ lw_tbl := lw_at lw_m2 232 rfl
theorem q607 : (Jvm.Cond.fieldLinkNest "WarByHours" (407 : Nat) "WarByHours$Hold" "reply" "[I" "WarByHours") ∈ lw_tbl := lw_at lw_m2 234 rfl
theorem q610 : (Jvm.Cond.fieldLinkNest "WarByHours" (399 : Nat) "WarByHours$Hold" "value" "I" "WarByHours") ∈ lw_tbl := lw_at lw_m2 237 rfl
theorem q620 : (Jvm.Cond.fieldLink "WarByHours" (19 : Nat) "WarByHours" "slots" "[LWarByHours$Slot;") ∈ lw_all := lw_g (lw_at lw_m3 7 rfl) rfl
theorem q626 : (Jvm.Cond.fieldLink "WarByHours" (47 : Nat) "WarByHours" "now" "LWarByHours$War;") ∈ lw_all := lw_g (lw_at lw_m3 13 rfl) rfl
theorem q627 : (Jvm.Cond.fieldLink "WarByHours" (51 : Nat) "WarByHours" "images" "[LWarByHours$War;") ∈ lw_all := lw_g (lw_at lw_m3 14 rfl) rfl
theorem q628 : (Jvm.Cond.fieldLink "WarByHours" (55 : Nat) "WarByHours" "tape" "[B") ∈ lw_all := lw_g (lw_at lw_m3 15 rfl) rfl
theorem q629 : (Jvm.Cond.fieldLink "WarByHours" (114 : Nat) "WarByHours" "taped" "I") ∈ lw_all := lw_g (lw_at lw_m3 16 rfl) rfl
theorem q630 : (Jvm.Cond.fieldLink "WarByHours" (130 : Nat) "WarByHours" "faultKind" "I") ∈ lw_all := lw_g (lw_at lw_m3 17 rfl) rfl
theorem q631 : (Jvm.Cond.fieldLink "WarByHours" (59 : Nat) "WarByHours" "faultPlace" "I") ∈ lw_all := lw_g (lw_at lw_m3 18 rfl) rfl
theorem q633 : (Jvm.Cond.fieldLink "WarByHours" (68 : Nat) "WarByHours" "front" "LWarByHours$Front;") ∈ lw_all := lw_g (lw_at lw_m3 20 rfl) rfl
theorem q634 : (Jvm.Cond.fieldLink "WarByHours" (294 : Nat) "WarByHours" "worstGood" "I") ∈ lw_all := lw_g (lw_at lw_m3 21 rfl) rfl
theorem q635 : (Jvm.Cond.fieldLink "WarByHours" (291 : Nat) "WarByHours" "worstSet" "I") ∈ lw_all := lw_g (lw_at lw_m3 22 rfl) rfl
theorem q636 : (Jvm.Cond.fieldLink "WarByHours" (75 : Nat) "WarByHours" "send" "LWarByHours$Send;") ∈ lw_all := lw_g (lw_at lw_m3 23 rfl) rfl
theorem q637 : (Jvm.Cond.fieldLink "WarByHours" (82 : Nat) "WarByHours" "fewest" "LWarByHours$Fewest;") ∈ lw_all := lw_g (lw_at lw_m3 24 rfl) rfl
theorem q638 : (Jvm.Cond.fieldLink "WarByHours" (89 : Nat) "WarByHours" "risk" "LWarByHours$Risk;") ∈ lw_all := lw_g (lw_at lw_m3 25 rfl) rfl
theorem q639 : (Jvm.Cond.fieldLink "WarByHours" (96 : Nat) "WarByHours" "bribe" "LWarByHours$Bribe;") ∈ lw_all := lw_g (lw_at lw_m3 26 rfl) rfl
theorem q640 : (Jvm.Cond.fieldLink "WarByHours" (103 : Nat) "WarByHours" "duel" "LWarByHours$Duel;") ∈ lw_all := lw_g (lw_at lw_m3 27 rfl) rfl
theorem q641 : (Jvm.Cond.fieldLink "WarByHours" (110 : Nat) "WarByHours" "hold" "LWarByHours$Hold;") ∈ lw_all := lw_g (lw_at lw_m3 28 rfl) rfl
theorem q642 : (Jvm.Cond.fieldLink "WarByHours" (445 : Nat) "WarByHours" "watchBest" "I") ∈ lw_all := lw_g (lw_at lw_m3 29 rfl) rfl
theorem q643 : (Jvm.Cond.fieldLink "WarByHours" (448 : Nat) "WarByHours" "watchLeaves" "I") ∈ lw_all := lw_g (lw_at lw_m3 30 rfl) rfl
theorem q644 : (Jvm.Cond.fieldLink "WarByHours" (505 : Nat) "WarByHours" "drawnNow" "J") ∈ lw_all := lw_g (lw_at lw_m3 31 rfl) rfl
theorem q645 : (Jvm.Cond.laysFinal "WarByHours" "WarByHours" "slots" "[LWarByHours$Slot;") ∈ lw_all := lw_g (lw_at lw_m3 32 rfl) rfl
theorem q646 : (Jvm.Cond.soleField "WarByHours" "slots") ∈ lw_all := lw_g (lw_at lw_m3 33 rfl) rfl
theorem q647 : (Jvm.Cond.lays "WarByHours" "WarByHours" "now" "LWarByHours$War;") ∈ lw_all := lw_g (lw_at lw_m3 34 rfl) rfl
theorem q648 : (Jvm.Cond.soleField "WarByHours" "now") ∈ lw_all := lw_g (lw_at lw_m3 35 rfl) rfl
theorem q649 : (Jvm.Cond.laysFinal "WarByHours" "WarByHours" "images" "[LWarByHours$War;") ∈ lw_all := lw_g (lw_at lw_m3 36 rfl) rfl
theorem q650 : (Jvm.Cond.soleField "WarByHours" "images") ∈ lw_all := lw_g (lw_at lw_m3 37 rfl) rfl
theorem q651 : (Jvm.Cond.laysFinal "WarByHours" "WarByHours" "tape" "[B") ∈ lw_all := lw_g (lw_at lw_m3 38 rfl) rfl
theorem q652 : (Jvm.Cond.soleField "WarByHours" "tape") ∈ lw_all := lw_g (lw_at lw_m3 39 rfl) rfl
theorem q653 : (Jvm.Cond.lays "WarByHours" "WarByHours" "taped" "I") ∈ lw_all := lw_g (lw_at lw_m3 40 rfl) rfl
theorem q654 : (Jvm.Cond.soleField "WarByHours" "taped") ∈ lw_all := lw_g (lw_at lw_m3 41 rfl) rfl
theorem q655 : (Jvm.Cond.lays "WarByHours" "WarByHours" "faultKind" "I") ∈ lw_all := lw_g (lw_at lw_m3 42 rfl) rfl
theorem q656 : (Jvm.Cond.soleField "WarByHours" "faultKind") ∈ lw_all := lw_g (lw_at lw_m3 43 rfl) rfl
theorem q657 : (Jvm.Cond.lays "WarByHours" "WarByHours" "faultPlace" "I") ∈ lw_all := lw_g (lw_at lw_m3 44 rfl) rfl
theorem q658 : (Jvm.Cond.soleField "WarByHours" "faultPlace") ∈ lw_all := lw_g (lw_at lw_m3 45 rfl) rfl
theorem q659 : (Jvm.Cond.laysFinal "WarByHours" "WarByHours" "front" "LWarByHours$Front;") ∈ lw_all := lw_g (lw_at lw_m3 46 rfl) rfl
theorem q660 : (Jvm.Cond.soleField "WarByHours" "front") ∈ lw_all := lw_g (lw_at lw_m3 47 rfl) rfl
theorem q661 : (Jvm.Cond.lays "WarByHours" "WarByHours" "worstGood" "I") ∈ lw_all := lw_g (lw_at lw_m3 48 rfl) rfl
theorem q662 : (Jvm.Cond.soleField "WarByHours" "worstGood") ∈ lw_all := lw_g (lw_at lw_m3 49 rfl) rfl
theorem q663 : (Jvm.Cond.lays "WarByHours" "WarByHours" "worstSet" "I") ∈ lw_all := lw_g (lw_at lw_m3 50 rfl) rfl
theorem q664 : (Jvm.Cond.soleField "WarByHours" "worstSet") ∈ lw_all := lw_g (lw_at lw_m3 51 rfl) rfl
theorem q665 : (Jvm.Cond.laysFinal "WarByHours" "WarByHours" "send" "LWarByHours$Send;") ∈ lw_all := lw_g (lw_at lw_m3 52 rfl) rfl
theorem q666 : (Jvm.Cond.soleField "WarByHours" "send") ∈ lw_all := lw_g (lw_at lw_m3 53 rfl) rfl
theorem q667 : (Jvm.Cond.laysFinal "WarByHours" "WarByHours" "fewest" "LWarByHours$Fewest;") ∈ lw_all := lw_g (lw_at lw_m3 54 rfl) rfl
theorem q668 : (Jvm.Cond.soleField "WarByHours" "fewest") ∈ lw_all := lw_g (lw_at lw_m3 55 rfl) rfl
theorem q669 : (Jvm.Cond.laysFinal "WarByHours" "WarByHours" "risk" "LWarByHours$Risk;") ∈ lw_all := lw_g (lw_at lw_m3 56 rfl) rfl
theorem q670 : (Jvm.Cond.soleField "WarByHours" "risk") ∈ lw_all := lw_g (lw_at lw_m3 57 rfl) rfl
theorem q671 : (Jvm.Cond.laysFinal "WarByHours" "WarByHours" "bribe" "LWarByHours$Bribe;") ∈ lw_all := lw_g (lw_at lw_m3 58 rfl) rfl
theorem q672 : (Jvm.Cond.soleField "WarByHours" "bribe") ∈ lw_all := lw_g (lw_at lw_m3 59 rfl) rfl
theorem q673 : (Jvm.Cond.laysFinal "WarByHours" "WarByHours" "duel" "LWarByHours$Duel;") ∈ lw_all := lw_g (lw_at lw_m3 60 rfl) rfl
theorem q674 : (Jvm.Cond.soleField "WarByHours" "duel") ∈ lw_all := lw_g (lw_at lw_m3 61 rfl) rfl
theorem q675 : (Jvm.Cond.laysFinal "WarByHours" "WarByHours" "hold" "LWarByHours$Hold;") ∈ lw_all := lw_g (lw_at lw_m3 62 rfl) rfl
theorem q676 : (Jvm.Cond.soleField "WarByHours" "hold") ∈ lw_all := lw_g (lw_at lw_m3 63 rfl) rfl
theorem q677 : (Jvm.Cond.lays "WarByHours" "WarByHours" "watchBest" "I") ∈ lw_all := lw_g (lw_at lw_m3 64 rfl) rfl
theorem q678 : (Jvm.Cond.soleField "WarByHours" "watchBest") ∈ lw_all := lw_g (lw_at lw_m3 65 rfl) rfl
theorem q679 : (Jvm.Cond.lays "WarByHours" "WarByHours" "watchLeaves" "I") ∈ lw_all := lw_g (lw_at lw_m3 66 rfl) rfl
theorem q680 : (Jvm.Cond.soleField "WarByHours" "watchLeaves") ∈ lw_all := lw_g (lw_at lw_m3 67 rfl) rfl
theorem q681 : (Jvm.Cond.lays "WarByHours" "WarByHours" "drawnNow" "J") ∈ lw_all := lw_g (lw_at lw_m3 68 rfl) rfl
theorem q682 : (Jvm.Cond.soleField "WarByHours" "drawnNow") ∈ lw_all := lw_g (lw_at lw_m3 69 rfl) rfl
theorem q683 : (Jvm.Cond.superclass "WarByHours" "java/lang/Object") ∈ lw_all := lw_g (lw_at lw_m3 70 rfl) rfl
theorem q685 : (Jvm.Cond.instanceMethod ({ cls := "WarByHours", name := "feed", desc := "(IIIII)I" } : Jvm.MethodName)) ∈ lw_all := lw_g (lw_at lw_m3 72 rfl) rfl
theorem q686 : (Jvm.Cond.selects "WarByHours" ({ cls := "WarByHours", name := "feed", desc := "(IIIII)I" } : Jvm.MethodName) ({ cls := "WarByHours", name := "feed", desc := "(IIIII)I" } : Jvm.MethodName)) ∈ lw_all := lw_g (lw_at lw_m3 73 rfl) rfl
theorem q687 : (Jvm.Cond.code ({ cls := "WarByHours", name := "feed", desc := "(IIIII)I" } : Jvm.MethodName) prog_1_method_9_code (8 : Nat) (Option.some Jvm.ClassFile.FieldType.int)) ∈ lw_all := lw_g (lw_at lw_m3 74 rfl) rfl
theorem q689 : (Jvm.Cond.instanceMethod ({ cls := "WarByHours", name := "end", desc := "(I)I" } : Jvm.MethodName)) ∈ lw_all := lw_g (lw_at lw_m3 76 rfl) rfl
theorem q690 : (Jvm.Cond.selects "WarByHours" ({ cls := "WarByHours", name := "end", desc := "(I)I" } : Jvm.MethodName) ({ cls := "WarByHours", name := "end", desc := "(I)I" } : Jvm.MethodName)) ∈ lw_all := lw_g (lw_at lw_m3 77 rfl) rfl
theorem q691 : (Jvm.Cond.code ({ cls := "WarByHours", name := "end", desc := "(I)I" } : Jvm.MethodName) prog_1_method_10_code (2 : Nat) (Option.some Jvm.ClassFile.FieldType.int)) ∈ lw_all := lw_g (lw_at lw_m3 78 rfl) rfl
theorem q693 : (Jvm.Cond.instanceMethod ({ cls := "WarByHours", name := "war", desc := "()I" } : Jvm.MethodName)) ∈ lw_all := lw_g (lw_at lw_m3 80 rfl) rfl
theorem q694 : (Jvm.Cond.selects "WarByHours" ({ cls := "WarByHours", name := "war", desc := "()I" } : Jvm.MethodName) ({ cls := "WarByHours", name := "war", desc := "()I" } : Jvm.MethodName)) ∈ lw_all := lw_g (lw_at lw_m3 81 rfl) rfl
theorem q695 : (Jvm.Cond.codeWith ({ cls := "WarByHours", name := "war", desc := "()I" } : Jvm.MethodName) prog_1_method_11_code (4 : Nat) (Option.some Jvm.ClassFile.FieldType.int) [((0 : Nat), (59 : Nat), (66 : Nat), (136 : Nat)), ((0 : Nat), (59 : Nat), (93 : Nat), (0 : Nat)), ((66 : Nat), (86 : Nat), (93 : Nat), (0 : Nat))]) ∈ lw_all := lw_g (lw_at lw_m3 82 rfl) rfl
theorem q696 : (Jvm.Cond.classLink "WarByHours" (136 : Nat) "WarByHours$Fault") ∈ lw_all := lw_g (lw_at lw_m3 83 rfl) rfl
theorem q697 : (Jvm.Cond.classLink "WarByHours" (117 : Nat) "WarByHours$Reader") ∈ lw_all := lw_g (lw_at lw_m3 84 rfl) rfl
theorem q699 : (Jvm.Cond.methodLink "WarByHours" (119 : Nat) ({ cls := "WarByHours$Reader", name := "<init>", desc := "([BI)V" } : Jvm.MethodName)) ∈ lw_all := lw_g (lw_at lw_m3 86 rfl) rfl
theorem q740 : (Jvm.Cond.methodLink "WarByHours" (122 : Nat) ({ cls := "WarByHours$Reader", name := "reads", desc := "()LWarByHours$War;" } : Jvm.MethodName)) ∈ lw_all := lw_g (lw_at lw_m3 127 rfl) rfl
theorem q831 : (Jvm.Cond.fieldLinkNest "WarByHours" (138 : Nat) "WarByHours$Fault" "kind" "I" "WarByHours") ∈ lw_tbl := lw_at lw_m3 218 rfl
theorem q833 : (Jvm.Cond.fieldLinkNest "WarByHours" (141 : Nat) "WarByHours$Fault" "place" "I" "WarByHours") ∈ lw_tbl := lw_at lw_m3 220 rfl
theorem q883 : (Jvm.Cond.fieldLinkNest "WarByHours" (174 : Nat) "WarByHours$Train" "side" "I" "WarByHours") ∈ lw_tbl := lw_at lw_m4 30 rfl
theorem q886 : (Jvm.Cond.fieldLinkNest "WarByHours" (177 : Nat) "WarByHours$Train" "men" "I" "WarByHours") ∈ lw_tbl := lw_at lw_m4 33 rfl
theorem q889 : (Jvm.Cond.fieldLinkNest "WarByHours" (180 : Nat) "WarByHours$Train" "due" "I" "WarByHours") ∈ lw_tbl := lw_at lw_m4 36 rfl
theorem q892 : (Jvm.Cond.fieldLinkNest "WarByHours" (183 : Nat) "WarByHours$Train" "odds" "I" "WarByHours") ∈ lw_tbl := lw_at lw_m4 39 rfl
theorem q895 : (Jvm.Cond.fieldLinkNest "WarByHours" (186 : Nat) "WarByHours$Train" "by" "I" "WarByHours") ∈ lw_tbl := lw_at lw_m4 42 rfl
theorem q898 : (Jvm.Cond.fieldLinkNest "WarByHours" (189 : Nat) "WarByHours$Train" "price" "I" "WarByHours") ∈ lw_tbl := lw_at lw_m4 45 rfl
theorem q958 : (Jvm.Cond.selects "WarByHours" ({ cls := "java/lang/Object", name := "getClass", desc := "()Ljava/lang/Class;" } : Jvm.MethodName) ({ cls := "java/lang/Object", name := "getClass", desc := "()Ljava/lang/Class;" } : Jvm.MethodName)) ∈ lw_all := lw_g (lw_at lw_m4 105 rfl) rfl
theorem q1006 : (Jvm.Cond.fieldLinkNest "WarByHours" (218 : Nat) "WarByHours$Ask" "side" "I" "WarByHours") ∈ lw_tbl := lw_at lw_m4 153 rfl
theorem q1008 : (Jvm.Cond.fieldLinkNest "WarByHours" (219 : Nat) "WarByHours$Ask" "at" "I" "WarByHours") ∈ lw_tbl := lw_at lw_m4 155 rfl
theorem q1010 : (Jvm.Cond.fieldLinkNest "WarByHours" (222 : Nat) "WarByHours$Ask" "lasts" "I" "WarByHours") ∈ lw_tbl := lw_at lw_m4 157 rfl
theorem q1012 : (Jvm.Cond.fieldLinkNest "WarByHours" (225 : Nat) "WarByHours$Ask" "worth" "I" "WarByHours") ∈ lw_tbl := lw_at lw_m4 159 rfl
theorem q1061 : (Jvm.Cond.fieldLinkNest "WarByHours" (234 : Nat) "WarByHours$Span" "from" "I" "WarByHours") ∈ lw_tbl := lw_at lw_m4 208 rfl
theorem q1063 : (Jvm.Cond.fieldLinkNest "WarByHours" (237 : Nat) "WarByHours$Span" "to" "I" "WarByHours") ∈ lw_tbl := lw_at lw_m4 210 rfl
theorem q1071 : (Jvm.Cond.methodLink "WarByHours" (126 : Nat) ({ cls := "WarByHours$War", name := "is", desc := "()Z" } : Jvm.MethodName)) ∈ lw_all := lw_g (lw_at lw_m4 218 rfl) rfl
theorem q1076 : (Jvm.Cond.instanceMethod ({ cls := "WarByHours", name := "fault", desc := "(I)I" } : Jvm.MethodName)) ∈ lw_all := lw_g (lw_at lw_m4 223 rfl) rfl
theorem q1077 : (Jvm.Cond.selects "WarByHours" ({ cls := "WarByHours", name := "fault", desc := "(I)I" } : Jvm.MethodName) ({ cls := "WarByHours", name := "fault", desc := "(I)I" } : Jvm.MethodName)) ∈ lw_all := lw_g (lw_at lw_m4 224 rfl) rfl
theorem q1078 : (Jvm.Cond.code ({ cls := "WarByHours", name := "fault", desc := "(I)I" } : Jvm.MethodName) prog_1_method_12_code (2 : Nat) (Option.some Jvm.ClassFile.FieldType.int)) ∈ lw_all := lw_g (lw_at lw_m4 225 rfl) rfl
theorem q1080 : (Jvm.Cond.instanceMethod ({ cls := "WarByHours", name := "train", desc := "(II)I" } : Jvm.MethodName)) ∈ lw_all := lw_g (lw_at lw_m4 227 rfl) rfl
theorem q1081 : (Jvm.Cond.selects "WarByHours" ({ cls := "WarByHours", name := "train", desc := "(II)I" } : Jvm.MethodName) ({ cls := "WarByHours", name := "train", desc := "(II)I" } : Jvm.MethodName)) ∈ lw_all := lw_g (lw_at lw_m4 228 rfl) rfl
theorem q1082 : (Jvm.Cond.code ({ cls := "WarByHours", name := "train", desc := "(II)I" } : Jvm.MethodName) prog_1_method_19_code (4 : Nat) (Option.some Jvm.ClassFile.FieldType.int)) ∈ lw_all := lw_g (lw_at lw_m4 229 rfl) rfl
theorem q1083 : (Jvm.Cond.methodLink "WarByHours" (165 : Nat) ({ cls := "WarByHours", name := "isTrain", desc := "(I)Z" } : Jvm.MethodName)) ∈ lw_all := lw_g (lw_at lw_m4 230 rfl) rfl
theorem q1084 : (Jvm.Cond.privateMethod ({ cls := "WarByHours", name := "isTrain", desc := "(I)Z" } : Jvm.MethodName)) ∈ lw_tbl := lw_at lw_m4 231 rfl
theorem q1085 : (Jvm.Cond.instanceMethod ({ cls := "WarByHours", name := "isTrain", desc := "(I)Z" } : Jvm.MethodName)) ∈ lw_all := lw_g (lw_at lw_m4 232 rfl) rfl
theorem q1086 : (Jvm.Cond.code ({ cls := "WarByHours", name := "isTrain", desc := "(I)Z" } : Jvm.MethodName) prog_1_method_15_code (2 : Nat) (Option.some Jvm.ClassFile.FieldType.boolean)) ∈ lw_all := lw_g (lw_at lw_m4 233 rfl) rfl
theorem q1087 : (Jvm.Cond.methodLink "WarByHours" (160 : Nat) ({ cls := "WarByHours", name := "trains", desc := "()I" } : Jvm.MethodName)) ∈ lw_all := lw_g (lw_at lw_m4 234 rfl) rfl
theorem q1088 : (Jvm.Cond.privateMethod ({ cls := "WarByHours", name := "trains", desc := "()I" } : Jvm.MethodName)) ∈ lw_tbl := lw_at lw_m4 235 rfl
theorem q1089 : (Jvm.Cond.instanceMethod ({ cls := "WarByHours", name := "trains", desc := "()I" } : Jvm.MethodName)) ∈ lw_all := lw_g (lw_at lw_m4 236 rfl) rfl
theorem q1090 : (Jvm.Cond.code ({ cls := "WarByHours", name := "trains", desc := "()I" } : Jvm.MethodName) prog_1_method_13_code (1 : Nat) (Option.some Jvm.ClassFile.FieldType.int)) ∈ lw_all := lw_g (lw_at lw_m4 237 rfl) rfl
theorem q1091 : (Jvm.Cond.interfaceEntry "WarByHours" (148 : Nat)) ∈ lw_tbl := lw_at lw_m4 238 rfl
theorem q1092 : (Jvm.Cond.methodLink "WarByHours" (148 : Nat) ({ cls := "java/util/List", name := "size", desc := "()I" } : Jvm.MethodName)) ∈ lw_all := lw_g (lw_at lw_m4 239 rfl) rfl
theorem q1093 : (Jvm.Cond.constantLong "WarByHours" (168 : Nat) (5 : Int64)) ∈ lw_all := lw_g (lw_at lw_m5 0 rfl) rfl
theorem q1094 : (Jvm.Cond.methodLink "WarByHours" (170 : Nat) ({ cls := "WarByHours", name := "one", desc := "(I)LWarByHours$Train;" } : Jvm.MethodName)) ∈ lw_all := lw_g (lw_at lw_m5 1 rfl) rfl
theorem q1095 : (Jvm.Cond.privateMethod ({ cls := "WarByHours", name := "one", desc := "(I)LWarByHours$Train;" } : Jvm.MethodName)) ∈ lw_tbl := lw_at lw_m5 2 rfl
theorem q1096 : (Jvm.Cond.instanceMethod ({ cls := "WarByHours", name := "one", desc := "(I)LWarByHours$Train;" } : Jvm.MethodName)) ∈ lw_all := lw_g (lw_at lw_m5 3 rfl) rfl
theorem q1097 : (Jvm.Cond.code ({ cls := "WarByHours", name := "one", desc := "(I)LWarByHours$Train;" } : Jvm.MethodName) prog_1_method_14_code (2 : Nat) (Option.some (Jvm.ClassFile.FieldType.object "WarByHours$Train"))) ∈ lw_all := lw_g (lw_at lw_m5 4 rfl) rfl
theorem q1098 : (Jvm.Cond.interfaceEntry "WarByHours" (154 : Nat)) ∈ lw_tbl := lw_at lw_m5 5 rfl
theorem q1099 : (Jvm.Cond.methodLink "WarByHours" (154 : Nat) ({ cls := "java/util/List", name := "get", desc := "(I)Ljava/lang/Object;" } : Jvm.MethodName)) ∈ lw_all := lw_g (lw_at lw_m5 6 rfl) rfl
theorem q1115 : (Jvm.Cond.classLink "WarByHours" (158 : Nat) "WarByHours$Train") ∈ lw_all := lw_g (lw_at lw_m5 22 rfl) rfl
theorem q1117 : (Jvm.Cond.instanceMethod ({ cls := "WarByHours", name := "need", desc := "(I)I" } : Jvm.MethodName)) ∈ lw_all := lw_g (lw_at lw_m5 24 rfl) rfl
theorem q1118 : (Jvm.Cond.selects "WarByHours" ({ cls := "WarByHours", name := "need", desc := "(I)I" } : Jvm.MethodName) ({ cls := "WarByHours", name := "need", desc := "(I)I" } : Jvm.MethodName)) ∈ lw_all := lw_g (lw_at lw_m5 25 rfl) rfl
theorem q1119 : (Jvm.Cond.code ({ cls := "WarByHours", name := "need", desc := "(I)I" } : Jvm.MethodName) prog_1_method_20_code (2 : Nat) (Option.some Jvm.ClassFile.FieldType.int)) ∈ lw_all := lw_g (lw_at lw_m5 26 rfl) rfl
theorem q1120 : (Jvm.Cond.methodLink "WarByHours" (192 : Nat) ({ cls := "WarByHours", name := "isSide", desc := "(I)Z" } : Jvm.MethodName)) ∈ lw_all := lw_g (lw_at lw_m5 27 rfl) rfl
theorem q1121 : (Jvm.Cond.privateMethod ({ cls := "WarByHours", name := "isSide", desc := "(I)Z" } : Jvm.MethodName)) ∈ lw_tbl := lw_at lw_m5 28 rfl
theorem q1122 : (Jvm.Cond.instanceMethod ({ cls := "WarByHours", name := "isSide", desc := "(I)Z" } : Jvm.MethodName)) ∈ lw_all := lw_g (lw_at lw_m5 29 rfl) rfl
theorem q1123 : (Jvm.Cond.code ({ cls := "WarByHours", name := "isSide", desc := "(I)Z" } : Jvm.MethodName) prog_1_method_16_code (2 : Nat) (Option.some Jvm.ClassFile.FieldType.boolean)) ∈ lw_all := lw_g (lw_at lw_m5 30 rfl) rfl
theorem q1125 : (Jvm.Cond.instanceMethod ({ cls := "WarByHours", name := "tea", desc := "(I)I" } : Jvm.MethodName)) ∈ lw_all := lw_g (lw_at lw_m5 32 rfl) rfl
theorem q1126 : (Jvm.Cond.selects "WarByHours" ({ cls := "WarByHours", name := "tea", desc := "(I)I" } : Jvm.MethodName) ({ cls := "WarByHours", name := "tea", desc := "(I)I" } : Jvm.MethodName)) ∈ lw_all := lw_g (lw_at lw_m5 33 rfl) rfl
theorem q1127 : (Jvm.Cond.code ({ cls := "WarByHours", name := "tea", desc := "(I)I" } : Jvm.MethodName) prog_1_method_22_code (2 : Nat) (Option.some Jvm.ClassFile.FieldType.int)) ∈ lw_all := lw_g (lw_at lw_m5 34 rfl) rfl
theorem q1128 : (Jvm.Cond.methodLink "WarByHours" (210 : Nat) ({ cls := "WarByHours", name := "isTea", desc := "(I)Z" } : Jvm.MethodName)) ∈ lw_all := lw_g (lw_at lw_m5 35 rfl) rfl
theorem q1129 : (Jvm.Cond.privateMethod ({ cls := "WarByHours", name := "isTea", desc := "(I)Z" } : Jvm.MethodName)) ∈ lw_tbl := lw_at lw_m5 36 rfl
theorem q1130 : (Jvm.Cond.instanceMethod ({ cls := "WarByHours", name := "isTea", desc := "(I)Z" } : Jvm.MethodName)) ∈ lw_all := lw_g (lw_at lw_m5 37 rfl) rfl
theorem q1131 : (Jvm.Cond.code ({ cls := "WarByHours", name := "isTea", desc := "(I)Z" } : Jvm.MethodName) prog_1_method_21_code (4 : Nat) (Option.some Jvm.ClassFile.FieldType.boolean)) ∈ lw_all := lw_g (lw_at lw_m5 38 rfl) rfl
theorem q1132 : (Jvm.Cond.classLink "WarByHours" (202 : Nat) "WarByHours$Span") ∈ lw_all := lw_g (lw_at lw_m5 39 rfl) rfl
theorem q1133 : (Jvm.Cond.methodLink "WarByHours" (204 : Nat) ({ cls := "WarByHours$Span", name := "has", desc := "(I)Z" } : Jvm.MethodName)) ∈ lw_all := lw_g (lw_at lw_m5 40 rfl) rfl
theorem q1138 : (Jvm.Cond.instanceMethod ({ cls := "WarByHours", name := "cannon", desc := "(II)I" } : Jvm.MethodName)) ∈ lw_all := lw_g (lw_at lw_m5 45 rfl) rfl
theorem q1139 : (Jvm.Cond.selects "WarByHours" ({ cls := "WarByHours", name := "cannon", desc := "(II)I" } : Jvm.MethodName) ({ cls := "WarByHours", name := "cannon", desc := "(II)I" } : Jvm.MethodName)) ∈ lw_all := lw_g (lw_at lw_m5 46 rfl) rfl
theorem q1140 : (Jvm.Cond.code ({ cls := "WarByHours", name := "cannon", desc := "(II)I" } : Jvm.MethodName) prog_1_method_23_code (4 : Nat) (Option.some Jvm.ClassFile.FieldType.int)) ∈ lw_all := lw_g (lw_at lw_m5 47 rfl) rfl
theorem q1141 : (Jvm.Cond.classLink "WarByHours" (216 : Nat) "WarByHours$Ask") ∈ lw_all := lw_g (lw_at lw_m5 48 rfl) rfl
theorem q1143 : (Jvm.Cond.instanceMethod ({ cls := "WarByHours", name := "rule", desc := "(II)I" } : Jvm.MethodName)) ∈ lw_all := lw_g (lw_at lw_m5 50 rfl) rfl
theorem q1144 : (Jvm.Cond.selects "WarByHours" ({ cls := "WarByHours", name := "rule", desc := "(II)I" } : Jvm.MethodName) ({ cls := "WarByHours", name := "rule", desc := "(II)I" } : Jvm.MethodName)) ∈ lw_all := lw_g (lw_at lw_m5 51 rfl) rfl
theorem q1145 : (Jvm.Cond.code ({ cls := "WarByHours", name := "rule", desc := "(II)I" } : Jvm.MethodName) prog_1_method_24_code (3 : Nat) (Option.some Jvm.ClassFile.FieldType.int)) ∈ lw_all := lw_g (lw_at lw_m5 52 rfl) rfl
theorem q1146 : (Jvm.Cond.methodLink "WarByHours" (231 : Nat) ({ cls := "WarByHours", name := "isBit", desc := "(I)Z" } : Jvm.MethodName)) ∈ lw_all := lw_g (lw_at lw_m5 53 rfl) rfl
theorem q1147 : (Jvm.Cond.static ({ cls := "WarByHours", name := "isBit", desc := "(I)Z" } : Jvm.MethodName)) ∈ lw_all := lw_g (lw_at lw_m5 54 rfl) rfl
theorem q1148 : (Jvm.Cond.code ({ cls := "WarByHours", name := "isBit", desc := "(I)Z" } : Jvm.MethodName) prog_1_method_18_code (1 : Nat) (Option.some Jvm.ClassFile.FieldType.boolean)) ∈ lw_all := lw_g (lw_at lw_m5 55 rfl) rfl
theorem q1150 : (Jvm.Cond.instanceMethod ({ cls := "WarByHours", name := "spy", desc := "(I)I" } : Jvm.MethodName)) ∈ lw_all := lw_g (lw_at lw_m5 57 rfl) rfl
theorem q1151 : (Jvm.Cond.selects "WarByHours" ({ cls := "WarByHours", name := "spy", desc := "(I)I" } : Jvm.MethodName) ({ cls := "WarByHours", name := "spy", desc := "(I)I" } : Jvm.MethodName)) ∈ lw_all := lw_g (lw_at lw_m5 58 rfl) rfl
theorem q1152 : (Jvm.Cond.code ({ cls := "WarByHours", name := "spy", desc := "(I)I" } : Jvm.MethodName) prog_1_method_25_code (2 : Nat) (Option.some Jvm.ClassFile.FieldType.int)) ∈ lw_all := lw_g (lw_at lw_m5 59 rfl) rfl
theorem q1153 : (Jvm.Cond.classLink "WarByHours" (2 : Nat) "java/lang/Integer") ∈ lw_all := lw_g (lw_at lw_m5 60 rfl) rfl
theorem q1154 : (Jvm.Cond.methodLink "WarByHours" (243 : Nat) ({ cls := "java/lang/Integer", name := "intValue", desc := "()I" } : Jvm.MethodName)) ∈ lw_all := lw_g (lw_at lw_m5 61 rfl) rfl
theorem q1159 : (Jvm.Cond.instanceMethod ({ cls := "WarByHours", name := "men", desc := "(III)I" } : Jvm.MethodName)) ∈ lw_all := lw_g (lw_at lw_m5 66 rfl) rfl
theorem q1160 : (Jvm.Cond.selects "WarByHours" ({ cls := "WarByHours", name := "men", desc := "(III)I" } : Jvm.MethodName) ({ cls := "WarByHours", name := "men", desc := "(III)I" } : Jvm.MethodName)) ∈ lw_all := lw_g (lw_at lw_m5 67 rfl) rfl
theorem q1161 : (Jvm.Cond.code ({ cls := "WarByHours", name := "men", desc := "(III)I" } : Jvm.MethodName) prog_1_method_28_code (4 : Nat) (Option.some Jvm.ClassFile.FieldType.int)) ∈ lw_all := lw_g (lw_at lw_m5 68 rfl) rfl
theorem q1162 : (Jvm.Cond.methodLink "WarByHours" (257 : Nat) ({ cls := "WarByHours", name := "isSet", desc := "(I)Z" } : Jvm.MethodName)) ∈ lw_all := lw_g (lw_at lw_m5 69 rfl) rfl
theorem q1163 : (Jvm.Cond.privateMethod ({ cls := "WarByHours", name := "isSet", desc := "(I)Z" } : Jvm.MethodName)) ∈ lw_tbl := lw_at lw_m5 70 rfl
theorem q1164 : (Jvm.Cond.instanceMethod ({ cls := "WarByHours", name := "isSet", desc := "(I)Z" } : Jvm.MethodName)) ∈ lw_all := lw_g (lw_at lw_m5 71 rfl) rfl
theorem q1165 : (Jvm.Cond.code ({ cls := "WarByHours", name := "isSet", desc := "(I)Z" } : Jvm.MethodName) prog_1_method_17_code (2 : Nat) (Option.some Jvm.ClassFile.FieldType.boolean)) ∈ lw_all := lw_g (lw_at lw_m5 72 rfl) rfl
theorem q1166 : (Jvm.Cond.methodLink "WarByHours" (162 : Nat) ({ cls := "WarByHours$War", name := "all", desc := "()I" } : Jvm.MethodName)) ∈ lw_all := lw_g (lw_at lw_m5 73 rfl) rfl
theorem q1172 : (Jvm.Cond.constantLong "WarByHours" (260 : Nat) (99 : Int64)) ∈ lw_all := lw_g (lw_at lw_m5 79 rfl) rfl
theorem q1173 : (Jvm.Cond.methodLink "WarByHours" (262 : Nat) ({ cls := "WarByHours", name := "menAt", desc := "(III)I" } : Jvm.MethodName)) ∈ lw_all := lw_g (lw_at lw_m5 80 rfl) rfl
theorem q1174 : (Jvm.Cond.privateMethod ({ cls := "WarByHours", name := "menAt", desc := "(III)I" } : Jvm.MethodName)) ∈ lw_tbl := lw_at lw_m5 81 rfl
theorem q1175 : (Jvm.Cond.instanceMethod ({ cls := "WarByHours", name := "menAt", desc := "(III)I" } : Jvm.MethodName)) ∈ lw_all := lw_g (lw_at lw_m5 82 rfl) rfl
theorem q1176 : (Jvm.Cond.code ({ cls := "WarByHours", name := "menAt", desc := "(III)I" } : Jvm.MethodName) prog_1_method_27_code (4 : Nat) (Option.some Jvm.ClassFile.FieldType.int)) ∈ lw_all := lw_g (lw_at lw_m5 83 rfl) rfl
theorem q1177 : (Jvm.Cond.methodLink "WarByHours" (253 : Nat) ({ cls := "WarByHours", name := "menOf", desc := "(IIII)I" } : Jvm.MethodName)) ∈ lw_all := lw_g (lw_at lw_m5 84 rfl) rfl
theorem q1178 : (Jvm.Cond.privateMethod ({ cls := "WarByHours", name := "menOf", desc := "(IIII)I" } : Jvm.MethodName)) ∈ lw_tbl := lw_at lw_m5 85 rfl
theorem q1179 : (Jvm.Cond.instanceMethod ({ cls := "WarByHours", name := "menOf", desc := "(IIII)I" } : Jvm.MethodName)) ∈ lw_all := lw_g (lw_at lw_m5 86 rfl) rfl
theorem q1180 : (Jvm.Cond.code ({ cls := "WarByHours", name := "menOf", desc := "(IIII)I" } : Jvm.MethodName) prog_1_method_26_code (7 : Nat) (Option.some Jvm.ClassFile.FieldType.int)) ∈ lw_all := lw_g (lw_at lw_m5 87 rfl) rfl
theorem q1181 : (Jvm.Cond.methodLink "WarByHours" (246 : Nat) ({ cls := "WarByHours", name := "isOn", desc := "(II)Z" } : Jvm.MethodName)) ∈ lw_all := lw_g (lw_at lw_m5 88 rfl) rfl
theorem q1182 : (Jvm.Cond.static ({ cls := "WarByHours", name := "isOn", desc := "(II)Z" } : Jvm.MethodName)) ∈ lw_all := lw_g (lw_at lw_m5 89 rfl) rfl
theorem q1183 : (Jvm.Cond.code ({ cls := "WarByHours", name := "isOn", desc := "(II)Z" } : Jvm.MethodName) prog_1_method_2_code (2 : Nat) (Option.some Jvm.ClassFile.FieldType.boolean)) ∈ lw_all := lw_g (lw_at lw_m5 90 rfl) rfl
theorem q1184 : (Jvm.Cond.methodLink "WarByHours" (249 : Nat) ({ cls := "WarByHours$Train", name := "comes", desc := "(Z)I" } : Jvm.MethodName)) ∈ lw_all := lw_g (lw_at lw_m5 91 rfl) rfl
theorem q1189 : (Jvm.Cond.instanceMethod ({ cls := "WarByHours", name := "front", desc := "(II)I" } : Jvm.MethodName)) ∈ lw_all := lw_g (lw_at lw_m5 96 rfl) rfl
theorem q1190 : (Jvm.Cond.selects "WarByHours" ({ cls := "WarByHours", name := "front", desc := "(II)I" } : Jvm.MethodName) ({ cls := "WarByHours", name := "front", desc := "(II)I" } : Jvm.MethodName)) ∈ lw_all := lw_g (lw_at lw_m5 97 rfl) rfl
theorem q1191 : (Jvm.Cond.code ({ cls := "WarByHours", name := "front", desc := "(II)I" } : Jvm.MethodName) prog_1_method_29_code (3 : Nat) (Option.some Jvm.ClassFile.FieldType.int)) ∈ lw_all := lw_g (lw_at lw_m5 98 rfl) rfl
theorem q1192 : (Jvm.Cond.methodLink "WarByHours" (266 : Nat) ({ cls := "WarByHours$Front", name := "goes", desc := "(I)LWarByHours$Front;" } : Jvm.MethodName)) ∈ lw_all := lw_g (lw_at lw_m5 99 rfl) rfl
theorem q1202 : (Jvm.Cond.instanceMethod ({ cls := "WarByHours", name := "late", desc := "(I)I" } : Jvm.MethodName)) ∈ lw_all := lw_g (lw_at lw_m5 109 rfl) rfl
theorem q1203 : (Jvm.Cond.selects "WarByHours" ({ cls := "WarByHours", name := "late", desc := "(I)I" } : Jvm.MethodName) ({ cls := "WarByHours", name := "late", desc := "(I)I" } : Jvm.MethodName)) ∈ lw_all := lw_g (lw_at lw_m5 110 rfl) rfl
theorem q1204 : (Jvm.Cond.code ({ cls := "WarByHours", name := "late", desc := "(I)I" } : Jvm.MethodName) prog_1_method_32_code (2 : Nat) (Option.some Jvm.ClassFile.FieldType.int)) ∈ lw_all := lw_g (lw_at lw_m5 111 rfl) rfl
theorem q1205 : (Jvm.Cond.methodLink "WarByHours" (275 : Nat) ({ cls := "WarByHours", name := "lateOf", desc := "(I)I" } : Jvm.MethodName)) ∈ lw_all := lw_g (lw_at lw_m5 112 rfl) rfl
theorem q1206 : (Jvm.Cond.privateMethod ({ cls := "WarByHours", name := "lateOf", desc := "(I)I" } : Jvm.MethodName)) ∈ lw_tbl := lw_at lw_m5 113 rfl
theorem q1207 : (Jvm.Cond.instanceMethod ({ cls := "WarByHours", name := "lateOf", desc := "(I)I" } : Jvm.MethodName)) ∈ lw_all := lw_g (lw_at lw_m5 114 rfl) rfl
theorem q1208 : (Jvm.Cond.code ({ cls := "WarByHours", name := "lateOf", desc := "(I)I" } : Jvm.MethodName) prog_1_method_30_code (4 : Nat) (Option.some Jvm.ClassFile.FieldType.int)) ∈ lw_all := lw_g (lw_at lw_m5 115 rfl) rfl
theorem q1210 : (Jvm.Cond.instanceMethod ({ cls := "WarByHours", name := "wins", desc := "(I)I" } : Jvm.MethodName)) ∈ lw_all := lw_g (lw_at lw_m5 117 rfl) rfl
theorem q1211 : (Jvm.Cond.selects "WarByHours" ({ cls := "WarByHours", name := "wins", desc := "(I)I" } : Jvm.MethodName) ({ cls := "WarByHours", name := "wins", desc := "(I)I" } : Jvm.MethodName)) ∈ lw_all := lw_g (lw_at lw_m5 118 rfl) rfl
theorem q1212 : (Jvm.Cond.code ({ cls := "WarByHours", name := "wins", desc := "(I)I" } : Jvm.MethodName) prog_1_method_33_code (2 : Nat) (Option.some Jvm.ClassFile.FieldType.int)) ∈ lw_all := lw_g (lw_at lw_m5 119 rfl) rfl
theorem q1213 : (Jvm.Cond.methodLink "WarByHours" (281 : Nat) ({ cls := "WarByHours", name := "winsOf", desc := "(I)I" } : Jvm.MethodName)) ∈ lw_all := lw_g (lw_at lw_m5 120 rfl) rfl
theorem q1214 : (Jvm.Cond.privateMethod ({ cls := "WarByHours", name := "winsOf", desc := "(I)I" } : Jvm.MethodName)) ∈ lw_tbl := lw_at lw_m5 121 rfl
theorem q1215 : (Jvm.Cond.instanceMethod ({ cls := "WarByHours", name := "winsOf", desc := "(I)I" } : Jvm.MethodName)) ∈ lw_all := lw_g (lw_at lw_m5 122 rfl) rfl
theorem q1216 : (Jvm.Cond.code ({ cls := "WarByHours", name := "winsOf", desc := "(I)I" } : Jvm.MethodName) prog_1_method_31_code (4 : Nat) (Option.some Jvm.ClassFile.FieldType.int)) ∈ lw_all := lw_g (lw_at lw_m5 123 rfl) rfl
theorem q1217 : (Jvm.Cond.methodLink "WarByHours" (278 : Nat) ({ cls := "WarByHours$Front", name := "last", desc := "()I" } : Jvm.MethodName)) ∈ lw_all := lw_g (lw_at lw_m5 124 rfl) rfl
theorem q1222 : (Jvm.Cond.instanceMethod ({ cls := "WarByHours", name := "peak", desc := "(II)I" } : Jvm.MethodName)) ∈ lw_all := lw_g (lw_at lw_m5 129 rfl) rfl
theorem q1223 : (Jvm.Cond.selects "WarByHours" ({ cls := "WarByHours", name := "peak", desc := "(II)I" } : Jvm.MethodName) ({ cls := "WarByHours", name := "peak", desc := "(II)I" } : Jvm.MethodName)) ∈ lw_all := lw_g (lw_at lw_m5 130 rfl) rfl
theorem q1224 : (Jvm.Cond.code ({ cls := "WarByHours", name := "peak", desc := "(II)I" } : Jvm.MethodName) prog_1_method_34_code (5 : Nat) (Option.some Jvm.ClassFile.FieldType.int)) ∈ lw_all := lw_g (lw_at lw_m5 131 rfl) rfl
theorem q1225 : (Jvm.Cond.methodLink "WarByHours" (284 : Nat) ({ cls := "WarByHours$Front", name := "good", desc := "(II)I" } : Jvm.MethodName)) ∈ lw_all := lw_g (lw_at lw_m5 132 rfl) rfl
theorem q1230 : (Jvm.Cond.instanceMethod ({ cls := "WarByHours", name := "swings", desc := "(I)I" } : Jvm.MethodName)) ∈ lw_all := lw_g (lw_at lw_m5 137 rfl) rfl
theorem q1231 : (Jvm.Cond.selects "WarByHours" ({ cls := "WarByHours", name := "swings", desc := "(I)I" } : Jvm.MethodName) ({ cls := "WarByHours", name := "swings", desc := "(I)I" } : Jvm.MethodName)) ∈ lw_all := lw_g (lw_at lw_m5 138 rfl) rfl
theorem q1232 : (Jvm.Cond.code ({ cls := "WarByHours", name := "swings", desc := "(I)I" } : Jvm.MethodName) prog_1_method_35_code (6 : Nat) (Option.some Jvm.ClassFile.FieldType.int)) ∈ lw_all := lw_g (lw_at lw_m5 139 rfl) rfl
theorem q1233 : (Jvm.Cond.methodLink "WarByHours" (288 : Nat) ({ cls := "java/lang/Integer", name := "signum", desc := "(I)I" } : Jvm.MethodName)) ∈ lw_all := lw_g (lw_at lw_m5 140 rfl) rfl
theorem q1237 : (Jvm.Cond.instanceMethod ({ cls := "WarByHours", name := "worst", desc := "(I)I" } : Jvm.MethodName)) ∈ lw_all := lw_g (lw_at lw_m5 144 rfl) rfl
theorem q1238 : (Jvm.Cond.selects "WarByHours" ({ cls := "WarByHours", name := "worst", desc := "(I)I" } : Jvm.MethodName) ({ cls := "WarByHours", name := "worst", desc := "(I)I" } : Jvm.MethodName)) ∈ lw_all := lw_g (lw_at lw_m5 145 rfl) rfl
theorem q1239 : (Jvm.Cond.code ({ cls := "WarByHours", name := "worst", desc := "(I)I" } : Jvm.MethodName) prog_1_method_37_code (2 : Nat) (Option.some Jvm.ClassFile.FieldType.int)) ∈ lw_all := lw_g (lw_at lw_m5 146 rfl) rfl
theorem q1240 : (Jvm.Cond.methodLink "WarByHours" (299 : Nat) ({ cls := "WarByHours", name := "laysWorst", desc := "(I)V" } : Jvm.MethodName)) ∈ lw_all := lw_g (lw_at lw_m5 147 rfl) rfl
theorem q1241 : (Jvm.Cond.privateMethod ({ cls := "WarByHours", name := "laysWorst", desc := "(I)V" } : Jvm.MethodName)) ∈ lw_tbl := lw_at lw_m5 148 rfl
theorem q1242 : (Jvm.Cond.instanceMethod ({ cls := "WarByHours", name := "laysWorst", desc := "(I)V" } : Jvm.MethodName)) ∈ lw_all := lw_g (lw_at lw_m5 149 rfl) rfl
theorem q1243 : (Jvm.Cond.code ({ cls := "WarByHours", name := "laysWorst", desc := "(I)V" } : Jvm.MethodName) prog_1_method_36_code (4 : Nat) (Option.none : Option Jvm.ClassFile.FieldType)) ∈ lw_all := lw_g (lw_at lw_m5 150 rfl) rfl
theorem q1244 : (Jvm.Cond.methodLink "WarByHours" (297 : Nat) ({ cls := "WarByHours", name := "size", desc := "(I)I" } : Jvm.MethodName)) ∈ lw_all := lw_g (lw_at lw_m5 151 rfl) rfl
theorem q1245 : (Jvm.Cond.static ({ cls := "WarByHours", name := "size", desc := "(I)I" } : Jvm.MethodName)) ∈ lw_all := lw_g (lw_at lw_m5 152 rfl) rfl
theorem q1246 : (Jvm.Cond.code ({ cls := "WarByHours", name := "size", desc := "(I)I" } : Jvm.MethodName) prog_1_method_3_code (1 : Nat) (Option.some Jvm.ClassFile.FieldType.int)) ∈ lw_all := lw_g (lw_at lw_m5 153 rfl) rfl
theorem q1247 : (Jvm.Cond.methodLink "WarByHours" (1 : Nat) ({ cls := "java/lang/Integer", name := "bitCount", desc := "(I)I" } : Jvm.MethodName)) ∈ lw_all := lw_g (lw_at lw_m5 154 rfl) rfl
theorem q1254 : (Jvm.Cond.instanceMethod ({ cls := "WarByHours", name := "by", desc := "(I)I" } : Jvm.MethodName)) ∈ lw_all := lw_g (lw_at lw_m5 161 rfl) rfl
theorem q1255 : (Jvm.Cond.selects "WarByHours" ({ cls := "WarByHours", name := "by", desc := "(I)I" } : Jvm.MethodName) ({ cls := "WarByHours", name := "by", desc := "(I)I" } : Jvm.MethodName)) ∈ lw_all := lw_g (lw_at lw_m5 162 rfl) rfl
theorem q1256 : (Jvm.Cond.code ({ cls := "WarByHours", name := "by", desc := "(I)I" } : Jvm.MethodName) prog_1_method_38_code (2 : Nat) (Option.some Jvm.ClassFile.FieldType.int)) ∈ lw_all := lw_g (lw_at lw_m5 163 rfl) rfl
theorem q1258 : (Jvm.Cond.instanceMethod ({ cls := "WarByHours", name := "ways", desc := "(I)I" } : Jvm.MethodName)) ∈ lw_all := lw_g (lw_at lw_m5 165 rfl) rfl
theorem q1259 : (Jvm.Cond.selects "WarByHours" ({ cls := "WarByHours", name := "ways", desc := "(I)I" } : Jvm.MethodName) ({ cls := "WarByHours", name := "ways", desc := "(I)I" } : Jvm.MethodName)) ∈ lw_all := lw_g (lw_at lw_m5 166 rfl) rfl
theorem q1260 : (Jvm.Cond.code ({ cls := "WarByHours", name := "ways", desc := "(I)I" } : Jvm.MethodName) prog_1_method_39_code (4 : Nat) (Option.some Jvm.ClassFile.FieldType.int)) ∈ lw_all := lw_g (lw_at lw_m5 167 rfl) rfl
theorem q1262 : (Jvm.Cond.instanceMethod ({ cls := "WarByHours", name := "idle", desc := "()I" } : Jvm.MethodName)) ∈ lw_all := lw_g (lw_at lw_m5 169 rfl) rfl
theorem q1263 : (Jvm.Cond.selects "WarByHours" ({ cls := "WarByHours", name := "idle", desc := "()I" } : Jvm.MethodName) ({ cls := "WarByHours", name := "idle", desc := "()I" } : Jvm.MethodName)) ∈ lw_all := lw_g (lw_at lw_m5 170 rfl) rfl
theorem q1264 : (Jvm.Cond.code ({ cls := "WarByHours", name := "idle", desc := "()I" } : Jvm.MethodName) prog_1_method_40_code (5 : Nat) (Option.some Jvm.ClassFile.FieldType.int)) ∈ lw_all := lw_g (lw_at lw_m5 171 rfl) rfl
theorem q1266 : (Jvm.Cond.instanceMethod ({ cls := "WarByHours", name := "enough", desc := "(II)J" } : Jvm.MethodName)) ∈ lw_all := lw_g (lw_at lw_m5 173 rfl) rfl
theorem q1267 : (Jvm.Cond.selects "WarByHours" ({ cls := "WarByHours", name := "enough", desc := "(II)J" } : Jvm.MethodName) ({ cls := "WarByHours", name := "enough", desc := "(II)J" } : Jvm.MethodName)) ∈ lw_all := lw_g (lw_at lw_m5 174 rfl) rfl
theorem q1268 : (Jvm.Cond.code ({ cls := "WarByHours", name := "enough", desc := "(II)J" } : Jvm.MethodName) prog_1_method_47_code (4 : Nat) (Option.some Jvm.ClassFile.FieldType.long)) ∈ lw_all := lw_g (lw_at lw_m5 175 rfl) rfl
theorem q1269 : (Jvm.Cond.constantLong "WarByHours" (313 : Nat) (-2 : Int64)) ∈ lw_all := lw_g (lw_at lw_m5 176 rfl) rfl
theorem q1270 : (Jvm.Cond.methodLink "WarByHours" (315 : Nat) ({ cls := "WarByHours", name := "ofSide", desc := "(I)I" } : Jvm.MethodName)) ∈ lw_all := lw_g (lw_at lw_m5 177 rfl) rfl
theorem q1271 : (Jvm.Cond.privateMethod ({ cls := "WarByHours", name := "ofSide", desc := "(I)I" } : Jvm.MethodName)) ∈ lw_tbl := lw_at lw_m5 178 rfl
theorem q1272 : (Jvm.Cond.instanceMethod ({ cls := "WarByHours", name := "ofSide", desc := "(I)I" } : Jvm.MethodName)) ∈ lw_all := lw_g (lw_at lw_m5 179 rfl) rfl
theorem q1273 : (Jvm.Cond.code ({ cls := "WarByHours", name := "ofSide", desc := "(I)I" } : Jvm.MethodName) prog_1_method_45_code (4 : Nat) (Option.some Jvm.ClassFile.FieldType.int)) ∈ lw_all := lw_g (lw_at lw_m5 180 rfl) rfl
theorem q1274 : (Jvm.Cond.methodLink "WarByHours" (318 : Nat) ({ cls := "WarByHours", name := "enoughOf", desc := "(II)J" } : Jvm.MethodName)) ∈ lw_all := lw_g (lw_at lw_m5 181 rfl) rfl
theorem q1275 : (Jvm.Cond.privateMethod ({ cls := "WarByHours", name := "enoughOf", desc := "(II)J" } : Jvm.MethodName)) ∈ lw_tbl := lw_at lw_m5 182 rfl
theorem q1276 : (Jvm.Cond.instanceMethod ({ cls := "WarByHours", name := "enoughOf", desc := "(II)J" } : Jvm.MethodName)) ∈ lw_all := lw_g (lw_at lw_m5 183 rfl) rfl
theorem q1277 : (Jvm.Cond.code ({ cls := "WarByHours", name := "enoughOf", desc := "(II)J" } : Jvm.MethodName) prog_1_method_46_code (6 : Nat) (Option.some Jvm.ClassFile.FieldType.long)) ∈ lw_all := lw_g (lw_at lw_m5 184 rfl) rfl
theorem q1278 : (Jvm.Cond.methodLink "WarByHours" (309 : Nat) ({ cls := "WarByHours", name := "oftenOf", desc := "(II)J" } : Jvm.MethodName)) ∈ lw_all := lw_g (lw_at lw_m5 185 rfl) rfl
theorem q1279 : (Jvm.Cond.privateMethod ({ cls := "WarByHours", name := "oftenOf", desc := "(II)J" } : Jvm.MethodName)) ∈ lw_tbl := lw_at lw_m5 186 rfl
theorem q1280 : (Jvm.Cond.instanceMethod ({ cls := "WarByHours", name := "oftenOf", desc := "(II)J" } : Jvm.MethodName)) ∈ lw_all := lw_g (lw_at lw_m5 187 rfl) rfl
theorem q1281 : (Jvm.Cond.code ({ cls := "WarByHours", name := "oftenOf", desc := "(II)J" } : Jvm.MethodName) prog_1_method_44_code (6 : Nat) (Option.some Jvm.ClassFile.FieldType.long)) ∈ lw_all := lw_g (lw_at lw_m5 188 rfl) rfl
theorem q1282 : (Jvm.Cond.methodLink "WarByHours" (321 : Nat) ({ cls := "WarByHours", name := "power", desc := "(I)J" } : Jvm.MethodName)) ∈ lw_all := lw_g (lw_at lw_m5 189 rfl) rfl
theorem q1283 : (Jvm.Cond.static ({ cls := "WarByHours", name := "power", desc := "(I)J" } : Jvm.MethodName)) ∈ lw_all := lw_g (lw_at lw_m5 190 rfl) rfl
theorem q1284 : (Jvm.Cond.code ({ cls := "WarByHours", name := "power", desc := "(I)J" } : Jvm.MethodName) prog_1_method_43_code (4 : Nat) (Option.some Jvm.ClassFile.FieldType.long)) ∈ lw_all := lw_g (lw_at lw_m5 191 rfl) rfl
theorem q1285 : (Jvm.Cond.constantLong "WarByHours" (307 : Nat) (100 : Int64)) ∈ lw_all := lw_g (lw_at lw_m5 192 rfl) rfl
theorem q1286 : (Jvm.Cond.methodLink "WarByHours" (325 : Nat) ({ cls := "WarByHours", name := "part", desc := "(JJI)J" } : Jvm.MethodName)) ∈ lw_all := lw_g (lw_at lw_m5 193 rfl) rfl
theorem q1287 : (Jvm.Cond.static ({ cls := "WarByHours", name := "part", desc := "(JJI)J" } : Jvm.MethodName)) ∈ lw_all := lw_g (lw_at lw_m5 194 rfl) rfl
theorem q1288 : (Jvm.Cond.code ({ cls := "WarByHours", name := "part", desc := "(JJI)J" } : Jvm.MethodName) prog_1_method_42_code (5 : Nat) (Option.some Jvm.ClassFile.FieldType.long)) ∈ lw_all := lw_g (lw_at lw_m5 195 rfl) rfl
theorem q1289 : (Jvm.Cond.methodLink "WarByHours" (303 : Nat) ({ cls := "WarByHours", name := "common", desc := "(JJ)J" } : Jvm.MethodName)) ∈ lw_all := lw_g (lw_at lw_m5 196 rfl) rfl
theorem q1290 : (Jvm.Cond.static ({ cls := "WarByHours", name := "common", desc := "(JJ)J" } : Jvm.MethodName)) ∈ lw_all := lw_g (lw_at lw_m5 197 rfl) rfl
theorem q1291 : (Jvm.Cond.code ({ cls := "WarByHours", name := "common", desc := "(JJ)J" } : Jvm.MethodName) prog_1_method_41_code (4 : Nat) (Option.some Jvm.ClassFile.FieldType.long)) ∈ lw_all := lw_g (lw_at lw_m5 198 rfl) rfl
theorem q1293 : (Jvm.Cond.instanceMethod ({ cls := "WarByHours", name := "chance", desc := "(II)J" } : Jvm.MethodName)) ∈ lw_all := lw_g (lw_at lw_m5 200 rfl) rfl
theorem q1294 : (Jvm.Cond.selects "WarByHours" ({ cls := "WarByHours", name := "chance", desc := "(II)J" } : Jvm.MethodName) ({ cls := "WarByHours", name := "chance", desc := "(II)J" } : Jvm.MethodName)) ∈ lw_all := lw_g (lw_at lw_m5 201 rfl) rfl
theorem q1295 : (Jvm.Cond.code ({ cls := "WarByHours", name := "chance", desc := "(II)J" } : Jvm.MethodName) prog_1_method_48_code (6 : Nat) (Option.some Jvm.ClassFile.FieldType.long)) ∈ lw_all := lw_g (lw_at lw_m5 202 rfl) rfl
theorem q1297 : (Jvm.Cond.instanceMethod ({ cls := "WarByHours", name := "send", desc := "(I)I" } : Jvm.MethodName)) ∈ lw_all := lw_g (lw_at lw_m5 204 rfl) rfl
theorem q1298 : (Jvm.Cond.selects "WarByHours" ({ cls := "WarByHours", name := "send", desc := "(I)I" } : Jvm.MethodName) ({ cls := "WarByHours", name := "send", desc := "(I)I" } : Jvm.MethodName)) ∈ lw_all := lw_g (lw_at lw_m5 205 rfl) rfl
theorem q1299 : (Jvm.Cond.code ({ cls := "WarByHours", name := "send", desc := "(I)I" } : Jvm.MethodName) prog_1_method_50_code (2 : Nat) (Option.some Jvm.ClassFile.FieldType.int)) ∈ lw_all := lw_g (lw_at lw_m5 206 rfl) rfl
theorem q1300 : (Jvm.Cond.methodLink "WarByHours" (329 : Nat) ({ cls := "WarByHours$Send", name := "cost", desc := "(I)I" } : Jvm.MethodName)) ∈ lw_all := lw_g (lw_at lw_m5 207 rfl) rfl
theorem q1329 : (Jvm.Cond.privateMethod ({ cls := "WarByHours", name := "priceOf", desc := "(I)I" } : Jvm.MethodName)) ∈ lw_tbl := lw_at lw_m5 236 rfl
theorem q1330 : (Jvm.Cond.instanceMethod ({ cls := "WarByHours", name := "priceOf", desc := "(I)I" } : Jvm.MethodName)) ∈ lw_all := lw_g (lw_at lw_m5 237 rfl) rfl
theorem q1331 : (Jvm.Cond.code ({ cls := "WarByHours", name := "priceOf", desc := "(I)I" } : Jvm.MethodName) prog_1_method_49_code (4 : Nat) (Option.some Jvm.ClassFile.FieldType.int)) ∈ lw_all := lw_g (lw_at lw_m5 238 rfl) rfl
theorem q1353 : (Jvm.Cond.instanceMethod ({ cls := "WarByHours", name := "sent", desc := "(I)I" } : Jvm.MethodName)) ∈ lw_all := lw_g (lw_at lw_m6 20 rfl) rfl
theorem q1354 : (Jvm.Cond.selects "WarByHours" ({ cls := "WarByHours", name := "sent", desc := "(I)I" } : Jvm.MethodName) ({ cls := "WarByHours", name := "sent", desc := "(I)I" } : Jvm.MethodName)) ∈ lw_all := lw_g (lw_at lw_m6 21 rfl) rfl
theorem q1355 : (Jvm.Cond.code ({ cls := "WarByHours", name := "sent", desc := "(I)I" } : Jvm.MethodName) prog_1_method_51_code (2 : Nat) (Option.some Jvm.ClassFile.FieldType.int)) ∈ lw_all := lw_g (lw_at lw_m6 22 rfl) rfl
theorem q1356 : (Jvm.Cond.methodLink "WarByHours" (332 : Nat) ({ cls := "WarByHours$Send", name := "seeks", desc := "(I)I" } : Jvm.MethodName)) ∈ lw_all := lw_g (lw_at lw_m6 23 rfl) rfl
theorem q1362 : (Jvm.Cond.instanceMethod ({ cls := "WarByHours", name := "fewest", desc := "(I)I" } : Jvm.MethodName)) ∈ lw_all := lw_g (lw_at lw_m6 29 rfl) rfl
theorem q1363 : (Jvm.Cond.selects "WarByHours" ({ cls := "WarByHours", name := "fewest", desc := "(I)I" } : Jvm.MethodName) ({ cls := "WarByHours", name := "fewest", desc := "(I)I" } : Jvm.MethodName)) ∈ lw_all := lw_g (lw_at lw_m6 30 rfl) rfl
theorem q1364 : (Jvm.Cond.code ({ cls := "WarByHours", name := "fewest", desc := "(I)I" } : Jvm.MethodName) prog_1_method_52_code (2 : Nat) (Option.some Jvm.ClassFile.FieldType.int)) ∈ lw_all := lw_g (lw_at lw_m6 31 rfl) rfl
theorem q1365 : (Jvm.Cond.methodLink "WarByHours" (335 : Nat) ({ cls := "WarByHours$Fewest", name := "cost", desc := "(I)I" } : Jvm.MethodName)) ∈ lw_all := lw_g (lw_at lw_m6 32 rfl) rfl
theorem q1369 : (Jvm.Cond.instanceMethod ({ cls := "WarByHours", name := "risk", desc := "(II)I" } : Jvm.MethodName)) ∈ lw_all := lw_g (lw_at lw_m6 36 rfl) rfl
theorem q1370 : (Jvm.Cond.selects "WarByHours" ({ cls := "WarByHours", name := "risk", desc := "(II)I" } : Jvm.MethodName) ({ cls := "WarByHours", name := "risk", desc := "(II)I" } : Jvm.MethodName)) ∈ lw_all := lw_g (lw_at lw_m6 37 rfl) rfl
theorem q1371 : (Jvm.Cond.code ({ cls := "WarByHours", name := "risk", desc := "(II)I" } : Jvm.MethodName) prog_1_method_54_code (3 : Nat) (Option.some Jvm.ClassFile.FieldType.int)) ∈ lw_all := lw_g (lw_at lw_m6 38 rfl) rfl
theorem q1372 : (Jvm.Cond.methodLink "WarByHours" (336 : Nat) ({ cls := "WarByHours", name := "isRisk", desc := "(II)Z" } : Jvm.MethodName)) ∈ lw_all := lw_g (lw_at lw_m6 39 rfl) rfl
theorem q1373 : (Jvm.Cond.privateMethod ({ cls := "WarByHours", name := "isRisk", desc := "(II)Z" } : Jvm.MethodName)) ∈ lw_tbl := lw_at lw_m6 40 rfl
theorem q1374 : (Jvm.Cond.instanceMethod ({ cls := "WarByHours", name := "isRisk", desc := "(II)Z" } : Jvm.MethodName)) ∈ lw_all := lw_g (lw_at lw_m6 41 rfl) rfl
theorem q1375 : (Jvm.Cond.code ({ cls := "WarByHours", name := "isRisk", desc := "(II)Z" } : Jvm.MethodName) prog_1_method_53_code (3 : Nat) (Option.some Jvm.ClassFile.FieldType.boolean)) ∈ lw_all := lw_g (lw_at lw_m6 42 rfl) rfl
theorem q1376 : (Jvm.Cond.methodLink "WarByHours" (339 : Nat) ({ cls := "WarByHours$Risk", name := "of", desc := "(I)LWarByHours$Risk;" } : Jvm.MethodName)) ∈ lw_all := lw_g (lw_at lw_m6 43 rfl) rfl
theorem q1380 : (Jvm.Cond.methodLink "WarByHours" (343 : Nat) ({ cls := "WarByHours$Risk", name := "cost", desc := "(I)I" } : Jvm.MethodName)) ∈ lw_all := lw_g (lw_at lw_m6 47 rfl) rfl
theorem q1384 : (Jvm.Cond.instanceMethod ({ cls := "WarByHours", name := "risked", desc := "(II)I" } : Jvm.MethodName)) ∈ lw_all := lw_g (lw_at lw_m6 51 rfl) rfl
theorem q1385 : (Jvm.Cond.selects "WarByHours" ({ cls := "WarByHours", name := "risked", desc := "(II)I" } : Jvm.MethodName) ({ cls := "WarByHours", name := "risked", desc := "(II)I" } : Jvm.MethodName)) ∈ lw_all := lw_g (lw_at lw_m6 52 rfl) rfl
theorem q1386 : (Jvm.Cond.code ({ cls := "WarByHours", name := "risked", desc := "(II)I" } : Jvm.MethodName) prog_1_method_55_code (3 : Nat) (Option.some Jvm.ClassFile.FieldType.int)) ∈ lw_all := lw_g (lw_at lw_m6 53 rfl) rfl
theorem q1387 : (Jvm.Cond.methodLink "WarByHours" (344 : Nat) ({ cls := "WarByHours$Risk", name := "seeks", desc := "(I)I" } : Jvm.MethodName)) ∈ lw_all := lw_g (lw_at lw_m6 54 rfl) rfl
theorem q1391 : (Jvm.Cond.instanceMethod ({ cls := "WarByHours", name := "bribe", desc := "(I)I" } : Jvm.MethodName)) ∈ lw_all := lw_g (lw_at lw_m6 58 rfl) rfl
theorem q1392 : (Jvm.Cond.selects "WarByHours" ({ cls := "WarByHours", name := "bribe", desc := "(I)I" } : Jvm.MethodName) ({ cls := "WarByHours", name := "bribe", desc := "(I)I" } : Jvm.MethodName)) ∈ lw_all := lw_g (lw_at lw_m6 59 rfl) rfl
theorem q1393 : (Jvm.Cond.code ({ cls := "WarByHours", name := "bribe", desc := "(I)I" } : Jvm.MethodName) prog_1_method_56_code (2 : Nat) (Option.some Jvm.ClassFile.FieldType.int)) ∈ lw_all := lw_g (lw_at lw_m6 60 rfl) rfl
theorem q1394 : (Jvm.Cond.methodLink "WarByHours" (345 : Nat) ({ cls := "WarByHours$Bribe", name := "but", desc := "(I)LWarByHours$Bribe;" } : Jvm.MethodName)) ∈ lw_all := lw_g (lw_at lw_m6 61 rfl) rfl
theorem q1398 : (Jvm.Cond.methodLink "WarByHours" (349 : Nat) ({ cls := "WarByHours$Bribe", name := "cost", desc := "(I)I" } : Jvm.MethodName)) ∈ lw_all := lw_g (lw_at lw_m6 65 rfl) rfl
theorem q1402 : (Jvm.Cond.instanceMethod ({ cls := "WarByHours", name := "bribed", desc := "(I)I" } : Jvm.MethodName)) ∈ lw_all := lw_g (lw_at lw_m6 69 rfl) rfl
theorem q1403 : (Jvm.Cond.selects "WarByHours" ({ cls := "WarByHours", name := "bribed", desc := "(I)I" } : Jvm.MethodName) ({ cls := "WarByHours", name := "bribed", desc := "(I)I" } : Jvm.MethodName)) ∈ lw_all := lw_g (lw_at lw_m6 70 rfl) rfl
theorem q1404 : (Jvm.Cond.code ({ cls := "WarByHours", name := "bribed", desc := "(I)I" } : Jvm.MethodName) prog_1_method_57_code (2 : Nat) (Option.some Jvm.ClassFile.FieldType.int)) ∈ lw_all := lw_g (lw_at lw_m6 71 rfl) rfl
theorem q1405 : (Jvm.Cond.methodLink "WarByHours" (350 : Nat) ({ cls := "WarByHours$Bribe", name := "seeks", desc := "(I)I" } : Jvm.MethodName)) ∈ lw_all := lw_g (lw_at lw_m6 72 rfl) rfl
theorem q1409 : (Jvm.Cond.instanceMethod ({ cls := "WarByHours", name := "guard", desc := "(I)I" } : Jvm.MethodName)) ∈ lw_all := lw_g (lw_at lw_m6 76 rfl) rfl
theorem q1410 : (Jvm.Cond.selects "WarByHours" ({ cls := "WarByHours", name := "guard", desc := "(I)I" } : Jvm.MethodName) ({ cls := "WarByHours", name := "guard", desc := "(I)I" } : Jvm.MethodName)) ∈ lw_all := lw_g (lw_at lw_m6 77 rfl) rfl
theorem q1411 : (Jvm.Cond.code ({ cls := "WarByHours", name := "guard", desc := "(I)I" } : Jvm.MethodName) prog_1_method_60_code (2 : Nat) (Option.some Jvm.ClassFile.FieldType.int)) ∈ lw_all := lw_g (lw_at lw_m6 78 rfl) rfl
theorem q1412 : (Jvm.Cond.methodLink "WarByHours" (355 : Nat) ({ cls := "WarByHours", name := "guardOf", desc := "(I)I" } : Jvm.MethodName)) ∈ lw_all := lw_g (lw_at lw_m6 79 rfl) rfl
theorem q1413 : (Jvm.Cond.privateMethod ({ cls := "WarByHours", name := "guardOf", desc := "(I)I" } : Jvm.MethodName)) ∈ lw_tbl := lw_at lw_m6 80 rfl
theorem q1414 : (Jvm.Cond.instanceMethod ({ cls := "WarByHours", name := "guardOf", desc := "(I)I" } : Jvm.MethodName)) ∈ lw_all := lw_g (lw_at lw_m6 81 rfl) rfl
theorem q1415 : (Jvm.Cond.code ({ cls := "WarByHours", name := "guardOf", desc := "(I)I" } : Jvm.MethodName) prog_1_method_59_code (6 : Nat) (Option.some Jvm.ClassFile.FieldType.int)) ∈ lw_all := lw_g (lw_at lw_m6 82 rfl) rfl
theorem q1416 : (Jvm.Cond.methodLink "WarByHours" (352 : Nat) ({ cls := "WarByHours", name := "bribeBut", desc := "(II)I" } : Jvm.MethodName)) ∈ lw_all := lw_g (lw_at lw_m6 83 rfl) rfl
theorem q1417 : (Jvm.Cond.privateMethod ({ cls := "WarByHours", name := "bribeBut", desc := "(II)I" } : Jvm.MethodName)) ∈ lw_tbl := lw_at lw_m6 84 rfl
theorem q1418 : (Jvm.Cond.instanceMethod ({ cls := "WarByHours", name := "bribeBut", desc := "(II)I" } : Jvm.MethodName)) ∈ lw_all := lw_g (lw_at lw_m6 85 rfl) rfl
theorem q1419 : (Jvm.Cond.code ({ cls := "WarByHours", name := "bribeBut", desc := "(II)I" } : Jvm.MethodName) prog_1_method_58_code (4 : Nat) (Option.some Jvm.ClassFile.FieldType.int)) ∈ lw_all := lw_g (lw_at lw_m6 86 rfl) rfl
theorem q1420 : (Jvm.Cond.constant "WarByHours" (351 : Nat) (1000000 : Int32)) ∈ lw_all := lw_g (lw_at lw_m6 87 rfl) rfl
theorem q1422 : (Jvm.Cond.instanceMethod ({ cls := "WarByHours", name := "guarded", desc := "(I)I" } : Jvm.MethodName)) ∈ lw_all := lw_g (lw_at lw_m6 89 rfl) rfl
theorem q1423 : (Jvm.Cond.selects "WarByHours" ({ cls := "WarByHours", name := "guarded", desc := "(I)I" } : Jvm.MethodName) ({ cls := "WarByHours", name := "guarded", desc := "(I)I" } : Jvm.MethodName)) ∈ lw_all := lw_g (lw_at lw_m6 90 rfl) rfl
theorem q1424 : (Jvm.Cond.code ({ cls := "WarByHours", name := "guarded", desc := "(I)I" } : Jvm.MethodName) prog_1_method_61_code (2 : Nat) (Option.some Jvm.ClassFile.FieldType.int)) ∈ lw_all := lw_g (lw_at lw_m6 91 rfl) rfl
theorem q1426 : (Jvm.Cond.instanceMethod ({ cls := "WarByHours", name := "spoil", desc := "(II)I" } : Jvm.MethodName)) ∈ lw_all := lw_g (lw_at lw_m6 93 rfl) rfl
theorem q1427 : (Jvm.Cond.selects "WarByHours" ({ cls := "WarByHours", name := "spoil", desc := "(II)I" } : Jvm.MethodName) ({ cls := "WarByHours", name := "spoil", desc := "(II)I" } : Jvm.MethodName)) ∈ lw_all := lw_g (lw_at lw_m6 94 rfl) rfl
theorem q1428 : (Jvm.Cond.code ({ cls := "WarByHours", name := "spoil", desc := "(II)I" } : Jvm.MethodName) prog_1_method_64_code (3 : Nat) (Option.some Jvm.ClassFile.FieldType.int)) ∈ lw_all := lw_g (lw_at lw_m6 95 rfl) rfl
theorem q1429 : (Jvm.Cond.methodLink "WarByHours" (371 : Nat) ({ cls := "WarByHours", name := "isDuel", desc := "(II)Z" } : Jvm.MethodName)) ∈ lw_all := lw_g (lw_at lw_m6 96 rfl) rfl
theorem q1430 : (Jvm.Cond.privateMethod ({ cls := "WarByHours", name := "isDuel", desc := "(II)Z" } : Jvm.MethodName)) ∈ lw_tbl := lw_at lw_m6 97 rfl
theorem q1431 : (Jvm.Cond.instanceMethod ({ cls := "WarByHours", name := "isDuel", desc := "(II)Z" } : Jvm.MethodName)) ∈ lw_all := lw_g (lw_at lw_m6 98 rfl) rfl
theorem q1432 : (Jvm.Cond.code ({ cls := "WarByHours", name := "isDuel", desc := "(II)Z" } : Jvm.MethodName) prog_1_method_62_code (3 : Nat) (Option.some Jvm.ClassFile.FieldType.boolean)) ∈ lw_all := lw_g (lw_at lw_m6 99 rfl) rfl
theorem q1433 : (Jvm.Cond.constantLong "WarByHours" (358 : Nat) (999 : Int64)) ∈ lw_all := lw_g (lw_at lw_m6 100 rfl) rfl
theorem q1434 : (Jvm.Cond.methodLink "WarByHours" (374 : Nat) ({ cls := "WarByHours", name := "spoiltSet", desc := "(II)I" } : Jvm.MethodName)) ∈ lw_all := lw_g (lw_at lw_m6 101 rfl) rfl
theorem q1435 : (Jvm.Cond.privateMethod ({ cls := "WarByHours", name := "spoiltSet", desc := "(II)I" } : Jvm.MethodName)) ∈ lw_tbl := lw_at lw_m6 102 rfl
theorem q1436 : (Jvm.Cond.instanceMethod ({ cls := "WarByHours", name := "spoiltSet", desc := "(II)I" } : Jvm.MethodName)) ∈ lw_all := lw_g (lw_at lw_m6 103 rfl) rfl
theorem q1437 : (Jvm.Cond.code ({ cls := "WarByHours", name := "spoiltSet", desc := "(II)I" } : Jvm.MethodName) prog_1_method_63_code (5 : Nat) (Option.some Jvm.ClassFile.FieldType.int)) ∈ lw_all := lw_g (lw_at lw_m6 104 rfl) rfl
theorem q1438 : (Jvm.Cond.methodLink "WarByHours" (360 : Nat) ({ cls := "WarByHours$Duel", name := "lays", desc := "(I)LWarByHours$Duel;" } : Jvm.MethodName)) ∈ lw_all := lw_g (lw_at lw_m6 105 rfl) rfl
theorem q1447 : (Jvm.Cond.methodLink "WarByHours" (367 : Nat) ({ cls := "WarByHours$Duel", name := "of", desc := "(II)I" } : Jvm.MethodName)) ∈ lw_all := lw_g (lw_at lw_m6 114 rfl) rfl
theorem q1451 : (Jvm.Cond.methodLink "WarByHours" (369 : Nat) ({ cls := "WarByHours$Duel", name := "good", desc := "(III)I" } : Jvm.MethodName)) ∈ lw_all := lw_g (lw_at lw_m6 118 rfl) rfl
theorem q1456 : (Jvm.Cond.instanceMethod ({ cls := "WarByHours", name := "spoils", desc := "(II)I" } : Jvm.MethodName)) ∈ lw_all := lw_g (lw_at lw_m6 123 rfl) rfl
theorem q1457 : (Jvm.Cond.selects "WarByHours" ({ cls := "WarByHours", name := "spoils", desc := "(II)I" } : Jvm.MethodName) ({ cls := "WarByHours", name := "spoils", desc := "(II)I" } : Jvm.MethodName)) ∈ lw_all := lw_g (lw_at lw_m6 124 rfl) rfl
theorem q1458 : (Jvm.Cond.code ({ cls := "WarByHours", name := "spoils", desc := "(II)I" } : Jvm.MethodName) prog_1_method_65_code (3 : Nat) (Option.some Jvm.ClassFile.FieldType.int)) ∈ lw_all := lw_g (lw_at lw_m6 125 rfl) rfl
theorem q1460 : (Jvm.Cond.instanceMethod ({ cls := "WarByHours", name := "answer", desc := "(II)I" } : Jvm.MethodName)) ∈ lw_all := lw_g (lw_at lw_m6 127 rfl) rfl
theorem q1461 : (Jvm.Cond.selects "WarByHours" ({ cls := "WarByHours", name := "answer", desc := "(II)I" } : Jvm.MethodName) ({ cls := "WarByHours", name := "answer", desc := "(II)I" } : Jvm.MethodName)) ∈ lw_all := lw_g (lw_at lw_m6 128 rfl) rfl
theorem q1462 : (Jvm.Cond.code ({ cls := "WarByHours", name := "answer", desc := "(II)I" } : Jvm.MethodName) prog_1_method_66_code (5 : Nat) (Option.some Jvm.ClassFile.FieldType.int)) ∈ lw_all := lw_g (lw_at lw_m6 129 rfl) rfl
theorem q1463 : (Jvm.Cond.methodLink "WarByHours" (377 : Nat) ({ cls := "WarByHours$Duel", name := "best", desc := "(II)I" } : Jvm.MethodName)) ∈ lw_all := lw_g (lw_at lw_m6 130 rfl) rfl
theorem q1470 : (Jvm.Cond.methodLink "WarByHours" (380 : Nat) ({ cls := "java/lang/Math", name := "min", desc := "(II)I" } : Jvm.MethodName)) ∈ lw_all := lw_g (lw_at lw_m6 137 rfl) rfl
theorem q1472 : (Jvm.Cond.instanceMethod ({ cls := "WarByHours", name := "rests", desc := "(I)I" } : Jvm.MethodName)) ∈ lw_all := lw_g (lw_at lw_m6 139 rfl) rfl
theorem q1473 : (Jvm.Cond.selects "WarByHours" ({ cls := "WarByHours", name := "rests", desc := "(I)I" } : Jvm.MethodName) ({ cls := "WarByHours", name := "rests", desc := "(I)I" } : Jvm.MethodName)) ∈ lw_all := lw_g (lw_at lw_m6 140 rfl) rfl
theorem q1474 : (Jvm.Cond.code ({ cls := "WarByHours", name := "rests", desc := "(I)I" } : Jvm.MethodName) prog_1_method_67_code (2 : Nat) (Option.some Jvm.ClassFile.FieldType.int)) ∈ lw_all := lw_g (lw_at lw_m6 141 rfl) rfl
theorem q1475 : (Jvm.Cond.methodLink "WarByHours" (385 : Nat) ({ cls := "WarByHours$Duel", name := "rests", desc := "()I" } : Jvm.MethodName)) ∈ lw_all := lw_g (lw_at lw_m6 142 rfl) rfl
theorem q1484 : (Jvm.Cond.instanceMethod ({ cls := "WarByHours", name := "since", desc := "(II)I" } : Jvm.MethodName)) ∈ lw_all := lw_g (lw_at lw_m6 151 rfl) rfl
theorem q1485 : (Jvm.Cond.selects "WarByHours" ({ cls := "WarByHours", name := "since", desc := "(II)I" } : Jvm.MethodName) ({ cls := "WarByHours", name := "since", desc := "(II)I" } : Jvm.MethodName)) ∈ lw_all := lw_g (lw_at lw_m6 152 rfl) rfl
theorem q1486 : (Jvm.Cond.code ({ cls := "WarByHours", name := "since", desc := "(II)I" } : Jvm.MethodName) prog_1_method_68_code (4 : Nat) (Option.some Jvm.ClassFile.FieldType.int)) ∈ lw_all := lw_g (lw_at lw_m6 153 rfl) rfl
theorem q1488 : (Jvm.Cond.instanceMethod ({ cls := "WarByHours", name := "comes", desc := "(II)I" } : Jvm.MethodName)) ∈ lw_all := lw_g (lw_at lw_m6 155 rfl) rfl
theorem q1489 : (Jvm.Cond.selects "WarByHours" ({ cls := "WarByHours", name := "comes", desc := "(II)I" } : Jvm.MethodName) ({ cls := "WarByHours", name := "comes", desc := "(II)I" } : Jvm.MethodName)) ∈ lw_all := lw_g (lw_at lw_m6 156 rfl) rfl
theorem q1490 : (Jvm.Cond.code ({ cls := "WarByHours", name := "comes", desc := "(II)I" } : Jvm.MethodName) prog_1_method_69_code (5 : Nat) (Option.some Jvm.ClassFile.FieldType.int)) ∈ lw_all := lw_g (lw_at lw_m6 157 rfl) rfl
theorem q1492 : (Jvm.Cond.instanceMethod ({ cls := "WarByHours", name := "even", desc := "(I)J" } : Jvm.MethodName)) ∈ lw_all := lw_g (lw_at lw_m6 159 rfl) rfl
theorem q1493 : (Jvm.Cond.selects "WarByHours" ({ cls := "WarByHours", name := "even", desc := "(I)J" } : Jvm.MethodName) ({ cls := "WarByHours", name := "even", desc := "(I)J" } : Jvm.MethodName)) ∈ lw_all := lw_g (lw_at lw_m6 160 rfl) rfl
theorem q1494 : (Jvm.Cond.code ({ cls := "WarByHours", name := "even", desc := "(I)J" } : Jvm.MethodName) prog_1_method_70_code (5 : Nat) (Option.some Jvm.ClassFile.FieldType.long)) ∈ lw_all := lw_g (lw_at lw_m6 161 rfl) rfl
theorem q1496 : (Jvm.Cond.instanceMethod ({ cls := "WarByHours", name := "hold", desc := "(II)I" } : Jvm.MethodName)) ∈ lw_all := lw_g (lw_at lw_m6 163 rfl) rfl
theorem q1497 : (Jvm.Cond.selects "WarByHours" ({ cls := "WarByHours", name := "hold", desc := "(II)I" } : Jvm.MethodName) ({ cls := "WarByHours", name := "hold", desc := "(II)I" } : Jvm.MethodName)) ∈ lw_all := lw_g (lw_at lw_m6 164 rfl) rfl
theorem q1498 : (Jvm.Cond.code ({ cls := "WarByHours", name := "hold", desc := "(II)I" } : Jvm.MethodName) prog_1_method_73_code (3 : Nat) (Option.some Jvm.ClassFile.FieldType.int)) ∈ lw_all := lw_g (lw_at lw_m6 165 rfl) rfl
theorem q1499 : (Jvm.Cond.methodLink "WarByHours" (393 : Nat) ({ cls := "WarByHours", name := "areHands", desc := "(II)Z" } : Jvm.MethodName)) ∈ lw_all := lw_g (lw_at lw_m6 166 rfl) rfl
theorem q1500 : (Jvm.Cond.static ({ cls := "WarByHours", name := "areHands", desc := "(II)Z" } : Jvm.MethodName)) ∈ lw_all := lw_g (lw_at lw_m6 167 rfl) rfl
theorem q1501 : (Jvm.Cond.code ({ cls := "WarByHours", name := "areHands", desc := "(II)Z" } : Jvm.MethodName) prog_1_method_72_code (2 : Nat) (Option.some Jvm.ClassFile.FieldType.boolean)) ∈ lw_all := lw_g (lw_at lw_m6 168 rfl) rfl
theorem q1502 : (Jvm.Cond.constantLong "WarByHours" (391 : Nat) (9 : Int64)) ∈ lw_all := lw_g (lw_at lw_m6 169 rfl) rfl
theorem q1503 : (Jvm.Cond.methodLink "WarByHours" (396 : Nat) ({ cls := "WarByHours$Hold", name := "goes", desc := "(II)LWarByHours$Hold;" } : Jvm.MethodName)) ∈ lw_all := lw_g (lw_at lw_m6 170 rfl) rfl
theorem q1514 : (Jvm.Cond.static ({ cls := "WarByHours", name := "valueOf", desc := "(IIIIII)I" } : Jvm.MethodName)) ∈ lw_all := lw_g (lw_at lw_m6 181 rfl) rfl
theorem q1515 : (Jvm.Cond.code ({ cls := "WarByHours", name := "valueOf", desc := "(IIIIII)I" } : Jvm.MethodName) prog_1_method_71_code (6 : Nat) (Option.some Jvm.ClassFile.FieldType.int)) ∈ lw_all := lw_g (lw_at lw_m6 182 rfl) rfl
theorem q1516 : (Jvm.Cond.methodLink "WarByHours" (388 : Nat) ({ cls := "java/lang/Integer", name := "compare", desc := "(II)I" } : Jvm.MethodName)) ∈ lw_all := lw_g (lw_at lw_m6 183 rfl) rfl
theorem q1522 : (Jvm.Cond.instanceMethod ({ cls := "WarByHours", name := "holds", desc := "(III)I" } : Jvm.MethodName)) ∈ lw_all := lw_g (lw_at lw_m6 189 rfl) rfl
theorem q1523 : (Jvm.Cond.selects "WarByHours" ({ cls := "WarByHours", name := "holds", desc := "(III)I" } : Jvm.MethodName) ({ cls := "WarByHours", name := "holds", desc := "(III)I" } : Jvm.MethodName)) ∈ lw_all := lw_g (lw_at lw_m6 190 rfl) rfl
theorem q1524 : (Jvm.Cond.code ({ cls := "WarByHours", name := "holds", desc := "(III)I" } : Jvm.MethodName) prog_1_method_74_code (4 : Nat) (Option.some Jvm.ClassFile.FieldType.int)) ∈ lw_all := lw_g (lw_at lw_m6 191 rfl) rfl
theorem q1525 : (Jvm.Cond.constantLong "WarByHours" (402 : Nat) (2 : Int64)) ∈ lw_all := lw_g (lw_at lw_m6 192 rfl) rfl
theorem q1527 : (Jvm.Cond.instanceMethod ({ cls := "WarByHours", name := "reply", desc := "(III)I" } : Jvm.MethodName)) ∈ lw_all := lw_g (lw_at lw_m6 194 rfl) rfl
theorem q1528 : (Jvm.Cond.selects "WarByHours" ({ cls := "WarByHours", name := "reply", desc := "(III)I" } : Jvm.MethodName) ({ cls := "WarByHours", name := "reply", desc := "(III)I" } : Jvm.MethodName)) ∈ lw_all := lw_g (lw_at lw_m6 195 rfl) rfl
theorem q1529 : (Jvm.Cond.code ({ cls := "WarByHours", name := "reply", desc := "(III)I" } : Jvm.MethodName) prog_1_method_75_code (4 : Nat) (Option.some Jvm.ClassFile.FieldType.int)) ∈ lw_all := lw_g (lw_at lw_m6 196 rfl) rfl
theorem q1531 : (Jvm.Cond.instanceMethod ({ cls := "WarByHours", name := "readings", desc := "(I)I" } : Jvm.MethodName)) ∈ lw_all := lw_g (lw_at lw_m6 198 rfl) rfl
theorem q1532 : (Jvm.Cond.selects "WarByHours" ({ cls := "WarByHours", name := "readings", desc := "(I)I" } : Jvm.MethodName) ({ cls := "WarByHours", name := "readings", desc := "(I)I" } : Jvm.MethodName)) ∈ lw_all := lw_g (lw_at lw_m6 199 rfl) rfl
theorem q1533 : (Jvm.Cond.code ({ cls := "WarByHours", name := "readings", desc := "(I)I" } : Jvm.MethodName) prog_1_method_80_code (2 : Nat) (Option.some Jvm.ClassFile.FieldType.int)) ∈ lw_all := lw_g (lw_at lw_m6 200 rfl) rfl
theorem q1534 : (Jvm.Cond.methodLink "WarByHours" (421 : Nat) ({ cls := "WarByHours", name := "isMinute", desc := "(I)Z" } : Jvm.MethodName)) ∈ lw_all := lw_g (lw_at lw_m6 201 rfl) rfl
theorem q1535 : (Jvm.Cond.privateMethod ({ cls := "WarByHours", name := "isMinute", desc := "(I)Z" } : Jvm.MethodName)) ∈ lw_tbl := lw_at lw_m6 202 rfl
theorem q1536 : (Jvm.Cond.instanceMethod ({ cls := "WarByHours", name := "isMinute", desc := "(I)Z" } : Jvm.MethodName)) ∈ lw_all := lw_g (lw_at lw_m6 203 rfl) rfl
theorem q1537 : (Jvm.Cond.code ({ cls := "WarByHours", name := "isMinute", desc := "(I)Z" } : Jvm.MethodName) prog_1_method_79_code (2 : Nat) (Option.some Jvm.ClassFile.FieldType.boolean)) ∈ lw_all := lw_g (lw_at lw_m6 204 rfl) rfl
theorem q1538 : (Jvm.Cond.constantLong "WarByHours" (419 : Nat) (59 : Int64)) ∈ lw_all := lw_g (lw_at lw_m6 205 rfl) rfl
theorem q1539 : (Jvm.Cond.methodLink "WarByHours" (424 : Nat) ({ cls := "WarByHours", name := "readingsOf", desc := "(I)I" } : Jvm.MethodName)) ∈ lw_all := lw_g (lw_at lw_m6 206 rfl) rfl
theorem q1540 : (Jvm.Cond.privateMethod ({ cls := "WarByHours", name := "readingsOf", desc := "(I)I" } : Jvm.MethodName)) ∈ lw_tbl := lw_at lw_m6 207 rfl
theorem q1541 : (Jvm.Cond.instanceMethod ({ cls := "WarByHours", name := "readingsOf", desc := "(I)I" } : Jvm.MethodName)) ∈ lw_all := lw_g (lw_at lw_m6 208 rfl) rfl
theorem q1542 : (Jvm.Cond.code ({ cls := "WarByHours", name := "readingsOf", desc := "(I)I" } : Jvm.MethodName) prog_1_method_78_code (4 : Nat) (Option.some Jvm.ClassFile.FieldType.int)) ∈ lw_all := lw_g (lw_at lw_m6 209 rfl) rfl
theorem q1543 : (Jvm.Cond.methodLink "WarByHours" (410 : Nat) ({ cls := "WarByHours", name := "rules", desc := "()I" } : Jvm.MethodName)) ∈ lw_all := lw_g (lw_at lw_m6 210 rfl) rfl
theorem q1544 : (Jvm.Cond.privateMethod ({ cls := "WarByHours", name := "rules", desc := "()I" } : Jvm.MethodName)) ∈ lw_tbl := lw_at lw_m6 211 rfl
theorem q1545 : (Jvm.Cond.instanceMethod ({ cls := "WarByHours", name := "rules", desc := "()I" } : Jvm.MethodName)) ∈ lw_all := lw_g (lw_at lw_m6 212 rfl) rfl
theorem q1546 : (Jvm.Cond.code ({ cls := "WarByHours", name := "rules", desc := "()I" } : Jvm.MethodName) prog_1_method_76_code (1 : Nat) (Option.some Jvm.ClassFile.FieldType.int)) ∈ lw_all := lw_g (lw_at lw_m6 213 rfl) rfl
theorem q1547 : (Jvm.Cond.methodLink "WarByHours" (416 : Nat) ({ cls := "WarByHours", name := "stands", desc := "(II)Z" } : Jvm.MethodName)) ∈ lw_all := lw_g (lw_at lw_m6 214 rfl) rfl
theorem q1548 : (Jvm.Cond.privateMethod ({ cls := "WarByHours", name := "stands", desc := "(II)Z" } : Jvm.MethodName)) ∈ lw_tbl := lw_at lw_m6 215 rfl
theorem q1549 : (Jvm.Cond.instanceMethod ({ cls := "WarByHours", name := "stands", desc := "(II)Z" } : Jvm.MethodName)) ∈ lw_all := lw_g (lw_at lw_m6 216 rfl) rfl
theorem q1550 : (Jvm.Cond.code ({ cls := "WarByHours", name := "stands", desc := "(II)Z" } : Jvm.MethodName) prog_1_method_77_code (4 : Nat) (Option.some Jvm.ClassFile.FieldType.boolean)) ∈ lw_all := lw_g (lw_at lw_m6 217 rfl) rfl
theorem q1551 : (Jvm.Cond.methodLink "WarByHours" (412 : Nat) ({ cls := "WarByHours$Span", name := "forbids", desc := "(IZZ)Z" } : Jvm.MethodName)) ∈ lw_all := lw_g (lw_at lw_m6 218 rfl) rfl
theorem q1556 : (Jvm.Cond.instanceMethod ({ cls := "WarByHours", name := "loopholes", desc := "()J" } : Jvm.MethodName)) ∈ lw_all := lw_g (lw_at lw_m6 223 rfl) rfl
theorem q1557 : (Jvm.Cond.selects "WarByHours" ({ cls := "WarByHours", name := "loopholes", desc := "()J" } : Jvm.MethodName) ({ cls := "WarByHours", name := "loopholes", desc := "()J" } : Jvm.MethodName)) ∈ lw_all := lw_g (lw_at lw_m6 224 rfl) rfl
theorem q1558 : (Jvm.Cond.code ({ cls := "WarByHours", name := "loopholes", desc := "()J" } : Jvm.MethodName) prog_1_method_81_code (4 : Nat) (Option.some Jvm.ClassFile.FieldType.long)) ∈ lw_all := lw_g (lw_at lw_m6 225 rfl) rfl
theorem q1560 : (Jvm.Cond.instanceMethod ({ cls := "WarByHours", name := "close", desc := "(I)I" } : Jvm.MethodName)) ∈ lw_all := lw_g (lw_at lw_m6 227 rfl) rfl
theorem q1561 : (Jvm.Cond.selects "WarByHours" ({ cls := "WarByHours", name := "close", desc := "(I)I" } : Jvm.MethodName) ({ cls := "WarByHours", name := "close", desc := "(I)I" } : Jvm.MethodName)) ∈ lw_all := lw_g (lw_at lw_m6 228 rfl) rfl
theorem q1562 : (Jvm.Cond.code ({ cls := "WarByHours", name := "close", desc := "(I)I" } : Jvm.MethodName) prog_1_method_83_code (3 : Nat) (Option.some Jvm.ClassFile.FieldType.int)) ∈ lw_all := lw_g (lw_at lw_m6 229 rfl) rfl
theorem q1563 : (Jvm.Cond.methodLink "WarByHours" (427 : Nat) ({ cls := "WarByHours", name := "closedOf", desc := "(I)I" } : Jvm.MethodName)) ∈ lw_all := lw_g (lw_at lw_m6 230 rfl) rfl
theorem q1564 : (Jvm.Cond.privateMethod ({ cls := "WarByHours", name := "closedOf", desc := "(I)I" } : Jvm.MethodName)) ∈ lw_tbl := lw_at lw_m6 231 rfl
theorem q1565 : (Jvm.Cond.instanceMethod ({ cls := "WarByHours", name := "closedOf", desc := "(I)I" } : Jvm.MethodName)) ∈ lw_all := lw_g (lw_at lw_m6 232 rfl) rfl
theorem q1566 : (Jvm.Cond.code ({ cls := "WarByHours", name := "closedOf", desc := "(I)I" } : Jvm.MethodName) prog_1_method_82_code (4 : Nat) (Option.some Jvm.ClassFile.FieldType.int)) ∈ lw_all := lw_g (lw_at lw_m6 233 rfl) rfl
theorem q1568 : (Jvm.Cond.instanceMethod ({ cls := "WarByHours", name := "closed", desc := "(I)I" } : Jvm.MethodName)) ∈ lw_all := lw_g (lw_at lw_m6 235 rfl) rfl
theorem q1569 : (Jvm.Cond.selects "WarByHours" ({ cls := "WarByHours", name := "closed", desc := "(I)I" } : Jvm.MethodName) ({ cls := "WarByHours", name := "closed", desc := "(I)I" } : Jvm.MethodName)) ∈ lw_all := lw_g (lw_at lw_m6 236 rfl) rfl
theorem q1570 : (Jvm.Cond.code ({ cls := "WarByHours", name := "closed", desc := "(I)I" } : Jvm.MethodName) prog_1_method_84_code (2 : Nat) (Option.some Jvm.ClassFile.FieldType.int)) ∈ lw_all := lw_g (lw_at lw_m6 237 rfl) rfl
theorem q1572 : (Jvm.Cond.instanceMethod ({ cls := "WarByHours", name := "signs", desc := "()I" } : Jvm.MethodName)) ∈ lw_all := lw_g (lw_at lw_m6 239 rfl) rfl
theorem q1573 : (Jvm.Cond.selects "WarByHours" ({ cls := "WarByHours", name := "signs", desc := "()I" } : Jvm.MethodName) ({ cls := "WarByHours", name := "signs", desc := "()I" } : Jvm.MethodName)) ∈ lw_all := lw_g (lw_at lw_m7 0 rfl) rfl
theorem q1574 : (Jvm.Cond.code ({ cls := "WarByHours", name := "signs", desc := "()I" } : Jvm.MethodName) prog_1_method_85_code (2 : Nat) (Option.some Jvm.ClassFile.FieldType.int)) ∈ lw_all := lw_g (lw_at lw_m7 1 rfl) rfl
theorem q1576 : (Jvm.Cond.instanceMethod ({ cls := "WarByHours", name := "treaties", desc := "(I)J" } : Jvm.MethodName)) ∈ lw_all := lw_g (lw_at lw_m7 3 rfl) rfl
theorem q1577 : (Jvm.Cond.selects "WarByHours" ({ cls := "WarByHours", name := "treaties", desc := "(I)J" } : Jvm.MethodName) ({ cls := "WarByHours", name := "treaties", desc := "(I)J" } : Jvm.MethodName)) ∈ lw_all := lw_g (lw_at lw_m7 4 rfl) rfl
theorem q1578 : (Jvm.Cond.code ({ cls := "WarByHours", name := "treaties", desc := "(I)J" } : Jvm.MethodName) prog_1_method_87_code (5 : Nat) (Option.some Jvm.ClassFile.FieldType.long)) ∈ lw_all := lw_g (lw_at lw_m7 5 rfl) rfl
theorem q1579 : (Jvm.Cond.methodLink "WarByHours" (436 : Nat) ({ cls := "WarByHours", name := "peaceFor", desc := "(I)I" } : Jvm.MethodName)) ∈ lw_all := lw_g (lw_at lw_m7 6 rfl) rfl
theorem q1580 : (Jvm.Cond.privateMethod ({ cls := "WarByHours", name := "peaceFor", desc := "(I)I" } : Jvm.MethodName)) ∈ lw_tbl := lw_at lw_m7 7 rfl
theorem q1581 : (Jvm.Cond.instanceMethod ({ cls := "WarByHours", name := "peaceFor", desc := "(I)I" } : Jvm.MethodName)) ∈ lw_all := lw_g (lw_at lw_m7 8 rfl) rfl
theorem q1582 : (Jvm.Cond.code ({ cls := "WarByHours", name := "peaceFor", desc := "(I)I" } : Jvm.MethodName) prog_1_method_86_code (4 : Nat) (Option.some Jvm.ClassFile.FieldType.int)) ∈ lw_all := lw_g (lw_at lw_m7 9 rfl) rfl
theorem q1583 : (Jvm.Cond.methodLink "WarByHours" (430 : Nat) ({ cls := "java/lang/Math", name := "abs", desc := "(I)I" } : Jvm.MethodName)) ∈ lw_all := lw_g (lw_at lw_m7 10 rfl) rfl
theorem q1586 : (Jvm.Cond.methodLink "WarByHours" (433 : Nat) ({ cls := "java/lang/Math", name := "max", desc := "(II)I" } : Jvm.MethodName)) ∈ lw_all := lw_g (lw_at lw_m7 13 rfl) rfl
theorem q1588 : (Jvm.Cond.instanceMethod ({ cls := "WarByHours", name := "price", desc := "(II)I" } : Jvm.MethodName)) ∈ lw_all := lw_g (lw_at lw_m7 15 rfl) rfl
theorem q1589 : (Jvm.Cond.selects "WarByHours" ({ cls := "WarByHours", name := "price", desc := "(II)I" } : Jvm.MethodName) ({ cls := "WarByHours", name := "price", desc := "(II)I" } : Jvm.MethodName)) ∈ lw_all := lw_g (lw_at lw_m7 16 rfl) rfl
theorem q1590 : (Jvm.Cond.code ({ cls := "WarByHours", name := "price", desc := "(II)I" } : Jvm.MethodName) prog_1_method_88_code (3 : Nat) (Option.some Jvm.ClassFile.FieldType.int)) ∈ lw_all := lw_g (lw_at lw_m7 17 rfl) rfl
theorem q1592 : (Jvm.Cond.instanceMethod ({ cls := "WarByHours", name := "spies", desc := "(I)I" } : Jvm.MethodName)) ∈ lw_all := lw_g (lw_at lw_m7 19 rfl) rfl
theorem q1593 : (Jvm.Cond.selects "WarByHours" ({ cls := "WarByHours", name := "spies", desc := "(I)I" } : Jvm.MethodName) ({ cls := "WarByHours", name := "spies", desc := "(I)I" } : Jvm.MethodName)) ∈ lw_all := lw_g (lw_at lw_m7 20 rfl) rfl
theorem q1594 : (Jvm.Cond.code ({ cls := "WarByHours", name := "spies", desc := "(I)I" } : Jvm.MethodName) prog_1_method_90_code (2 : Nat) (Option.some Jvm.ClassFile.FieldType.int)) ∈ lw_all := lw_g (lw_at lw_m7 21 rfl) rfl
theorem q1595 : (Jvm.Cond.methodLink "WarByHours" (442 : Nat) ({ cls := "WarByHours", name := "spiesOf", desc := "(I)I" } : Jvm.MethodName)) ∈ lw_all := lw_g (lw_at lw_m7 22 rfl) rfl
theorem q1596 : (Jvm.Cond.privateMethod ({ cls := "WarByHours", name := "spiesOf", desc := "(I)I" } : Jvm.MethodName)) ∈ lw_tbl := lw_at lw_m7 23 rfl
theorem q1597 : (Jvm.Cond.instanceMethod ({ cls := "WarByHours", name := "spiesOf", desc := "(I)I" } : Jvm.MethodName)) ∈ lw_all := lw_g (lw_at lw_m7 24 rfl) rfl
theorem q1598 : (Jvm.Cond.code ({ cls := "WarByHours", name := "spiesOf", desc := "(I)I" } : Jvm.MethodName) prog_1_method_89_code (4 : Nat) (Option.some Jvm.ClassFile.FieldType.int)) ∈ lw_all := lw_g (lw_at lw_m7 25 rfl) rfl
theorem q1600 : (Jvm.Cond.instanceMethod ({ cls := "WarByHours", name := "watch", desc := "(I)I" } : Jvm.MethodName)) ∈ lw_all := lw_g (lw_at lw_m7 27 rfl) rfl
theorem q1601 : (Jvm.Cond.selects "WarByHours" ({ cls := "WarByHours", name := "watch", desc := "(I)I" } : Jvm.MethodName) ({ cls := "WarByHours", name := "watch", desc := "(I)I" } : Jvm.MethodName)) ∈ lw_all := lw_g (lw_at lw_m7 28 rfl) rfl
theorem q1602 : (Jvm.Cond.code ({ cls := "WarByHours", name := "watch", desc := "(I)I" } : Jvm.MethodName) prog_1_method_92_code (2 : Nat) (Option.some Jvm.ClassFile.FieldType.int)) ∈ lw_all := lw_g (lw_at lw_m7 29 rfl) rfl
theorem q1603 : (Jvm.Cond.methodLink "WarByHours" (451 : Nat) ({ cls := "WarByHours", name := "watches", desc := "(I)V" } : Jvm.MethodName)) ∈ lw_all := lw_g (lw_at lw_m7 30 rfl) rfl
theorem q1604 : (Jvm.Cond.privateMethod ({ cls := "WarByHours", name := "watches", desc := "(I)V" } : Jvm.MethodName)) ∈ lw_tbl := lw_at lw_m7 31 rfl
theorem q1605 : (Jvm.Cond.instanceMethod ({ cls := "WarByHours", name := "watches", desc := "(I)V" } : Jvm.MethodName)) ∈ lw_all := lw_g (lw_at lw_m7 32 rfl) rfl
theorem q1606 : (Jvm.Cond.code ({ cls := "WarByHours", name := "watches", desc := "(I)V" } : Jvm.MethodName) prog_1_method_91_code (6 : Nat) (Option.none : Option Jvm.ClassFile.FieldType)) ∈ lw_all := lw_g (lw_at lw_m7 33 rfl) rfl
theorem q1608 : (Jvm.Cond.instanceMethod ({ cls := "WarByHours", name := "leaves", desc := "(I)I" } : Jvm.MethodName)) ∈ lw_all := lw_g (lw_at lw_m7 35 rfl) rfl
theorem q1609 : (Jvm.Cond.selects "WarByHours" ({ cls := "WarByHours", name := "leaves", desc := "(I)I" } : Jvm.MethodName) ({ cls := "WarByHours", name := "leaves", desc := "(I)I" } : Jvm.MethodName)) ∈ lw_all := lw_g (lw_at lw_m7 36 rfl) rfl
theorem q1610 : (Jvm.Cond.code ({ cls := "WarByHours", name := "leaves", desc := "(I)I" } : Jvm.MethodName) prog_1_method_93_code (2 : Nat) (Option.some Jvm.ClassFile.FieldType.int)) ∈ lw_all := lw_g (lw_at lw_m7 37 rfl) rfl
theorem q1612 : (Jvm.Cond.instanceMethod ({ cls := "WarByHours", name := "known", desc := "(II)I" } : Jvm.MethodName)) ∈ lw_all := lw_g (lw_at lw_m7 39 rfl) rfl
theorem q1613 : (Jvm.Cond.selects "WarByHours" ({ cls := "WarByHours", name := "known", desc := "(II)I" } : Jvm.MethodName) ({ cls := "WarByHours", name := "known", desc := "(II)I" } : Jvm.MethodName)) ∈ lw_all := lw_g (lw_at lw_m7 40 rfl) rfl
theorem q1614 : (Jvm.Cond.code ({ cls := "WarByHours", name := "known", desc := "(II)I" } : Jvm.MethodName) prog_1_method_94_code (7 : Nat) (Option.some Jvm.ClassFile.FieldType.int)) ∈ lw_all := lw_g (lw_at lw_m7 41 rfl) rfl
theorem q1616 : (Jvm.Cond.instanceMethod ({ cls := "WarByHours", name := "grant", desc := "()I" } : Jvm.MethodName)) ∈ lw_all := lw_g (lw_at lw_m7 43 rfl) rfl
theorem q1617 : (Jvm.Cond.selects "WarByHours" ({ cls := "WarByHours", name := "grant", desc := "()I" } : Jvm.MethodName) ({ cls := "WarByHours", name := "grant", desc := "()I" } : Jvm.MethodName)) ∈ lw_all := lw_g (lw_at lw_m7 44 rfl) rfl
theorem q1618 : (Jvm.Cond.code ({ cls := "WarByHours", name := "grant", desc := "()I" } : Jvm.MethodName) prog_1_method_99_code (1 : Nat) (Option.some Jvm.ClassFile.FieldType.int)) ∈ lw_all := lw_g (lw_at lw_m7 45 rfl) rfl
theorem q1619 : (Jvm.Cond.methodLink "WarByHours" (467 : Nat) ({ cls := "WarByHours", name := "grantedOf", desc := "(Z)I" } : Jvm.MethodName)) ∈ lw_all := lw_g (lw_at lw_m7 46 rfl) rfl
theorem q1620 : (Jvm.Cond.privateMethod ({ cls := "WarByHours", name := "grantedOf", desc := "(Z)I" } : Jvm.MethodName)) ∈ lw_tbl := lw_at lw_m7 47 rfl
theorem q1621 : (Jvm.Cond.instanceMethod ({ cls := "WarByHours", name := "grantedOf", desc := "(Z)I" } : Jvm.MethodName)) ∈ lw_all := lw_g (lw_at lw_m7 48 rfl) rfl
theorem q1622 : (Jvm.Cond.code ({ cls := "WarByHours", name := "grantedOf", desc := "(Z)I" } : Jvm.MethodName) prog_1_method_98_code (4 : Nat) (Option.some Jvm.ClassFile.FieldType.int)) ∈ lw_all := lw_g (lw_at lw_m7 49 rfl) rfl
theorem q1623 : (Jvm.Cond.methodLink "WarByHours" (458 : Nat) ({ cls := "WarByHours", name := "worthOf", desc := "(I)I" } : Jvm.MethodName)) ∈ lw_all := lw_g (lw_at lw_m7 50 rfl) rfl
theorem q1624 : (Jvm.Cond.privateMethod ({ cls := "WarByHours", name := "worthOf", desc := "(I)I" } : Jvm.MethodName)) ∈ lw_tbl := lw_at lw_m7 51 rfl
theorem q1625 : (Jvm.Cond.instanceMethod ({ cls := "WarByHours", name := "worthOf", desc := "(I)I" } : Jvm.MethodName)) ∈ lw_all := lw_g (lw_at lw_m7 52 rfl) rfl
theorem q1626 : (Jvm.Cond.code ({ cls := "WarByHours", name := "worthOf", desc := "(I)I" } : Jvm.MethodName) prog_1_method_95_code (4 : Nat) (Option.some Jvm.ClassFile.FieldType.int)) ∈ lw_all := lw_g (lw_at lw_m7 53 rfl) rfl
theorem q1627 : (Jvm.Cond.methodLink "WarByHours" (461 : Nat) ({ cls := "WarByHours", name := "areApart", desc := "(I)Z" } : Jvm.MethodName)) ∈ lw_all := lw_g (lw_at lw_m7 54 rfl) rfl
theorem q1628 : (Jvm.Cond.privateMethod ({ cls := "WarByHours", name := "areApart", desc := "(I)Z" } : Jvm.MethodName)) ∈ lw_tbl := lw_at lw_m7 55 rfl
theorem q1629 : (Jvm.Cond.instanceMethod ({ cls := "WarByHours", name := "areApart", desc := "(I)Z" } : Jvm.MethodName)) ∈ lw_all := lw_g (lw_at lw_m7 56 rfl) rfl
theorem q1630 : (Jvm.Cond.code ({ cls := "WarByHours", name := "areApart", desc := "(I)Z" } : Jvm.MethodName) prog_1_method_96_code (4 : Nat) (Option.some Jvm.ClassFile.FieldType.boolean)) ∈ lw_all := lw_g (lw_at lw_m7 57 rfl) rfl
theorem q1631 : (Jvm.Cond.methodLink "WarByHours" (454 : Nat) ({ cls := "WarByHours$Ask", name := "meets", desc := "(LWarByHours$Ask;)Z" } : Jvm.MethodName)) ∈ lw_all := lw_g (lw_at lw_m7 58 rfl) rfl
theorem q1635 : (Jvm.Cond.methodLink "WarByHours" (464 : Nat) ({ cls := "WarByHours", name := "areHalves", desc := "(I)Z" } : Jvm.MethodName)) ∈ lw_all := lw_g (lw_at lw_m7 62 rfl) rfl
theorem q1636 : (Jvm.Cond.privateMethod ({ cls := "WarByHours", name := "areHalves", desc := "(I)Z" } : Jvm.MethodName)) ∈ lw_tbl := lw_at lw_m7 63 rfl
theorem q1637 : (Jvm.Cond.instanceMethod ({ cls := "WarByHours", name := "areHalves", desc := "(I)Z" } : Jvm.MethodName)) ∈ lw_all := lw_g (lw_at lw_m7 64 rfl) rfl
theorem q1638 : (Jvm.Cond.code ({ cls := "WarByHours", name := "areHalves", desc := "(I)Z" } : Jvm.MethodName) prog_1_method_97_code (5 : Nat) (Option.some Jvm.ClassFile.FieldType.boolean)) ∈ lw_all := lw_g (lw_at lw_m7 65 rfl) rfl
theorem q1640 : (Jvm.Cond.instanceMethod ({ cls := "WarByHours", name := "granted", desc := "()I" } : Jvm.MethodName)) ∈ lw_all := lw_g (lw_at lw_m7 67 rfl) rfl
theorem q1641 : (Jvm.Cond.selects "WarByHours" ({ cls := "WarByHours", name := "granted", desc := "()I" } : Jvm.MethodName) ({ cls := "WarByHours", name := "granted", desc := "()I" } : Jvm.MethodName)) ∈ lw_all := lw_g (lw_at lw_m7 68 rfl) rfl
theorem q1642 : (Jvm.Cond.code ({ cls := "WarByHours", name := "granted", desc := "()I" } : Jvm.MethodName) prog_1_method_100_code (1 : Nat) (Option.some Jvm.ClassFile.FieldType.int)) ∈ lw_all := lw_g (lw_at lw_m7 69 rfl) rfl
theorem q1644 : (Jvm.Cond.instanceMethod ({ cls := "WarByHours", name := "halves", desc := "()I" } : Jvm.MethodName)) ∈ lw_all := lw_g (lw_at lw_m7 71 rfl) rfl
theorem q1645 : (Jvm.Cond.selects "WarByHours" ({ cls := "WarByHours", name := "halves", desc := "()I" } : Jvm.MethodName) ({ cls := "WarByHours", name := "halves", desc := "()I" } : Jvm.MethodName)) ∈ lw_all := lw_g (lw_at lw_m7 72 rfl) rfl
theorem q1646 : (Jvm.Cond.code ({ cls := "WarByHours", name := "halves", desc := "()I" } : Jvm.MethodName) prog_1_method_101_code (1 : Nat) (Option.some Jvm.ClassFile.FieldType.int)) ∈ lw_all := lw_g (lw_at lw_m7 73 rfl) rfl
theorem q1648 : (Jvm.Cond.instanceMethod ({ cls := "WarByHours", name := "halved", desc := "()I" } : Jvm.MethodName)) ∈ lw_all := lw_g (lw_at lw_m7 75 rfl) rfl
theorem q1649 : (Jvm.Cond.selects "WarByHours" ({ cls := "WarByHours", name := "halved", desc := "()I" } : Jvm.MethodName) ({ cls := "WarByHours", name := "halved", desc := "()I" } : Jvm.MethodName)) ∈ lw_all := lw_g (lw_at lw_m7 76 rfl) rfl
theorem q1650 : (Jvm.Cond.code ({ cls := "WarByHours", name := "halved", desc := "()I" } : Jvm.MethodName) prog_1_method_102_code (1 : Nat) (Option.some Jvm.ClassFile.FieldType.int)) ∈ lw_all := lw_g (lw_at lw_m7 77 rfl) rfl
theorem q1652 : (Jvm.Cond.instanceMethod ({ cls := "WarByHours", name := "dry", desc := "(III)J" } : Jvm.MethodName)) ∈ lw_all := lw_g (lw_at lw_m7 79 rfl) rfl
theorem q1653 : (Jvm.Cond.selects "WarByHours" ({ cls := "WarByHours", name := "dry", desc := "(III)J" } : Jvm.MethodName) ({ cls := "WarByHours", name := "dry", desc := "(III)J" } : Jvm.MethodName)) ∈ lw_all := lw_g (lw_at lw_m7 80 rfl) rfl
theorem q1654 : (Jvm.Cond.code ({ cls := "WarByHours", name := "dry", desc := "(III)J" } : Jvm.MethodName) prog_1_method_103_code (7 : Nat) (Option.some Jvm.ClassFile.FieldType.long)) ∈ lw_all := lw_g (lw_at lw_m7 81 rfl) rfl
theorem q1656 : (Jvm.Cond.instanceMethod ({ cls := "WarByHours", name := "insist", desc := "(I)I" } : Jvm.MethodName)) ∈ lw_all := lw_g (lw_at lw_m7 83 rfl) rfl
theorem q1657 : (Jvm.Cond.selects "WarByHours" ({ cls := "WarByHours", name := "insist", desc := "(I)I" } : Jvm.MethodName) ({ cls := "WarByHours", name := "insist", desc := "(I)I" } : Jvm.MethodName)) ∈ lw_all := lw_g (lw_at lw_m7 84 rfl) rfl
theorem q1658 : (Jvm.Cond.code ({ cls := "WarByHours", name := "insist", desc := "(I)I" } : Jvm.MethodName) prog_1_method_104_code (4 : Nat) (Option.some Jvm.ClassFile.FieldType.int)) ∈ lw_all := lw_g (lw_at lw_m7 85 rfl) rfl
theorem q1660 : (Jvm.Cond.instanceMethod ({ cls := "WarByHours", name := "tell", desc := "(III)I" } : Jvm.MethodName)) ∈ lw_all := lw_g (lw_at lw_m7 87 rfl) rfl
theorem q1661 : (Jvm.Cond.selects "WarByHours" ({ cls := "WarByHours", name := "tell", desc := "(III)I" } : Jvm.MethodName) ({ cls := "WarByHours", name := "tell", desc := "(III)I" } : Jvm.MethodName)) ∈ lw_all := lw_g (lw_at lw_m7 88 rfl) rfl
theorem q1662 : (Jvm.Cond.code ({ cls := "WarByHours", name := "tell", desc := "(III)I" } : Jvm.MethodName) prog_1_method_108_code (5 : Nat) (Option.some Jvm.ClassFile.FieldType.int)) ∈ lw_all := lw_g (lw_at lw_m7 89 rfl) rfl
theorem q1663 : (Jvm.Cond.methodLink "WarByHours" (485 : Nat) ({ cls := "WarByHours", name := "isFull", desc := "()Z" } : Jvm.MethodName)) ∈ lw_all := lw_g (lw_at lw_m7 90 rfl) rfl
theorem q1664 : (Jvm.Cond.privateMethod ({ cls := "WarByHours", name := "isFull", desc := "()Z" } : Jvm.MethodName)) ∈ lw_tbl := lw_at lw_m7 91 rfl
theorem q1665 : (Jvm.Cond.instanceMethod ({ cls := "WarByHours", name := "isFull", desc := "()Z" } : Jvm.MethodName)) ∈ lw_all := lw_g (lw_at lw_m7 92 rfl) rfl
theorem q1666 : (Jvm.Cond.code ({ cls := "WarByHours", name := "isFull", desc := "()Z" } : Jvm.MethodName) prog_1_method_106_code (1 : Nat) (Option.some Jvm.ClassFile.FieldType.boolean)) ∈ lw_all := lw_g (lw_at lw_m7 93 rfl) rfl
theorem q1667 : (Jvm.Cond.methodLink "WarByHours" (488 : Nat) ({ cls := "WarByHours", name := "lays", desc := "(III)V" } : Jvm.MethodName)) ∈ lw_all := lw_g (lw_at lw_m7 94 rfl) rfl
theorem q1668 : (Jvm.Cond.privateMethod ({ cls := "WarByHours", name := "lays", desc := "(III)V" } : Jvm.MethodName)) ∈ lw_tbl := lw_at lw_m7 95 rfl
theorem q1669 : (Jvm.Cond.instanceMethod ({ cls := "WarByHours", name := "lays", desc := "(III)V" } : Jvm.MethodName)) ∈ lw_all := lw_g (lw_at lw_m7 96 rfl) rfl
theorem q1670 : (Jvm.Cond.code ({ cls := "WarByHours", name := "lays", desc := "(III)V" } : Jvm.MethodName) prog_1_method_107_code (4 : Nat) (Option.none : Option Jvm.ClassFile.FieldType)) ∈ lw_all := lw_g (lw_at lw_m7 97 rfl) rfl
theorem q1671 : (Jvm.Cond.methodLink "WarByHours" (490 : Nat) ({ cls := "WarByHours", name := "changes", desc := "(III)I" } : Jvm.MethodName)) ∈ lw_all := lw_g (lw_at lw_m7 98 rfl) rfl
theorem q1672 : (Jvm.Cond.privateMethod ({ cls := "WarByHours", name := "changes", desc := "(III)I" } : Jvm.MethodName)) ∈ lw_tbl := lw_at lw_m7 99 rfl
theorem q1673 : (Jvm.Cond.instanceMethod ({ cls := "WarByHours", name := "changes", desc := "(III)I" } : Jvm.MethodName)) ∈ lw_all := lw_g (lw_at lw_m7 100 rfl) rfl
theorem q1674 : (Jvm.Cond.code ({ cls := "WarByHours", name := "changes", desc := "(III)I" } : Jvm.MethodName) prog_1_method_105_code (4 : Nat) (Option.some Jvm.ClassFile.FieldType.int)) ∈ lw_all := lw_g (lw_at lw_m7 101 rfl) rfl
theorem q1675 : (Jvm.Cond.classLink "WarByHours" (476 : Nat) "WarByHours$Change") ∈ lw_all := lw_g (lw_at lw_m7 102 rfl) rfl
theorem q1677 : (Jvm.Cond.methodLink "WarByHours" (478 : Nat) ({ cls := "WarByHours$Change", name := "<init>", desc := "(III)V" } : Jvm.MethodName)) ∈ lw_all := lw_g (lw_at lw_m7 104 rfl) rfl
theorem q1682 : (Jvm.Cond.fieldLinkNest "WarByHours" (495 : Nat) "WarByHours$Change" "what" "I" "WarByHours") ∈ lw_tbl := lw_at lw_m7 109 rfl
theorem q1684 : (Jvm.Cond.fieldLinkNest "WarByHours" (498 : Nat) "WarByHours$Change" "of" "I" "WarByHours") ∈ lw_tbl := lw_at lw_m7 111 rfl
theorem q1686 : (Jvm.Cond.fieldLinkNest "WarByHours" (500 : Nat) "WarByHours$Change" "was" "I" "WarByHours") ∈ lw_tbl := lw_at lw_m7 113 rfl
theorem q1694 : (Jvm.Cond.interfaceEntry "WarByHours" (481 : Nat)) ∈ lw_tbl := lw_at lw_m7 121 rfl
theorem q1695 : (Jvm.Cond.methodLink "WarByHours" (481 : Nat) ({ cls := "java/util/List", name := "add", desc := "(Ljava/lang/Object;)Z" } : Jvm.MethodName)) ∈ lw_all := lw_g (lw_at lw_m7 122 rfl) rfl
theorem q1697 : (Jvm.Cond.instanceMethod ({ cls := "WarByHours", name := "needs", desc := "(II)I" } : Jvm.MethodName)) ∈ lw_all := lw_g (lw_at lw_m7 124 rfl) rfl
theorem q1698 : (Jvm.Cond.selects "WarByHours" ({ cls := "WarByHours", name := "needs", desc := "(II)I" } : Jvm.MethodName) ({ cls := "WarByHours", name := "needs", desc := "(II)I" } : Jvm.MethodName)) ∈ lw_all := lw_g (lw_at lw_m7 125 rfl) rfl
theorem q1699 : (Jvm.Cond.code ({ cls := "WarByHours", name := "needs", desc := "(II)I" } : Jvm.MethodName) prog_1_method_109_code (4 : Nat) (Option.some Jvm.ClassFile.FieldType.int)) ∈ lw_all := lw_g (lw_at lw_m7 126 rfl) rfl
theorem q1701 : (Jvm.Cond.instanceMethod ({ cls := "WarByHours", name := "undo", desc := "()I" } : Jvm.MethodName)) ∈ lw_all := lw_g (lw_at lw_m7 128 rfl) rfl
theorem q1702 : (Jvm.Cond.selects "WarByHours" ({ cls := "WarByHours", name := "undo", desc := "()I" } : Jvm.MethodName) ({ cls := "WarByHours", name := "undo", desc := "()I" } : Jvm.MethodName)) ∈ lw_all := lw_g (lw_at lw_m7 129 rfl) rfl
theorem q1703 : (Jvm.Cond.code ({ cls := "WarByHours", name := "undo", desc := "()I" } : Jvm.MethodName) prog_1_method_110_code (3 : Nat) (Option.some Jvm.ClassFile.FieldType.int)) ∈ lw_all := lw_g (lw_at lw_m7 130 rfl) rfl
theorem q1704 : (Jvm.Cond.interfaceEntry "WarByHours" (492 : Nat)) ∈ lw_tbl := lw_at lw_m7 131 rfl
theorem q1705 : (Jvm.Cond.methodLink "WarByHours" (492 : Nat) ({ cls := "java/util/List", name := "remove", desc := "(I)Ljava/lang/Object;" } : Jvm.MethodName)) ∈ lw_all := lw_g (lw_at lw_m7 132 rfl) rfl
theorem q1719 : (Jvm.Cond.instanceMethod ({ cls := "WarByHours", name := "drawn", desc := "(II)I" } : Jvm.MethodName)) ∈ lw_all := lw_g (lw_at lw_m7 146 rfl) rfl
theorem q1720 : (Jvm.Cond.selects "WarByHours" ({ cls := "WarByHours", name := "drawn", desc := "(II)I" } : Jvm.MethodName) ({ cls := "WarByHours", name := "drawn", desc := "(II)I" } : Jvm.MethodName)) ∈ lw_all := lw_g (lw_at lw_m7 147 rfl) rfl
theorem q1721 : (Jvm.Cond.code ({ cls := "WarByHours", name := "drawn", desc := "(II)I" } : Jvm.MethodName) prog_1_method_114_code (4 : Nat) (Option.some Jvm.ClassFile.FieldType.int)) ∈ lw_all := lw_g (lw_at lw_m7 148 rfl) rfl
theorem q1722 : (Jvm.Cond.methodLink "WarByHours" (520 : Nat) ({ cls := "WarByHours", name := "isSeed", desc := "(I)Z" } : Jvm.MethodName)) ∈ lw_all := lw_g (lw_at lw_m7 149 rfl) rfl
theorem q1723 : (Jvm.Cond.privateMethod ({ cls := "WarByHours", name := "isSeed", desc := "(I)Z" } : Jvm.MethodName)) ∈ lw_tbl := lw_at lw_m7 150 rfl
theorem q1724 : (Jvm.Cond.instanceMethod ({ cls := "WarByHours", name := "isSeed", desc := "(I)Z" } : Jvm.MethodName)) ∈ lw_all := lw_g (lw_at lw_m7 151 rfl) rfl
theorem q1725 : (Jvm.Cond.code ({ cls := "WarByHours", name := "isSeed", desc := "(I)Z" } : Jvm.MethodName) prog_1_method_113_code (2 : Nat) (Option.some Jvm.ClassFile.FieldType.boolean)) ∈ lw_all := lw_g (lw_at lw_m7 152 rfl) rfl
theorem q1726 : (Jvm.Cond.constantLong "WarByHours" (518 : Nat) (2000000000 : Int64)) ∈ lw_all := lw_g (lw_at lw_m7 153 rfl) rfl
theorem q1727 : (Jvm.Cond.methodLink "WarByHours" (523 : Nat) ({ cls := "WarByHours", name := "delaysOf", desc := "(J)I" } : Jvm.MethodName)) ∈ lw_all := lw_g (lw_at lw_m7 154 rfl) rfl
theorem q1728 : (Jvm.Cond.privateMethod ({ cls := "WarByHours", name := "delaysOf", desc := "(J)I" } : Jvm.MethodName)) ∈ lw_tbl := lw_at lw_m7 155 rfl
theorem q1729 : (Jvm.Cond.instanceMethod ({ cls := "WarByHours", name := "delaysOf", desc := "(J)I" } : Jvm.MethodName)) ∈ lw_all := lw_g (lw_at lw_m7 156 rfl) rfl
theorem q1730 : (Jvm.Cond.code ({ cls := "WarByHours", name := "delaysOf", desc := "(J)I" } : Jvm.MethodName) prog_1_method_112_code (5 : Nat) (Option.some Jvm.ClassFile.FieldType.int)) ∈ lw_all := lw_g (lw_at lw_m7 157 rfl) rfl
theorem q1731 : (Jvm.Cond.methodLink "WarByHours" (515 : Nat) ({ cls := "WarByHours", name := "draw", desc := "()I" } : Jvm.MethodName)) ∈ lw_all := lw_g (lw_at lw_m7 158 rfl) rfl
theorem q1732 : (Jvm.Cond.privateMethod ({ cls := "WarByHours", name := "draw", desc := "()I" } : Jvm.MethodName)) ∈ lw_tbl := lw_at lw_m7 159 rfl
theorem q1733 : (Jvm.Cond.instanceMethod ({ cls := "WarByHours", name := "draw", desc := "()I" } : Jvm.MethodName)) ∈ lw_all := lw_g (lw_at lw_m7 160 rfl) rfl
theorem q1734 : (Jvm.Cond.code ({ cls := "WarByHours", name := "draw", desc := "()I" } : Jvm.MethodName) prog_1_method_111_code (1 : Nat) (Option.some Jvm.ClassFile.FieldType.int)) ∈ lw_all := lw_g (lw_at lw_m7 161 rfl) rfl
theorem q1735 : (Jvm.Cond.constantLong "WarByHours" (503 : Nat) (1103515245 : Int64)) ∈ lw_all := lw_g (lw_at lw_m7 162 rfl) rfl
theorem q1736 : (Jvm.Cond.constantLong "WarByHours" (509 : Nat) (12345 : Int64)) ∈ lw_all := lw_g (lw_at lw_m7 163 rfl) rfl
theorem q1737 : (Jvm.Cond.constantLong "WarByHours" (511 : Nat) (2147483648 : Int64)) ∈ lw_all := lw_g (lw_at lw_m7 164 rfl) rfl
theorem q1738 : (Jvm.Cond.constantLong "WarByHours" (513 : Nat) (65536 : Int64)) ∈ lw_all := lw_g (lw_at lw_m7 165 rfl) rfl
theorem q1740 : (Jvm.Cond.instanceMethod ({ cls := "WarByHours", name := "luck", desc := "(III)I" } : Jvm.MethodName)) ∈ lw_all := lw_g (lw_at lw_m7 167 rfl) rfl
theorem q1741 : (Jvm.Cond.selects "WarByHours" ({ cls := "WarByHours", name := "luck", desc := "(III)I" } : Jvm.MethodName) ({ cls := "WarByHours", name := "luck", desc := "(III)I" } : Jvm.MethodName)) ∈ lw_all := lw_g (lw_at lw_m7 168 rfl) rfl
theorem q1742 : (Jvm.Cond.code ({ cls := "WarByHours", name := "luck", desc := "(III)I" } : Jvm.MethodName) prog_1_method_115_code (7 : Nat) (Option.some Jvm.ClassFile.FieldType.int)) ∈ lw_all := lw_g (lw_at lw_m7 169 rfl) rfl
theorem q1743 : (Jvm.Cond.constantLong "WarByHours" (527 : Nat) (20 : Int64)) ∈ lw_all := lw_g (lw_at lw_m7 170 rfl) rfl
theorem q1745 : (Jvm.Cond.instanceMethod ({ cls := "WarByHours", name := "count", desc := "(I)I" } : Jvm.MethodName)) ∈ lw_all := lw_g (lw_at lw_m7 172 rfl) rfl
theorem q1746 : (Jvm.Cond.selects "WarByHours" ({ cls := "WarByHours", name := "count", desc := "(I)I" } : Jvm.MethodName) ({ cls := "WarByHours", name := "count", desc := "(I)I" } : Jvm.MethodName)) ∈ lw_all := lw_g (lw_at lw_m7 173 rfl) rfl
theorem q1747 : (Jvm.Cond.code ({ cls := "WarByHours", name := "count", desc := "(I)I" } : Jvm.MethodName) prog_1_method_116_code (7 : Nat) (Option.some Jvm.ClassFile.FieldType.int)) ∈ lw_all := lw_g (lw_at lw_m7 174 rfl) rfl
theorem q1749 : (Jvm.Cond.instanceMethod ({ cls := "WarByHours", name := "image", desc := "(I)I" } : Jvm.MethodName)) ∈ lw_all := lw_g (lw_at lw_m7 176 rfl) rfl
theorem q1750 : (Jvm.Cond.selects "WarByHours" ({ cls := "WarByHours", name := "image", desc := "(I)I" } : Jvm.MethodName) ({ cls := "WarByHours", name := "image", desc := "(I)I" } : Jvm.MethodName)) ∈ lw_all := lw_g (lw_at lw_m7 177 rfl) rfl
theorem q1751 : (Jvm.Cond.code ({ cls := "WarByHours", name := "image", desc := "(I)I" } : Jvm.MethodName) prog_1_method_117_code (2 : Nat) (Option.some Jvm.ClassFile.FieldType.int)) ∈ lw_all := lw_g (lw_at lw_m7 178 rfl) rfl
theorem q1752 : (Jvm.Cond.methodLink "WarByHours" (533 : Nat) ({ cls := "WarByHours$War", name := "same", desc := "()LWarByHours$War;" } : Jvm.MethodName)) ∈ lw_all := lw_g (lw_at lw_m7 179 rfl) rfl
theorem q1839 : (Jvm.Cond.instanceMethod ({ cls := "WarByHours", name := "back", desc := "(I)I" } : Jvm.MethodName)) ∈ lw_all := lw_g (lw_at lw_m8 26 rfl) rfl
theorem q1840 : (Jvm.Cond.selects "WarByHours" ({ cls := "WarByHours", name := "back", desc := "(I)I" } : Jvm.MethodName) ({ cls := "WarByHours", name := "back", desc := "(I)I" } : Jvm.MethodName)) ∈ lw_all := lw_g (lw_at lw_m8 27 rfl) rfl
theorem q1841 : (Jvm.Cond.code ({ cls := "WarByHours", name := "back", desc := "(I)I" } : Jvm.MethodName) prog_1_method_118_code (2 : Nat) (Option.some Jvm.ClassFile.FieldType.int)) ∈ lw_all := lw_g (lw_at lw_m8 28 rfl) rfl
theorem q2587 : (Jvm.Cond.castable "WarByHours" "java/lang/Object") ∈ lw_tbl := lw_at lw_m11 54 rfl
theorem in_X0 : ∀ w ∈ wsX00, w ∈ lw_all := lw_in wsX00 [645, 647, 649, 651, 653, 655, 657, 659, 661, 663, 665, 667, 669, 671, 673, 675, 677, 679, 681] (by decide +kernel) (by decide +kernel)
