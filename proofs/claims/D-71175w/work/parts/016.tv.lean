/-! TrapdoorVotes -/
set_option maxRecDepth 100000
def RX0 : String := "TrapdoorVotes"
def TX0 : u_T := fun k => match k with
  | 0 => ("TrapdoorVotes", "tape", "[B", true)
  | 1 => ("TrapdoorVotes", "taped", "I", false)
  | 2 => ("TrapdoorVotes", "fault", "I", false)
  | 3 => ("TrapdoorVotes", "now", "LTrapdoorVotes$Stage;", true)
  | 4 => ("TrapdoorVotes", "work", "LTrapdoorVotes$Stage;", true)
  | 5 => ("TrapdoorVotes", "home", "LTrapdoorVotes$Stage;", true)
  | 6 => ("TrapdoorVotes", "firstFall", "I", false)
  | 7 => ("TrapdoorVotes", "least", "I", false)
  | 8 => ("TrapdoorVotes", "seen", "[[I", true)
  | 9 => ("TrapdoorVotes", "seenMany", "I", false)
  | 10 => ("TrapdoorVotes", "bySquare", "[[I", true)
  | 11 => ("TrapdoorVotes", "images", "[LTrapdoorVotes$Image;", true)
  | 12 => ("TrapdoorVotes", "aside", "LTrapdoorVotes$Stage;", true)
  | 13 => ("TrapdoorVotes", "sheets", "[LTrapdoorVotes$Sheet;", true)
  | 14 => ("TrapdoorVotes", "torn", "I", false)
  | 15 => ("TrapdoorVotes", "cameMany", "I", false)
  | _ => ("TrapdoorVotes", "refused", "I", false)
def tyX0 : Nat → FieldType := fun k => match k with
  | 0 => .array .byte
  | 1 => .int
  | 2 => .int
  | 3 => .object "TrapdoorVotes$Stage"
  | 4 => .object "TrapdoorVotes$Stage"
  | 5 => .object "TrapdoorVotes$Stage"
  | 6 => .int
  | 7 => .int
  | 8 => .array (.array .int)
  | 9 => .int
  | 10 => .array (.array .int)
  | 11 => .array (.object "TrapdoorVotes$Image")
  | 12 => .object "TrapdoorVotes$Stage"
  | 13 => .array (.object "TrapdoorVotes$Sheet")
  | 14 => .int
  | 15 => .int
  | _ => .int
abbrev wsX00 : List Cond := u_ws RX0 TX0 17
set_option maxRecDepth 100000 in
theorem nmX0 : ∀ a, a < 17 → ∀ b, b < 17 → a ≠ b → (TX0 a).2.1 ≠ (TX0 b).2.1 := by decide +kernel
set_option maxRecDepth 100000 in
theorem tyX0_ok : ∀ k, k < 17 → parseFieldDescriptor (TX0 k).2.2.1 = some (tyX0 k) := by decide +kernel
abbrev cX0_feed : ByteArray := prog_1_method_4_code
def yX0_feed : MethodName := ⟨RX0, "feed", "(I)I"⟩
def dkwX0_feed_2 : List UInt8 := [42, 180, 0, 11, 172]
abbrev dktX0_feed_2 : List UInt8 := dkwX0_feed_2 ++ []
def dkwX0_feed_1 : List UInt8 := [16, 253, 172, 42, 180, 0, 15, 42, 180, 0, 11, 27, 145, 84, 42, 89, 180, 0, 11, 4, 96, 181, 0, 11]
abbrev dktX0_feed_1 : List UInt8 := dkwX0_feed_1 ++ dktX0_feed_2
def dkwX0_feed_0 : List UInt8 := [27, 133, 9, 20, 0, 9, 184, 0, 5, 154, 0, 5, 2, 172, 42, 180, 0, 11, 17, 0, 160, 160, 0, 6]
abbrev dktX0_feed_0 : List UInt8 := dkwX0_feed_0 ++ dktX0_feed_1
theorem dksX0_feed_0 : cX0_feed.data.toList.drop 0 = dktX0_feed_0 := by decide +kernel
theorem dksX0_feed_1 : cX0_feed.data.toList.drop 24 = dktX0_feed_1 := dk_seg dksX0_feed_0 24 rfl rfl
theorem dksX0_feed_2 : cX0_feed.data.toList.drop 48 = dktX0_feed_2 := dk_seg dksX0_feed_1 24 rfl rfl
theorem dX0_feed_0 : decode cX0_feed 0 = .ok (.iload_n 1, 1) := dk_27 (dk_at dksX0_feed_0 0 rfl rfl)
theorem dX0_feed_1 : decode cX0_feed 1 = .ok (.i2l, 1) := dk_133 (dk_at dksX0_feed_0 1 rfl rfl)
theorem dX0_feed_2 : decode cX0_feed 2 = .ok (.lconst 0, 1) := dk_9 (dk_at dksX0_feed_0 2 rfl rfl)
theorem dX0_feed_3 : decode cX0_feed 3 = .ok (.ldc2_w 9, 3) := dk_20 0 9 (dk_at dksX0_feed_0 3 rfl rfl)
theorem dX0_feed_6 : decode cX0_feed 6 = .ok (.invokestatic 5, 3) := dk_184 0 5 (dk_at dksX0_feed_0 6 rfl rfl)
theorem dX0_feed_9 : decode cX0_feed 9 = .ok (.ifCond .ne 5, 3) := dk_154 0 5 (dk_at dksX0_feed_0 9 rfl rfl)
theorem dX0_feed_12 : decode cX0_feed 12 = .ok (.iconst (-1), 1) := dk_2 (dk_at dksX0_feed_0 12 rfl rfl)
theorem dX0_feed_13 : decode cX0_feed 13 = .ok (.ireturn, 1) := dk_172 (dk_at dksX0_feed_0 13 rfl rfl)
theorem dX0_feed_14 : decode cX0_feed 14 = .ok (.aload_n 0, 1) := dk_42 (dk_at dksX0_feed_0 14 rfl rfl)
theorem dX0_feed_15 : decode cX0_feed 15 = .ok (.getfield 11, 3) := dk_180 0 11 (dk_at dksX0_feed_0 15 rfl rfl)
theorem dX0_feed_18 : decode cX0_feed 18 = .ok (.sipush 160, 3) := dk_17 0 160 (dk_at dksX0_feed_0 18 rfl rfl)
theorem dX0_feed_21 : decode cX0_feed 21 = .ok (.if_icmp .ne 6, 3) := dk_160 0 6 (dk_at dksX0_feed_0 21 rfl rfl)
theorem dX0_feed_24 : decode cX0_feed 24 = .ok (.bipush (-3), 2) := dk_16 253 (dk_at dksX0_feed_1 0 rfl rfl)
theorem dX0_feed_26 : decode cX0_feed 26 = .ok (.ireturn, 1) := dk_172 (dk_at dksX0_feed_1 2 rfl rfl)
theorem dX0_feed_27 : decode cX0_feed 27 = .ok (.aload_n 0, 1) := dk_42 (dk_at dksX0_feed_1 3 rfl rfl)
theorem dX0_feed_28 : decode cX0_feed 28 = .ok (.getfield 15, 3) := dk_180 0 15 (dk_at dksX0_feed_1 4 rfl rfl)
theorem dX0_feed_31 : decode cX0_feed 31 = .ok (.aload_n 0, 1) := dk_42 (dk_at dksX0_feed_1 7 rfl rfl)
theorem dX0_feed_32 : decode cX0_feed 32 = .ok (.getfield 11, 3) := dk_180 0 11 (dk_at dksX0_feed_1 8 rfl rfl)
theorem dX0_feed_35 : decode cX0_feed 35 = .ok (.iload_n 1, 1) := dk_27 (dk_at dksX0_feed_1 11 rfl rfl)
theorem dX0_feed_36 : decode cX0_feed 36 = .ok (.i2b, 1) := dk_145 (dk_at dksX0_feed_1 12 rfl rfl)
theorem dX0_feed_37 : decode cX0_feed 37 = .ok (.bastore, 1) := dk_84 (dk_at dksX0_feed_1 13 rfl rfl)
theorem dX0_feed_38 : decode cX0_feed 38 = .ok (.aload_n 0, 1) := dk_42 (dk_at dksX0_feed_1 14 rfl rfl)
theorem dX0_feed_39 : decode cX0_feed 39 = .ok (.dup, 1) := dk_89 (dk_at dksX0_feed_1 15 rfl rfl)
theorem dX0_feed_40 : decode cX0_feed 40 = .ok (.getfield 11, 3) := dk_180 0 11 (dk_at dksX0_feed_1 16 rfl rfl)
theorem dX0_feed_43 : decode cX0_feed 43 = .ok (.iconst 1, 1) := dk_4 (dk_at dksX0_feed_1 19 rfl rfl)
theorem dX0_feed_44 : decode cX0_feed 44 = .ok (.iadd, 1) := dk_96 (dk_at dksX0_feed_1 20 rfl rfl)
theorem dX0_feed_45 : decode cX0_feed 45 = .ok (.putfield 11, 3) := dk_181 0 11 (dk_at dksX0_feed_1 21 rfl rfl)
theorem dX0_feed_48 : decode cX0_feed 48 = .ok (.aload_n 0, 1) := dk_42 (dk_at dksX0_feed_2 0 rfl rfl)
theorem dX0_feed_49 : decode cX0_feed 49 = .ok (.getfield 11, 3) := dk_180 0 11 (dk_at dksX0_feed_2 1 rfl rfl)
theorem dX0_feed_52 : decode cX0_feed 52 = .ok (.ireturn, 1) := dk_172 (dk_at dksX0_feed_2 4 rfl rfl)
abbrev cX0_isIn : ByteArray := prog_1_method_1_code
def yX0_isIn : MethodName := ⟨RX0, "isIn", "(JJJ)Z"⟩
def dkwX0_isIn_0 : List UInt8 := [30, 32, 148, 155, 0, 14, 30, 22, 4, 148, 157, 0, 7, 4, 167, 0, 4, 3, 172]
abbrev dktX0_isIn_0 : List UInt8 := dkwX0_isIn_0 ++ []
theorem dksX0_isIn_0 : cX0_isIn.data.toList.drop 0 = dktX0_isIn_0 := by decide +kernel
theorem dX0_isIn_0 : decode cX0_isIn 0 = .ok (.lload_n 0, 1) := dk_30 (dk_at dksX0_isIn_0 0 rfl rfl)
theorem dX0_isIn_1 : decode cX0_isIn 1 = .ok (.lload_n 2, 1) := dk_32 (dk_at dksX0_isIn_0 1 rfl rfl)
theorem dX0_isIn_2 : decode cX0_isIn 2 = .ok (.lcmp, 1) := dk_148 (dk_at dksX0_isIn_0 2 rfl rfl)
theorem dX0_isIn_3 : decode cX0_isIn 3 = .ok (.ifCond .lt 14, 3) := dk_155 0 14 (dk_at dksX0_isIn_0 3 rfl rfl)
theorem dX0_isIn_6 : decode cX0_isIn 6 = .ok (.lload_n 0, 1) := dk_30 (dk_at dksX0_isIn_0 6 rfl rfl)
theorem dX0_isIn_7 : decode cX0_isIn 7 = .ok (.lload 4, 2) := dk_22 4 (dk_at dksX0_isIn_0 7 rfl rfl)
theorem dX0_isIn_9 : decode cX0_isIn 9 = .ok (.lcmp, 1) := dk_148 (dk_at dksX0_isIn_0 9 rfl rfl)
theorem dX0_isIn_10 : decode cX0_isIn 10 = .ok (.ifCond .gt 7, 3) := dk_157 0 7 (dk_at dksX0_isIn_0 10 rfl rfl)
theorem dX0_isIn_13 : decode cX0_isIn 13 = .ok (.iconst 1, 1) := dk_4 (dk_at dksX0_isIn_0 13 rfl rfl)
theorem dX0_isIn_14 : decode cX0_isIn 14 = .ok (.goto 4, 3) := dk_167 0 4 (dk_at dksX0_isIn_0 14 rfl rfl)
theorem dX0_isIn_17 : decode cX0_isIn 17 = .ok (.iconst 0, 1) := dk_3 (dk_at dksX0_isIn_0 17 rfl rfl)
theorem dX0_isIn_18 : decode cX0_isIn 18 = .ok (.ireturn, 1) := dk_172 (dk_at dksX0_isIn_0 18 rfl rfl)
abbrev cX0_end : ByteArray := prog_1_method_5_code
def yX0_end : MethodName := ⟨RX0, "end", "(I)I"⟩
def dkwX0_end_1 : List UInt8 := [181, 0, 11, 28, 172]
abbrev dktX0_end_1 : List UInt8 := dkwX0_end_1 ++ []
def dkwX0_end_0 : List UInt8 := [27, 133, 9, 42, 180, 0, 11, 133, 184, 0, 5, 154, 0, 5, 2, 172, 42, 180, 0, 11, 61, 42, 27]
abbrev dktX0_end_0 : List UInt8 := dkwX0_end_0 ++ dktX0_end_1
theorem dksX0_end_0 : cX0_end.data.toList.drop 0 = dktX0_end_0 := by decide +kernel
theorem dksX0_end_1 : cX0_end.data.toList.drop 23 = dktX0_end_1 := dk_seg dksX0_end_0 23 rfl rfl
theorem dX0_end_0 : decode cX0_end 0 = .ok (.iload_n 1, 1) := dk_27 (dk_at dksX0_end_0 0 rfl rfl)
theorem dX0_end_1 : decode cX0_end 1 = .ok (.i2l, 1) := dk_133 (dk_at dksX0_end_0 1 rfl rfl)
theorem dX0_end_2 : decode cX0_end 2 = .ok (.lconst 0, 1) := dk_9 (dk_at dksX0_end_0 2 rfl rfl)
theorem dX0_end_3 : decode cX0_end 3 = .ok (.aload_n 0, 1) := dk_42 (dk_at dksX0_end_0 3 rfl rfl)
theorem dX0_end_4 : decode cX0_end 4 = .ok (.getfield 11, 3) := dk_180 0 11 (dk_at dksX0_end_0 4 rfl rfl)
theorem dX0_end_7 : decode cX0_end 7 = .ok (.i2l, 1) := dk_133 (dk_at dksX0_end_0 7 rfl rfl)
theorem dX0_end_8 : decode cX0_end 8 = .ok (.invokestatic 5, 3) := dk_184 0 5 (dk_at dksX0_end_0 8 rfl rfl)
theorem dX0_end_11 : decode cX0_end 11 = .ok (.ifCond .ne 5, 3) := dk_154 0 5 (dk_at dksX0_end_0 11 rfl rfl)
theorem dX0_end_14 : decode cX0_end 14 = .ok (.iconst (-1), 1) := dk_2 (dk_at dksX0_end_0 14 rfl rfl)
theorem dX0_end_15 : decode cX0_end 15 = .ok (.ireturn, 1) := dk_172 (dk_at dksX0_end_0 15 rfl rfl)
theorem dX0_end_16 : decode cX0_end 16 = .ok (.aload_n 0, 1) := dk_42 (dk_at dksX0_end_0 16 rfl rfl)
theorem dX0_end_17 : decode cX0_end 17 = .ok (.getfield 11, 3) := dk_180 0 11 (dk_at dksX0_end_0 17 rfl rfl)
theorem dX0_end_20 : decode cX0_end 20 = .ok (.istore_n 2, 1) := dk_61 (dk_at dksX0_end_0 20 rfl rfl)
theorem dX0_end_21 : decode cX0_end 21 = .ok (.aload_n 0, 1) := dk_42 (dk_at dksX0_end_0 21 rfl rfl)
theorem dX0_end_22 : decode cX0_end 22 = .ok (.iload_n 1, 1) := dk_27 (dk_at dksX0_end_0 22 rfl rfl)
theorem dX0_end_23 : decode cX0_end 23 = .ok (.putfield 11, 3) := dk_181 0 11 (dk_at dksX0_end_1 0 rfl rfl)
theorem dX0_end_26 : decode cX0_end 26 = .ok (.iload_n 2, 1) := dk_28 (dk_at dksX0_end_1 3 rfl rfl)
theorem dX0_end_27 : decode cX0_end 27 = .ok (.ireturn, 1) := dk_172 (dk_at dksX0_end_1 4 rfl rfl)
abbrev cX0_text : ByteArray := prog_1_method_6_code
def yX0_text : MethodName := ⟨RX0, "text", "()I"⟩
def dkwX0_text_4 : List UInt8 := [16, 246, 44, 180, 0, 72, 100, 172]
abbrev dktX0_text_4 : List UInt8 := dkwX0_text_4 ++ []
def dkwX0_text_3 : List UInt8 := [3, 181, 0, 55, 42, 3, 181, 0, 61, 44, 180, 0, 64, 172, 77, 42, 44, 180, 0, 69, 181, 0, 61]
abbrev dktX0_text_3 : List UInt8 := dkwX0_text_3 ++ dktX0_text_4
def dkwX0_text_2 : List UInt8 := [182, 0, 42, 42, 3, 181, 0, 48, 42, 180, 0, 51, 3, 50, 3, 181, 0, 55, 42, 180, 0, 51, 4, 50]
abbrev dktX0_text_2 : List UInt8 := dkwX0_text_2 ++ dktX0_text_3
def dkwX0_text_1 : List UInt8 := [181, 0, 11, 187, 0, 25, 89, 43, 183, 0, 27, 77, 44, 182, 0, 31, 42, 180, 0, 35, 44, 180, 0, 39]
abbrev dktX0_text_1 : List UInt8 := dkwX0_text_1 ++ dktX0_text_2
def dkwX0_text_0 : List UInt8 := [42, 180, 0, 11, 188, 8, 76, 42, 180, 0, 15, 3, 43, 3, 42, 180, 0, 11, 184, 0, 19, 42, 3]
abbrev dktX0_text_0 : List UInt8 := dkwX0_text_0 ++ dktX0_text_1
theorem dksX0_text_0 : cX0_text.data.toList.drop 0 = dktX0_text_0 := by decide +kernel
theorem dksX0_text_1 : cX0_text.data.toList.drop 23 = dktX0_text_1 := dk_seg dksX0_text_0 23 rfl rfl
theorem dksX0_text_2 : cX0_text.data.toList.drop 47 = dktX0_text_2 := dk_seg dksX0_text_1 24 rfl rfl
theorem dksX0_text_3 : cX0_text.data.toList.drop 71 = dktX0_text_3 := dk_seg dksX0_text_2 24 rfl rfl
theorem dksX0_text_4 : cX0_text.data.toList.drop 94 = dktX0_text_4 := dk_seg dksX0_text_3 23 rfl rfl
theorem dX0_text_0 : decode cX0_text 0 = .ok (.aload_n 0, 1) := dk_42 (dk_at dksX0_text_0 0 rfl rfl)
theorem dX0_text_1 : decode cX0_text 1 = .ok (.getfield 11, 3) := dk_180 0 11 (dk_at dksX0_text_0 1 rfl rfl)
theorem dX0_text_4 : decode cX0_text 4 = .ok (.newarray .byte, 2) := dk_188_8 (dk_at dksX0_text_0 4 rfl rfl)
theorem dX0_text_6 : decode cX0_text 6 = .ok (.astore_n 1, 1) := dk_76 (dk_at dksX0_text_0 6 rfl rfl)
theorem dX0_text_7 : decode cX0_text 7 = .ok (.aload_n 0, 1) := dk_42 (dk_at dksX0_text_0 7 rfl rfl)
theorem dX0_text_8 : decode cX0_text 8 = .ok (.getfield 15, 3) := dk_180 0 15 (dk_at dksX0_text_0 8 rfl rfl)
theorem dX0_text_11 : decode cX0_text 11 = .ok (.iconst 0, 1) := dk_3 (dk_at dksX0_text_0 11 rfl rfl)
theorem dX0_text_12 : decode cX0_text 12 = .ok (.aload_n 1, 1) := dk_43 (dk_at dksX0_text_0 12 rfl rfl)
theorem dX0_text_13 : decode cX0_text 13 = .ok (.iconst 0, 1) := dk_3 (dk_at dksX0_text_0 13 rfl rfl)
theorem dX0_text_14 : decode cX0_text 14 = .ok (.aload_n 0, 1) := dk_42 (dk_at dksX0_text_0 14 rfl rfl)
theorem dX0_text_15 : decode cX0_text 15 = .ok (.getfield 11, 3) := dk_180 0 11 (dk_at dksX0_text_0 15 rfl rfl)
theorem dX0_text_18 : decode cX0_text 18 = .ok (.invokestatic 19, 3) := dk_184 0 19 (dk_at dksX0_text_0 18 rfl rfl)
theorem dX0_text_21 : decode cX0_text 21 = .ok (.aload_n 0, 1) := dk_42 (dk_at dksX0_text_0 21 rfl rfl)
theorem dX0_text_22 : decode cX0_text 22 = .ok (.iconst 0, 1) := dk_3 (dk_at dksX0_text_0 22 rfl rfl)
theorem dX0_text_23 : decode cX0_text 23 = .ok (.putfield 11, 3) := dk_181 0 11 (dk_at dksX0_text_1 0 rfl rfl)
theorem dX0_text_26 : decode cX0_text 26 = .ok (.new 25, 3) := dk_187 0 25 (dk_at dksX0_text_1 3 rfl rfl)
theorem dX0_text_29 : decode cX0_text 29 = .ok (.dup, 1) := dk_89 (dk_at dksX0_text_1 6 rfl rfl)
theorem dX0_text_30 : decode cX0_text 30 = .ok (.aload_n 1, 1) := dk_43 (dk_at dksX0_text_1 7 rfl rfl)
theorem dX0_text_31 : decode cX0_text 31 = .ok (.invokespecial 27, 3) := dk_183 0 27 (dk_at dksX0_text_1 8 rfl rfl)
theorem dX0_text_34 : decode cX0_text 34 = .ok (.astore_n 2, 1) := dk_77 (dk_at dksX0_text_1 11 rfl rfl)
theorem dX0_text_35 : decode cX0_text 35 = .ok (.aload_n 2, 1) := dk_44 (dk_at dksX0_text_1 12 rfl rfl)
theorem dX0_text_36 : decode cX0_text 36 = .ok (.invokevirtual 31, 3) := dk_182 0 31 (dk_at dksX0_text_1 13 rfl rfl)
theorem dX0_text_39 : decode cX0_text 39 = .ok (.aload_n 0, 1) := dk_42 (dk_at dksX0_text_1 16 rfl rfl)
theorem dX0_text_40 : decode cX0_text 40 = .ok (.getfield 35, 3) := dk_180 0 35 (dk_at dksX0_text_1 17 rfl rfl)
theorem dX0_text_43 : decode cX0_text 43 = .ok (.aload_n 2, 1) := dk_44 (dk_at dksX0_text_1 20 rfl rfl)
theorem dX0_text_44 : decode cX0_text 44 = .ok (.getfield 39, 3) := dk_180 0 39 (dk_at dksX0_text_1 21 rfl rfl)
theorem dX0_text_47 : decode cX0_text 47 = .ok (.invokevirtual 42, 3) := dk_182 0 42 (dk_at dksX0_text_2 0 rfl rfl)
theorem dX0_text_50 : decode cX0_text 50 = .ok (.aload_n 0, 1) := dk_42 (dk_at dksX0_text_2 3 rfl rfl)
theorem dX0_text_51 : decode cX0_text 51 = .ok (.iconst 0, 1) := dk_3 (dk_at dksX0_text_2 4 rfl rfl)
theorem dX0_text_52 : decode cX0_text 52 = .ok (.putfield 48, 3) := dk_181 0 48 (dk_at dksX0_text_2 5 rfl rfl)
theorem dX0_text_55 : decode cX0_text 55 = .ok (.aload_n 0, 1) := dk_42 (dk_at dksX0_text_2 8 rfl rfl)
theorem dX0_text_56 : decode cX0_text 56 = .ok (.getfield 51, 3) := dk_180 0 51 (dk_at dksX0_text_2 9 rfl rfl)
theorem dX0_text_59 : decode cX0_text 59 = .ok (.iconst 0, 1) := dk_3 (dk_at dksX0_text_2 12 rfl rfl)
theorem dX0_text_60 : decode cX0_text 60 = .ok (.aaload, 1) := dk_50 (dk_at dksX0_text_2 13 rfl rfl)
theorem dX0_text_61 : decode cX0_text 61 = .ok (.iconst 0, 1) := dk_3 (dk_at dksX0_text_2 14 rfl rfl)
theorem dX0_text_62 : decode cX0_text 62 = .ok (.putfield 55, 3) := dk_181 0 55 (dk_at dksX0_text_2 15 rfl rfl)
theorem dX0_text_65 : decode cX0_text 65 = .ok (.aload_n 0, 1) := dk_42 (dk_at dksX0_text_2 18 rfl rfl)
theorem dX0_text_66 : decode cX0_text 66 = .ok (.getfield 51, 3) := dk_180 0 51 (dk_at dksX0_text_2 19 rfl rfl)
theorem dX0_text_69 : decode cX0_text 69 = .ok (.iconst 1, 1) := dk_4 (dk_at dksX0_text_2 22 rfl rfl)
theorem dX0_text_70 : decode cX0_text 70 = .ok (.aaload, 1) := dk_50 (dk_at dksX0_text_2 23 rfl rfl)
theorem dX0_text_71 : decode cX0_text 71 = .ok (.iconst 0, 1) := dk_3 (dk_at dksX0_text_3 0 rfl rfl)
theorem dX0_text_72 : decode cX0_text 72 = .ok (.putfield 55, 3) := dk_181 0 55 (dk_at dksX0_text_3 1 rfl rfl)
theorem dX0_text_75 : decode cX0_text 75 = .ok (.aload_n 0, 1) := dk_42 (dk_at dksX0_text_3 4 rfl rfl)
theorem dX0_text_76 : decode cX0_text 76 = .ok (.iconst 0, 1) := dk_3 (dk_at dksX0_text_3 5 rfl rfl)
theorem dX0_text_77 : decode cX0_text 77 = .ok (.putfield 61, 3) := dk_181 0 61 (dk_at dksX0_text_3 6 rfl rfl)
theorem dX0_text_80 : decode cX0_text 80 = .ok (.aload_n 2, 1) := dk_44 (dk_at dksX0_text_3 9 rfl rfl)
theorem dX0_text_81 : decode cX0_text 81 = .ok (.getfield 64, 3) := dk_180 0 64 (dk_at dksX0_text_3 10 rfl rfl)
theorem dX0_text_84 : decode cX0_text 84 = .ok (.ireturn, 1) := dk_172 (dk_at dksX0_text_3 13 rfl rfl)
theorem dX0_text_85 : decode cX0_text 85 = .ok (.astore_n 2, 1) := dk_77 (dk_at dksX0_text_3 14 rfl rfl)
theorem dX0_text_86 : decode cX0_text 86 = .ok (.aload_n 0, 1) := dk_42 (dk_at dksX0_text_3 15 rfl rfl)
theorem dX0_text_87 : decode cX0_text 87 = .ok (.aload_n 2, 1) := dk_44 (dk_at dksX0_text_3 16 rfl rfl)
theorem dX0_text_88 : decode cX0_text 88 = .ok (.getfield 69, 3) := dk_180 0 69 (dk_at dksX0_text_3 17 rfl rfl)
theorem dX0_text_91 : decode cX0_text 91 = .ok (.putfield 61, 3) := dk_181 0 61 (dk_at dksX0_text_3 20 rfl rfl)
theorem dX0_text_94 : decode cX0_text 94 = .ok (.bipush (-10), 2) := dk_16 246 (dk_at dksX0_text_4 0 rfl rfl)
theorem dX0_text_96 : decode cX0_text 96 = .ok (.aload_n 2, 1) := dk_44 (dk_at dksX0_text_4 2 rfl rfl)
theorem dX0_text_97 : decode cX0_text 97 = .ok (.getfield 72, 3) := dk_180 0 72 (dk_at dksX0_text_4 3 rfl rfl)
theorem dX0_text_100 : decode cX0_text 100 = .ok (.isub, 1) := dk_100 (dk_at dksX0_text_4 6 rfl rfl)
theorem dX0_text_101 : decode cX0_text 101 = .ok (.ireturn, 1) := dk_172 (dk_at dksX0_text_4 7 rfl rfl)
abbrev cX0_has : ByteArray := prog_1_method_2_code
def yX0_has : MethodName := ⟨RX0, "has", "(II)Z"⟩
def dkwX0_has_0 : List UInt8 := [26, 27, 122, 4, 126, 4, 160, 0, 7, 4, 167, 0, 4, 3, 172]
abbrev dktX0_has_0 : List UInt8 := dkwX0_has_0 ++ []
theorem dksX0_has_0 : cX0_has.data.toList.drop 0 = dktX0_has_0 := by decide +kernel
theorem dX0_has_0 : decode cX0_has 0 = .ok (.iload_n 0, 1) := dk_26 (dk_at dksX0_has_0 0 rfl rfl)
theorem dX0_has_1 : decode cX0_has 1 = .ok (.iload_n 1, 1) := dk_27 (dk_at dksX0_has_0 1 rfl rfl)
theorem dX0_has_2 : decode cX0_has 2 = .ok (.ishr, 1) := dk_122 (dk_at dksX0_has_0 2 rfl rfl)
theorem dX0_has_3 : decode cX0_has 3 = .ok (.iconst 1, 1) := dk_4 (dk_at dksX0_has_0 3 rfl rfl)
theorem dX0_has_4 : decode cX0_has 4 = .ok (.iand, 1) := dk_126 (dk_at dksX0_has_0 4 rfl rfl)
theorem dX0_has_5 : decode cX0_has 5 = .ok (.iconst 1, 1) := dk_4 (dk_at dksX0_has_0 5 rfl rfl)
theorem dX0_has_6 : decode cX0_has 6 = .ok (.if_icmp .ne 7, 3) := dk_160 0 7 (dk_at dksX0_has_0 6 rfl rfl)
theorem dX0_has_9 : decode cX0_has 9 = .ok (.iconst 1, 1) := dk_4 (dk_at dksX0_has_0 9 rfl rfl)
theorem dX0_has_10 : decode cX0_has 10 = .ok (.goto 4, 3) := dk_167 0 4 (dk_at dksX0_has_0 10 rfl rfl)
theorem dX0_has_13 : decode cX0_has 13 = .ok (.iconst 0, 1) := dk_3 (dk_at dksX0_has_0 13 rfl rfl)
theorem dX0_has_14 : decode cX0_has 14 = .ok (.ireturn, 1) := dk_172 (dk_at dksX0_has_0 14 rfl rfl)
abbrev cX0_isSquare : ByteArray := prog_1_method_3_code
def yX0_isSquare : MethodName := ⟨RX0, "isSquare", "(I)Z"⟩
def dkwX0_isSquare_0 : List UInt8 := [26, 133, 9, 20, 0, 3, 184, 0, 5, 172]
abbrev dktX0_isSquare_0 : List UInt8 := dkwX0_isSquare_0 ++ []
theorem dksX0_isSquare_0 : cX0_isSquare.data.toList.drop 0 = dktX0_isSquare_0 := by decide +kernel
theorem dX0_isSquare_0 : decode cX0_isSquare 0 = .ok (.iload_n 0, 1) := dk_26 (dk_at dksX0_isSquare_0 0 rfl rfl)
theorem dX0_isSquare_1 : decode cX0_isSquare 1 = .ok (.i2l, 1) := dk_133 (dk_at dksX0_isSquare_0 1 rfl rfl)
theorem dX0_isSquare_2 : decode cX0_isSquare 2 = .ok (.lconst 0, 1) := dk_9 (dk_at dksX0_isSquare_0 2 rfl rfl)
theorem dX0_isSquare_3 : decode cX0_isSquare 3 = .ok (.ldc2_w 3, 3) := dk_20 0 3 (dk_at dksX0_isSquare_0 3 rfl rfl)
theorem dX0_isSquare_6 : decode cX0_isSquare 6 = .ok (.invokestatic 5, 3) := dk_184 0 5 (dk_at dksX0_isSquare_0 6 rfl rfl)
theorem dX0_isSquare_9 : decode cX0_isSquare 9 = .ok (.ireturn, 1) := dk_172 (dk_at dksX0_isSquare_0 9 rfl rfl)
abbrev cX0_fault : ByteArray := prog_1_method_7_code
def yX0_fault : MethodName := ⟨RX0, "fault", "()I"⟩
theorem dX0_fault_0 : decode cX0_fault 0 = .ok (.aload_n 0, 1) := by decide +kernel
theorem dX0_fault_1 : decode cX0_fault 1 = .ok (.getfield 61, 3) := by decide +kernel
theorem dX0_fault_4 : decode cX0_fault 4 = .ok (.ireturn, 1) := by decide +kernel
abbrev cX0_rule : ByteArray := prog_1_method_12_code
def yX0_rule : MethodName := ⟨RX0, "rule", "(I)I"⟩
def dkwX0_rule_4 : List UInt8 := [2, 172]
abbrev dktX0_rule_4 : List UInt8 := dkwX0_rule_4 ++ []
def dkwX0_rule_3 : List UInt8 := [42, 180, 0, 35, 182, 0, 86, 172, 42, 180, 0, 35, 182, 0, 90, 172, 42, 180, 0, 35, 182, 0, 93, 172]
abbrev dktX0_rule_3 : List UInt8 := dkwX0_rule_3 ++ dktX0_rule_4
def dkwX0_rule_2 : List UInt8 := [42, 180, 0, 35, 180, 0, 75, 172, 42, 180, 0, 35, 180, 0, 78, 172, 42, 180, 0, 35, 180, 0, 83, 172]
abbrev dktX0_rule_2 : List UInt8 := dkwX0_rule_2 ++ dktX0_rule_3
def dkwX0_rule_1 : List UInt8 := [170, 0, 0, 0, 0, 0, 87, 0, 0, 0, 0, 0, 0, 0, 5, 0, 0, 0, 39, 0, 0, 0, 47, 0, 0, 0, 55, 0, 0, 0, 63, 0, 0, 0, 71, 0, 0, 0, 79]
abbrev dktX0_rule_1 : List UInt8 := dkwX0_rule_1 ++ dktX0_rule_2
def dkwX0_rule_0 : List UInt8 := [27]
abbrev dktX0_rule_0 : List UInt8 := dkwX0_rule_0 ++ dktX0_rule_1
theorem dksX0_rule_0 : cX0_rule.data.toList.drop 0 = dktX0_rule_0 := by decide +kernel
theorem dksX0_rule_1 : cX0_rule.data.toList.drop 1 = dktX0_rule_1 := dk_seg dksX0_rule_0 1 rfl rfl
theorem dksX0_rule_2 : cX0_rule.data.toList.drop 40 = dktX0_rule_2 := dk_seg dksX0_rule_1 39 rfl rfl
theorem dksX0_rule_3 : cX0_rule.data.toList.drop 64 = dktX0_rule_3 := dk_seg dksX0_rule_2 24 rfl rfl
theorem dksX0_rule_4 : cX0_rule.data.toList.drop 88 = dktX0_rule_4 := dk_seg dksX0_rule_3 24 rfl rfl
theorem dX0_rule_0 : decode cX0_rule 0 = .ok (.iload_n 1, 1) := dk_27 (dk_at dksX0_rule_0 0 rfl rfl)
theorem dX0_rule_1 : decode cX0_rule 1 = .ok (.tableswitch 87 0 5 #[39, 47, 55, 63, 71, 79], 39) := by decide +kernel
theorem dX0_rule_40 : decode cX0_rule 40 = .ok (.aload_n 0, 1) := dk_42 (dk_at dksX0_rule_2 0 rfl rfl)
theorem dX0_rule_41 : decode cX0_rule 41 = .ok (.getfield 35, 3) := dk_180 0 35 (dk_at dksX0_rule_2 1 rfl rfl)
theorem dX0_rule_44 : decode cX0_rule 44 = .ok (.getfield 75, 3) := dk_180 0 75 (dk_at dksX0_rule_2 4 rfl rfl)
theorem dX0_rule_47 : decode cX0_rule 47 = .ok (.ireturn, 1) := dk_172 (dk_at dksX0_rule_2 7 rfl rfl)
theorem dX0_rule_48 : decode cX0_rule 48 = .ok (.aload_n 0, 1) := dk_42 (dk_at dksX0_rule_2 8 rfl rfl)
theorem dX0_rule_49 : decode cX0_rule 49 = .ok (.getfield 35, 3) := dk_180 0 35 (dk_at dksX0_rule_2 9 rfl rfl)
theorem dX0_rule_52 : decode cX0_rule 52 = .ok (.getfield 78, 3) := dk_180 0 78 (dk_at dksX0_rule_2 12 rfl rfl)
theorem dX0_rule_55 : decode cX0_rule 55 = .ok (.ireturn, 1) := dk_172 (dk_at dksX0_rule_2 15 rfl rfl)
theorem dX0_rule_56 : decode cX0_rule 56 = .ok (.aload_n 0, 1) := dk_42 (dk_at dksX0_rule_2 16 rfl rfl)
theorem dX0_rule_57 : decode cX0_rule 57 = .ok (.getfield 35, 3) := dk_180 0 35 (dk_at dksX0_rule_2 17 rfl rfl)
theorem dX0_rule_60 : decode cX0_rule 60 = .ok (.getfield 83, 3) := dk_180 0 83 (dk_at dksX0_rule_2 20 rfl rfl)
theorem dX0_rule_63 : decode cX0_rule 63 = .ok (.ireturn, 1) := dk_172 (dk_at dksX0_rule_2 23 rfl rfl)
theorem dX0_rule_64 : decode cX0_rule 64 = .ok (.aload_n 0, 1) := dk_42 (dk_at dksX0_rule_3 0 rfl rfl)
theorem dX0_rule_65 : decode cX0_rule 65 = .ok (.getfield 35, 3) := dk_180 0 35 (dk_at dksX0_rule_3 1 rfl rfl)
theorem dX0_rule_68 : decode cX0_rule 68 = .ok (.invokevirtual 86, 3) := dk_182 0 86 (dk_at dksX0_rule_3 4 rfl rfl)
theorem dX0_rule_71 : decode cX0_rule 71 = .ok (.ireturn, 1) := dk_172 (dk_at dksX0_rule_3 7 rfl rfl)
theorem dX0_rule_72 : decode cX0_rule 72 = .ok (.aload_n 0, 1) := dk_42 (dk_at dksX0_rule_3 8 rfl rfl)
theorem dX0_rule_73 : decode cX0_rule 73 = .ok (.getfield 35, 3) := dk_180 0 35 (dk_at dksX0_rule_3 9 rfl rfl)
theorem dX0_rule_76 : decode cX0_rule 76 = .ok (.invokevirtual 90, 3) := dk_182 0 90 (dk_at dksX0_rule_3 12 rfl rfl)
theorem dX0_rule_79 : decode cX0_rule 79 = .ok (.ireturn, 1) := dk_172 (dk_at dksX0_rule_3 15 rfl rfl)
theorem dX0_rule_80 : decode cX0_rule 80 = .ok (.aload_n 0, 1) := dk_42 (dk_at dksX0_rule_3 16 rfl rfl)
theorem dX0_rule_81 : decode cX0_rule 81 = .ok (.getfield 35, 3) := dk_180 0 35 (dk_at dksX0_rule_3 17 rfl rfl)
theorem dX0_rule_84 : decode cX0_rule 84 = .ok (.invokevirtual 93, 3) := dk_182 0 93 (dk_at dksX0_rule_3 20 rfl rfl)
theorem dX0_rule_87 : decode cX0_rule 87 = .ok (.ireturn, 1) := dk_172 (dk_at dksX0_rule_3 23 rfl rfl)
theorem dX0_rule_88 : decode cX0_rule 88 = .ok (.iconst (-1), 1) := dk_2 (dk_at dksX0_rule_4 0 rfl rfl)
theorem dX0_rule_89 : decode cX0_rule 89 = .ok (.ireturn, 1) := dk_172 (dk_at dksX0_rule_4 1 rfl rfl)
abbrev cX0_square : ByteArray := prog_1_method_13_code
def yX0_square : MethodName := ⟨RX0, "square", "(II)I"⟩
def dkwX0_square_2 : List UInt8 := [180, 0, 35, 27, 182, 0, 106, 167, 0, 11, 42, 180, 0, 35, 27, 182, 0, 110, 172]
abbrev dktX0_square_2 : List UInt8 := dkwX0_square_2 ++ []
def dkwX0_square_1 : List UInt8 := [162, 0, 17, 42, 180, 0, 35, 180, 0, 102, 27, 50, 28, 46, 167, 0, 27, 28, 5, 160, 0, 14, 42]
abbrev dktX0_square_1 : List UInt8 := dkwX0_square_1 ++ dktX0_square_2
def dkwX0_square_0 : List UInt8 := [27, 184, 0, 96, 153, 0, 15, 28, 133, 9, 20, 0, 100, 184, 0, 5, 154, 0, 5, 2, 172, 28, 5]
abbrev dktX0_square_0 : List UInt8 := dkwX0_square_0 ++ dktX0_square_1
theorem dksX0_square_0 : cX0_square.data.toList.drop 0 = dktX0_square_0 := by decide +kernel
theorem dksX0_square_1 : cX0_square.data.toList.drop 23 = dktX0_square_1 := dk_seg dksX0_square_0 23 rfl rfl
theorem dksX0_square_2 : cX0_square.data.toList.drop 46 = dktX0_square_2 := dk_seg dksX0_square_1 23 rfl rfl
theorem dX0_square_0 : decode cX0_square 0 = .ok (.iload_n 1, 1) := dk_27 (dk_at dksX0_square_0 0 rfl rfl)
theorem dX0_square_1 : decode cX0_square 1 = .ok (.invokestatic 96, 3) := dk_184 0 96 (dk_at dksX0_square_0 1 rfl rfl)
theorem dX0_square_4 : decode cX0_square 4 = .ok (.ifCond .eq 15, 3) := dk_153 0 15 (dk_at dksX0_square_0 4 rfl rfl)
theorem dX0_square_7 : decode cX0_square 7 = .ok (.iload_n 2, 1) := dk_28 (dk_at dksX0_square_0 7 rfl rfl)
theorem dX0_square_8 : decode cX0_square 8 = .ok (.i2l, 1) := dk_133 (dk_at dksX0_square_0 8 rfl rfl)
theorem dX0_square_9 : decode cX0_square 9 = .ok (.lconst 0, 1) := dk_9 (dk_at dksX0_square_0 9 rfl rfl)
theorem dX0_square_10 : decode cX0_square 10 = .ok (.ldc2_w 100, 3) := dk_20 0 100 (dk_at dksX0_square_0 10 rfl rfl)
theorem dX0_square_13 : decode cX0_square 13 = .ok (.invokestatic 5, 3) := dk_184 0 5 (dk_at dksX0_square_0 13 rfl rfl)
theorem dX0_square_16 : decode cX0_square 16 = .ok (.ifCond .ne 5, 3) := dk_154 0 5 (dk_at dksX0_square_0 16 rfl rfl)
theorem dX0_square_19 : decode cX0_square 19 = .ok (.iconst (-1), 1) := dk_2 (dk_at dksX0_square_0 19 rfl rfl)
theorem dX0_square_20 : decode cX0_square 20 = .ok (.ireturn, 1) := dk_172 (dk_at dksX0_square_0 20 rfl rfl)
theorem dX0_square_21 : decode cX0_square 21 = .ok (.iload_n 2, 1) := dk_28 (dk_at dksX0_square_0 21 rfl rfl)
theorem dX0_square_22 : decode cX0_square 22 = .ok (.iconst 2, 1) := dk_5 (dk_at dksX0_square_0 22 rfl rfl)
theorem dX0_square_23 : decode cX0_square 23 = .ok (.if_icmp .ge 17, 3) := dk_162 0 17 (dk_at dksX0_square_1 0 rfl rfl)
theorem dX0_square_26 : decode cX0_square 26 = .ok (.aload_n 0, 1) := dk_42 (dk_at dksX0_square_1 3 rfl rfl)
theorem dX0_square_27 : decode cX0_square 27 = .ok (.getfield 35, 3) := dk_180 0 35 (dk_at dksX0_square_1 4 rfl rfl)
theorem dX0_square_30 : decode cX0_square 30 = .ok (.getfield 102, 3) := dk_180 0 102 (dk_at dksX0_square_1 7 rfl rfl)
theorem dX0_square_33 : decode cX0_square 33 = .ok (.iload_n 1, 1) := dk_27 (dk_at dksX0_square_1 10 rfl rfl)
theorem dX0_square_34 : decode cX0_square 34 = .ok (.aaload, 1) := dk_50 (dk_at dksX0_square_1 11 rfl rfl)
theorem dX0_square_35 : decode cX0_square 35 = .ok (.iload_n 2, 1) := dk_28 (dk_at dksX0_square_1 12 rfl rfl)
theorem dX0_square_36 : decode cX0_square 36 = .ok (.iaload, 1) := dk_46 (dk_at dksX0_square_1 13 rfl rfl)
theorem dX0_square_37 : decode cX0_square 37 = .ok (.goto 27, 3) := dk_167 0 27 (dk_at dksX0_square_1 14 rfl rfl)
theorem dX0_square_40 : decode cX0_square 40 = .ok (.iload_n 2, 1) := dk_28 (dk_at dksX0_square_1 17 rfl rfl)
theorem dX0_square_41 : decode cX0_square 41 = .ok (.iconst 2, 1) := dk_5 (dk_at dksX0_square_1 18 rfl rfl)
theorem dX0_square_42 : decode cX0_square 42 = .ok (.if_icmp .ne 14, 3) := dk_160 0 14 (dk_at dksX0_square_1 19 rfl rfl)
theorem dX0_square_45 : decode cX0_square 45 = .ok (.aload_n 0, 1) := dk_42 (dk_at dksX0_square_1 22 rfl rfl)
theorem dX0_square_46 : decode cX0_square 46 = .ok (.getfield 35, 3) := dk_180 0 35 (dk_at dksX0_square_2 0 rfl rfl)
theorem dX0_square_49 : decode cX0_square 49 = .ok (.iload_n 1, 1) := dk_27 (dk_at dksX0_square_2 3 rfl rfl)
theorem dX0_square_50 : decode cX0_square 50 = .ok (.invokevirtual 106, 3) := dk_182 0 106 (dk_at dksX0_square_2 4 rfl rfl)
theorem dX0_square_53 : decode cX0_square 53 = .ok (.goto 11, 3) := dk_167 0 11 (dk_at dksX0_square_2 7 rfl rfl)
theorem dX0_square_56 : decode cX0_square 56 = .ok (.aload_n 0, 1) := dk_42 (dk_at dksX0_square_2 10 rfl rfl)
theorem dX0_square_57 : decode cX0_square 57 = .ok (.getfield 35, 3) := dk_180 0 35 (dk_at dksX0_square_2 11 rfl rfl)
theorem dX0_square_60 : decode cX0_square 60 = .ok (.iload_n 1, 1) := dk_27 (dk_at dksX0_square_2 14 rfl rfl)
theorem dX0_square_61 : decode cX0_square 61 = .ok (.invokevirtual 110, 3) := dk_182 0 110 (dk_at dksX0_square_2 15 rfl rfl)
theorem dX0_square_64 : decode cX0_square 64 = .ok (.ireturn, 1) := dk_172 (dk_at dksX0_square_2 18 rfl rfl)
abbrev cX0_hand : ByteArray := prog_1_method_14_code
def yX0_hand : MethodName := ⟨RX0, "hand", "(II)I"⟩
def dkwX0_hand_2 : List UInt8 := [182, 0, 119, 172]
abbrev dktX0_hand_2 : List UInt8 := dkwX0_hand_2 ++ []
def dkwX0_hand_1 : List UInt8 := [162, 0, 17, 42, 180, 0, 35, 180, 0, 116, 27, 50, 28, 46, 167, 0, 11, 42, 180, 0, 35, 27]
abbrev dktX0_hand_1 : List UInt8 := dkwX0_hand_1 ++ dktX0_hand_2
def dkwX0_hand_0 : List UInt8 := [42, 27, 182, 0, 113, 153, 0, 15, 28, 133, 9, 20, 0, 100, 184, 0, 5, 154, 0, 5, 2, 172, 28, 6]
abbrev dktX0_hand_0 : List UInt8 := dkwX0_hand_0 ++ dktX0_hand_1
theorem dksX0_hand_0 : cX0_hand.data.toList.drop 0 = dktX0_hand_0 := by decide +kernel
theorem dksX0_hand_1 : cX0_hand.data.toList.drop 24 = dktX0_hand_1 := dk_seg dksX0_hand_0 24 rfl rfl
theorem dksX0_hand_2 : cX0_hand.data.toList.drop 46 = dktX0_hand_2 := dk_seg dksX0_hand_1 22 rfl rfl
theorem dX0_hand_0 : decode cX0_hand 0 = .ok (.aload_n 0, 1) := dk_42 (dk_at dksX0_hand_0 0 rfl rfl)
theorem dX0_hand_1 : decode cX0_hand 1 = .ok (.iload_n 1, 1) := dk_27 (dk_at dksX0_hand_0 1 rfl rfl)
theorem dX0_hand_2 : decode cX0_hand 2 = .ok (.invokevirtual 113, 3) := dk_182 0 113 (dk_at dksX0_hand_0 2 rfl rfl)
theorem dX0_hand_5 : decode cX0_hand 5 = .ok (.ifCond .eq 15, 3) := dk_153 0 15 (dk_at dksX0_hand_0 5 rfl rfl)
theorem dX0_hand_8 : decode cX0_hand 8 = .ok (.iload_n 2, 1) := dk_28 (dk_at dksX0_hand_0 8 rfl rfl)
theorem dX0_hand_9 : decode cX0_hand 9 = .ok (.i2l, 1) := dk_133 (dk_at dksX0_hand_0 9 rfl rfl)
theorem dX0_hand_10 : decode cX0_hand 10 = .ok (.lconst 0, 1) := dk_9 (dk_at dksX0_hand_0 10 rfl rfl)
theorem dX0_hand_11 : decode cX0_hand 11 = .ok (.ldc2_w 100, 3) := dk_20 0 100 (dk_at dksX0_hand_0 11 rfl rfl)
theorem dX0_hand_14 : decode cX0_hand 14 = .ok (.invokestatic 5, 3) := dk_184 0 5 (dk_at dksX0_hand_0 14 rfl rfl)
theorem dX0_hand_17 : decode cX0_hand 17 = .ok (.ifCond .ne 5, 3) := dk_154 0 5 (dk_at dksX0_hand_0 17 rfl rfl)
theorem dX0_hand_20 : decode cX0_hand 20 = .ok (.iconst (-1), 1) := dk_2 (dk_at dksX0_hand_0 20 rfl rfl)
theorem dX0_hand_21 : decode cX0_hand 21 = .ok (.ireturn, 1) := dk_172 (dk_at dksX0_hand_0 21 rfl rfl)
theorem dX0_hand_22 : decode cX0_hand 22 = .ok (.iload_n 2, 1) := dk_28 (dk_at dksX0_hand_0 22 rfl rfl)
theorem dX0_hand_23 : decode cX0_hand 23 = .ok (.iconst 3, 1) := dk_6 (dk_at dksX0_hand_0 23 rfl rfl)
theorem dX0_hand_24 : decode cX0_hand 24 = .ok (.if_icmp .ge 17, 3) := dk_162 0 17 (dk_at dksX0_hand_1 0 rfl rfl)
theorem dX0_hand_27 : decode cX0_hand 27 = .ok (.aload_n 0, 1) := dk_42 (dk_at dksX0_hand_1 3 rfl rfl)
theorem dX0_hand_28 : decode cX0_hand 28 = .ok (.getfield 35, 3) := dk_180 0 35 (dk_at dksX0_hand_1 4 rfl rfl)
theorem dX0_hand_31 : decode cX0_hand 31 = .ok (.getfield 116, 3) := dk_180 0 116 (dk_at dksX0_hand_1 7 rfl rfl)
theorem dX0_hand_34 : decode cX0_hand 34 = .ok (.iload_n 1, 1) := dk_27 (dk_at dksX0_hand_1 10 rfl rfl)
theorem dX0_hand_35 : decode cX0_hand 35 = .ok (.aaload, 1) := dk_50 (dk_at dksX0_hand_1 11 rfl rfl)
theorem dX0_hand_36 : decode cX0_hand 36 = .ok (.iload_n 2, 1) := dk_28 (dk_at dksX0_hand_1 12 rfl rfl)
theorem dX0_hand_37 : decode cX0_hand 37 = .ok (.iaload, 1) := dk_46 (dk_at dksX0_hand_1 13 rfl rfl)
theorem dX0_hand_38 : decode cX0_hand 38 = .ok (.goto 11, 3) := dk_167 0 11 (dk_at dksX0_hand_1 14 rfl rfl)
theorem dX0_hand_41 : decode cX0_hand 41 = .ok (.aload_n 0, 1) := dk_42 (dk_at dksX0_hand_1 17 rfl rfl)
theorem dX0_hand_42 : decode cX0_hand 42 = .ok (.getfield 35, 3) := dk_180 0 35 (dk_at dksX0_hand_1 18 rfl rfl)
theorem dX0_hand_45 : decode cX0_hand 45 = .ok (.iload_n 1, 1) := dk_27 (dk_at dksX0_hand_1 21 rfl rfl)
theorem dX0_hand_46 : decode cX0_hand 46 = .ok (.invokevirtual 119, 3) := dk_182 0 119 (dk_at dksX0_hand_2 0 rfl rfl)
theorem dX0_hand_49 : decode cX0_hand 49 = .ok (.ireturn, 1) := dk_172 (dk_at dksX0_hand_2 3 rfl rfl)
abbrev cX0_isHand : ByteArray := prog_1_method_8_code
def yX0_isHand : MethodName := ⟨RX0, "isHand", "(I)Z"⟩
def dkwX0_isHand_0 : List UInt8 := [27, 133, 9, 42, 180, 0, 35, 180, 0, 75, 4, 100, 133, 184, 0, 5, 172]
abbrev dktX0_isHand_0 : List UInt8 := dkwX0_isHand_0 ++ []
theorem dksX0_isHand_0 : cX0_isHand.data.toList.drop 0 = dktX0_isHand_0 := by decide +kernel
theorem dX0_isHand_0 : decode cX0_isHand 0 = .ok (.iload_n 1, 1) := dk_27 (dk_at dksX0_isHand_0 0 rfl rfl)
theorem dX0_isHand_1 : decode cX0_isHand 1 = .ok (.i2l, 1) := dk_133 (dk_at dksX0_isHand_0 1 rfl rfl)
theorem dX0_isHand_2 : decode cX0_isHand 2 = .ok (.lconst 0, 1) := dk_9 (dk_at dksX0_isHand_0 2 rfl rfl)
theorem dX0_isHand_3 : decode cX0_isHand 3 = .ok (.aload_n 0, 1) := dk_42 (dk_at dksX0_isHand_0 3 rfl rfl)
theorem dX0_isHand_4 : decode cX0_isHand 4 = .ok (.getfield 35, 3) := dk_180 0 35 (dk_at dksX0_isHand_0 4 rfl rfl)
theorem dX0_isHand_7 : decode cX0_isHand 7 = .ok (.getfield 75, 3) := dk_180 0 75 (dk_at dksX0_isHand_0 7 rfl rfl)
theorem dX0_isHand_10 : decode cX0_isHand 10 = .ok (.iconst 1, 1) := dk_4 (dk_at dksX0_isHand_0 10 rfl rfl)
theorem dX0_isHand_11 : decode cX0_isHand 11 = .ok (.isub, 1) := dk_100 (dk_at dksX0_isHand_0 11 rfl rfl)
theorem dX0_isHand_12 : decode cX0_isHand 12 = .ok (.i2l, 1) := dk_133 (dk_at dksX0_isHand_0 12 rfl rfl)
theorem dX0_isHand_13 : decode cX0_isHand 13 = .ok (.invokestatic 5, 3) := dk_184 0 5 (dk_at dksX0_isHand_0 13 rfl rfl)
theorem dX0_isHand_16 : decode cX0_isHand 16 = .ok (.ireturn, 1) := dk_172 (dk_at dksX0_isHand_0 16 rfl rfl)
abbrev cX0_minister : ByteArray := prog_1_method_15_code
def yX0_minister : MethodName := ⟨RX0, "minister", "(II)I"⟩
def dkwX0_minister_6 : List UInt8 := [160, 0, 7, 29, 167, 0, 5, 21, 4, 172]
abbrev dktX0_minister_6 : List UInt8 := dkwX0_minister_6 ++ []
def dkwX0_minister_5 : List UInt8 := [167, 255, 203, 28, 5, 162, 0, 17, 42, 180, 0, 35, 180, 0, 128, 27, 50, 28, 46, 167, 0, 14, 28, 5]
abbrev dktX0_minister_5 : List UInt8 := dkwX0_minister_5 ++ dktX0_minister_6
def dkwX0_minister_4 : List UInt8 := [180, 0, 35, 180, 0, 128, 27, 50, 3, 46, 182, 0, 135, 167, 0, 4, 3, 96, 54, 4, 132, 5, 1]
abbrev dktX0_minister_4 : List UInt8 := dkwX0_minister_4 ++ dktX0_minister_5
def dkwX0_minister_3 : List UInt8 := [180, 0, 75, 162, 0, 47, 21, 4, 29, 21, 5, 184, 0, 131, 153, 0, 26, 42, 180, 0, 35, 21, 5, 42]
abbrev dktX0_minister_3 : List UInt8 := dkwX0_minister_3 ++ dktX0_minister_4
def dkwX0_minister_2 : List UInt8 := [180, 0, 128, 27, 50, 4, 46, 182, 0, 106, 62, 3, 54, 4, 3, 54, 5, 21, 5, 42, 180, 0, 35]
abbrev dktX0_minister_2 : List UInt8 := dkwX0_minister_2 ++ dktX0_minister_3
def dkwX0_minister_1 : List UInt8 := [180, 0, 35, 27, 182, 0, 125, 153, 0, 7, 3, 167, 0, 21, 42, 180, 0, 35, 42, 180, 0, 35]
abbrev dktX0_minister_1 : List UInt8 := dkwX0_minister_1 ++ dktX0_minister_2
def dkwX0_minister_0 : List UInt8 := [42, 27, 182, 0, 122, 153, 0, 15, 28, 133, 9, 20, 0, 100, 184, 0, 5, 154, 0, 5, 2, 172, 42]
abbrev dktX0_minister_0 : List UInt8 := dkwX0_minister_0 ++ dktX0_minister_1
theorem dksX0_minister_0 : cX0_minister.data.toList.drop 0 = dktX0_minister_0 := by decide +kernel
theorem dksX0_minister_1 : cX0_minister.data.toList.drop 23 = dktX0_minister_1 := dk_seg dksX0_minister_0 23 rfl rfl
theorem dksX0_minister_2 : cX0_minister.data.toList.drop 45 = dktX0_minister_2 := dk_seg dksX0_minister_1 22 rfl rfl
theorem dksX0_minister_3 : cX0_minister.data.toList.drop 68 = dktX0_minister_3 := dk_seg dksX0_minister_2 23 rfl rfl
theorem dksX0_minister_4 : cX0_minister.data.toList.drop 92 = dktX0_minister_4 := dk_seg dksX0_minister_3 24 rfl rfl
theorem dksX0_minister_5 : cX0_minister.data.toList.drop 115 = dktX0_minister_5 := dk_seg dksX0_minister_4 23 rfl rfl
theorem dksX0_minister_6 : cX0_minister.data.toList.drop 139 = dktX0_minister_6 := dk_seg dksX0_minister_5 24 rfl rfl
theorem dX0_minister_0 : decode cX0_minister 0 = .ok (.aload_n 0, 1) := dk_42 (dk_at dksX0_minister_0 0 rfl rfl)
theorem dX0_minister_1 : decode cX0_minister 1 = .ok (.iload_n 1, 1) := dk_27 (dk_at dksX0_minister_0 1 rfl rfl)
theorem dX0_minister_2 : decode cX0_minister 2 = .ok (.invokevirtual 122, 3) := dk_182 0 122 (dk_at dksX0_minister_0 2 rfl rfl)
theorem dX0_minister_5 : decode cX0_minister 5 = .ok (.ifCond .eq 15, 3) := dk_153 0 15 (dk_at dksX0_minister_0 5 rfl rfl)
theorem dX0_minister_8 : decode cX0_minister 8 = .ok (.iload_n 2, 1) := dk_28 (dk_at dksX0_minister_0 8 rfl rfl)
theorem dX0_minister_9 : decode cX0_minister 9 = .ok (.i2l, 1) := dk_133 (dk_at dksX0_minister_0 9 rfl rfl)
theorem dX0_minister_10 : decode cX0_minister 10 = .ok (.lconst 0, 1) := dk_9 (dk_at dksX0_minister_0 10 rfl rfl)
theorem dX0_minister_11 : decode cX0_minister 11 = .ok (.ldc2_w 100, 3) := dk_20 0 100 (dk_at dksX0_minister_0 11 rfl rfl)
theorem dX0_minister_14 : decode cX0_minister 14 = .ok (.invokestatic 5, 3) := dk_184 0 5 (dk_at dksX0_minister_0 14 rfl rfl)
theorem dX0_minister_17 : decode cX0_minister 17 = .ok (.ifCond .ne 5, 3) := dk_154 0 5 (dk_at dksX0_minister_0 17 rfl rfl)
theorem dX0_minister_20 : decode cX0_minister 20 = .ok (.iconst (-1), 1) := dk_2 (dk_at dksX0_minister_0 20 rfl rfl)
theorem dX0_minister_21 : decode cX0_minister 21 = .ok (.ireturn, 1) := dk_172 (dk_at dksX0_minister_0 21 rfl rfl)
theorem dX0_minister_22 : decode cX0_minister 22 = .ok (.aload_n 0, 1) := dk_42 (dk_at dksX0_minister_0 22 rfl rfl)
theorem dX0_minister_23 : decode cX0_minister 23 = .ok (.getfield 35, 3) := dk_180 0 35 (dk_at dksX0_minister_1 0 rfl rfl)
theorem dX0_minister_26 : decode cX0_minister 26 = .ok (.iload_n 1, 1) := dk_27 (dk_at dksX0_minister_1 3 rfl rfl)
theorem dX0_minister_27 : decode cX0_minister 27 = .ok (.invokevirtual 125, 3) := dk_182 0 125 (dk_at dksX0_minister_1 4 rfl rfl)
theorem dX0_minister_30 : decode cX0_minister 30 = .ok (.ifCond .eq 7, 3) := dk_153 0 7 (dk_at dksX0_minister_1 7 rfl rfl)
theorem dX0_minister_33 : decode cX0_minister 33 = .ok (.iconst 0, 1) := dk_3 (dk_at dksX0_minister_1 10 rfl rfl)
theorem dX0_minister_34 : decode cX0_minister 34 = .ok (.goto 21, 3) := dk_167 0 21 (dk_at dksX0_minister_1 11 rfl rfl)
theorem dX0_minister_37 : decode cX0_minister 37 = .ok (.aload_n 0, 1) := dk_42 (dk_at dksX0_minister_1 14 rfl rfl)
theorem dX0_minister_38 : decode cX0_minister 38 = .ok (.getfield 35, 3) := dk_180 0 35 (dk_at dksX0_minister_1 15 rfl rfl)
theorem dX0_minister_41 : decode cX0_minister 41 = .ok (.aload_n 0, 1) := dk_42 (dk_at dksX0_minister_1 18 rfl rfl)
theorem dX0_minister_42 : decode cX0_minister 42 = .ok (.getfield 35, 3) := dk_180 0 35 (dk_at dksX0_minister_1 19 rfl rfl)
theorem dX0_minister_45 : decode cX0_minister 45 = .ok (.getfield 128, 3) := dk_180 0 128 (dk_at dksX0_minister_2 0 rfl rfl)
theorem dX0_minister_48 : decode cX0_minister 48 = .ok (.iload_n 1, 1) := dk_27 (dk_at dksX0_minister_2 3 rfl rfl)
theorem dX0_minister_49 : decode cX0_minister 49 = .ok (.aaload, 1) := dk_50 (dk_at dksX0_minister_2 4 rfl rfl)
theorem dX0_minister_50 : decode cX0_minister 50 = .ok (.iconst 1, 1) := dk_4 (dk_at dksX0_minister_2 5 rfl rfl)
theorem dX0_minister_51 : decode cX0_minister 51 = .ok (.iaload, 1) := dk_46 (dk_at dksX0_minister_2 6 rfl rfl)
theorem dX0_minister_52 : decode cX0_minister 52 = .ok (.invokevirtual 106, 3) := dk_182 0 106 (dk_at dksX0_minister_2 7 rfl rfl)
theorem dX0_minister_55 : decode cX0_minister 55 = .ok (.istore_n 3, 1) := dk_62 (dk_at dksX0_minister_2 10 rfl rfl)
theorem dX0_minister_56 : decode cX0_minister 56 = .ok (.iconst 0, 1) := dk_3 (dk_at dksX0_minister_2 11 rfl rfl)
theorem dX0_minister_57 : decode cX0_minister 57 = .ok (.istore 4, 2) := dk_54 4 (dk_at dksX0_minister_2 12 rfl rfl)
theorem dX0_minister_59 : decode cX0_minister 59 = .ok (.iconst 0, 1) := dk_3 (dk_at dksX0_minister_2 14 rfl rfl)
theorem dX0_minister_60 : decode cX0_minister 60 = .ok (.istore 5, 2) := dk_54 5 (dk_at dksX0_minister_2 15 rfl rfl)
theorem dX0_minister_62 : decode cX0_minister 62 = .ok (.iload 5, 2) := dk_21 5 (dk_at dksX0_minister_2 17 rfl rfl)
theorem dX0_minister_64 : decode cX0_minister 64 = .ok (.aload_n 0, 1) := dk_42 (dk_at dksX0_minister_2 19 rfl rfl)
theorem dX0_minister_65 : decode cX0_minister 65 = .ok (.getfield 35, 3) := dk_180 0 35 (dk_at dksX0_minister_2 20 rfl rfl)
theorem dX0_minister_68 : decode cX0_minister 68 = .ok (.getfield 75, 3) := dk_180 0 75 (dk_at dksX0_minister_3 0 rfl rfl)
theorem dX0_minister_71 : decode cX0_minister 71 = .ok (.if_icmp .ge 47, 3) := dk_162 0 47 (dk_at dksX0_minister_3 3 rfl rfl)
theorem dX0_minister_74 : decode cX0_minister 74 = .ok (.iload 4, 2) := dk_21 4 (dk_at dksX0_minister_3 6 rfl rfl)
theorem dX0_minister_76 : decode cX0_minister 76 = .ok (.iload_n 3, 1) := dk_29 (dk_at dksX0_minister_3 8 rfl rfl)
theorem dX0_minister_77 : decode cX0_minister 77 = .ok (.iload 5, 2) := dk_21 5 (dk_at dksX0_minister_3 9 rfl rfl)
theorem dX0_minister_79 : decode cX0_minister 79 = .ok (.invokestatic 131, 3) := dk_184 0 131 (dk_at dksX0_minister_3 11 rfl rfl)
theorem dX0_minister_82 : decode cX0_minister 82 = .ok (.ifCond .eq 26, 3) := dk_153 0 26 (dk_at dksX0_minister_3 14 rfl rfl)
theorem dX0_minister_85 : decode cX0_minister 85 = .ok (.aload_n 0, 1) := dk_42 (dk_at dksX0_minister_3 17 rfl rfl)
theorem dX0_minister_86 : decode cX0_minister 86 = .ok (.getfield 35, 3) := dk_180 0 35 (dk_at dksX0_minister_3 18 rfl rfl)
theorem dX0_minister_89 : decode cX0_minister 89 = .ok (.iload 5, 2) := dk_21 5 (dk_at dksX0_minister_3 21 rfl rfl)
theorem dX0_minister_91 : decode cX0_minister 91 = .ok (.aload_n 0, 1) := dk_42 (dk_at dksX0_minister_3 23 rfl rfl)
theorem dX0_minister_92 : decode cX0_minister 92 = .ok (.getfield 35, 3) := dk_180 0 35 (dk_at dksX0_minister_4 0 rfl rfl)
theorem dX0_minister_95 : decode cX0_minister 95 = .ok (.getfield 128, 3) := dk_180 0 128 (dk_at dksX0_minister_4 3 rfl rfl)
theorem dX0_minister_98 : decode cX0_minister 98 = .ok (.iload_n 1, 1) := dk_27 (dk_at dksX0_minister_4 6 rfl rfl)
theorem dX0_minister_99 : decode cX0_minister 99 = .ok (.aaload, 1) := dk_50 (dk_at dksX0_minister_4 7 rfl rfl)
theorem dX0_minister_100 : decode cX0_minister 100 = .ok (.iconst 0, 1) := dk_3 (dk_at dksX0_minister_4 8 rfl rfl)
theorem dX0_minister_101 : decode cX0_minister 101 = .ok (.iaload, 1) := dk_46 (dk_at dksX0_minister_4 9 rfl rfl)
theorem dX0_minister_102 : decode cX0_minister 102 = .ok (.invokevirtual 135, 3) := dk_182 0 135 (dk_at dksX0_minister_4 10 rfl rfl)
theorem dX0_minister_105 : decode cX0_minister 105 = .ok (.goto 4, 3) := dk_167 0 4 (dk_at dksX0_minister_4 13 rfl rfl)
theorem dX0_minister_108 : decode cX0_minister 108 = .ok (.iconst 0, 1) := dk_3 (dk_at dksX0_minister_4 16 rfl rfl)
theorem dX0_minister_109 : decode cX0_minister 109 = .ok (.iadd, 1) := dk_96 (dk_at dksX0_minister_4 17 rfl rfl)
theorem dX0_minister_110 : decode cX0_minister 110 = .ok (.istore 4, 2) := dk_54 4 (dk_at dksX0_minister_4 18 rfl rfl)
theorem dX0_minister_112 : decode cX0_minister 112 = .ok (.iinc 5 1, 3) := dk_132 5 1 (dk_at dksX0_minister_4 20 rfl rfl)
theorem dX0_minister_115 : decode cX0_minister 115 = .ok (.goto (-53), 3) := dk_167 255 203 (dk_at dksX0_minister_5 0 rfl rfl)
theorem dX0_minister_118 : decode cX0_minister 118 = .ok (.iload_n 2, 1) := dk_28 (dk_at dksX0_minister_5 3 rfl rfl)
theorem dX0_minister_119 : decode cX0_minister 119 = .ok (.iconst 2, 1) := dk_5 (dk_at dksX0_minister_5 4 rfl rfl)
theorem dX0_minister_120 : decode cX0_minister 120 = .ok (.if_icmp .ge 17, 3) := dk_162 0 17 (dk_at dksX0_minister_5 5 rfl rfl)
theorem dX0_minister_123 : decode cX0_minister 123 = .ok (.aload_n 0, 1) := dk_42 (dk_at dksX0_minister_5 8 rfl rfl)
theorem dX0_minister_124 : decode cX0_minister 124 = .ok (.getfield 35, 3) := dk_180 0 35 (dk_at dksX0_minister_5 9 rfl rfl)
theorem dX0_minister_127 : decode cX0_minister 127 = .ok (.getfield 128, 3) := dk_180 0 128 (dk_at dksX0_minister_5 12 rfl rfl)
theorem dX0_minister_130 : decode cX0_minister 130 = .ok (.iload_n 1, 1) := dk_27 (dk_at dksX0_minister_5 15 rfl rfl)
theorem dX0_minister_131 : decode cX0_minister 131 = .ok (.aaload, 1) := dk_50 (dk_at dksX0_minister_5 16 rfl rfl)
theorem dX0_minister_132 : decode cX0_minister 132 = .ok (.iload_n 2, 1) := dk_28 (dk_at dksX0_minister_5 17 rfl rfl)
theorem dX0_minister_133 : decode cX0_minister 133 = .ok (.iaload, 1) := dk_46 (dk_at dksX0_minister_5 18 rfl rfl)
theorem dX0_minister_134 : decode cX0_minister 134 = .ok (.goto 14, 3) := dk_167 0 14 (dk_at dksX0_minister_5 19 rfl rfl)
theorem dX0_minister_137 : decode cX0_minister 137 = .ok (.iload_n 2, 1) := dk_28 (dk_at dksX0_minister_5 22 rfl rfl)
theorem dX0_minister_138 : decode cX0_minister 138 = .ok (.iconst 2, 1) := dk_5 (dk_at dksX0_minister_5 23 rfl rfl)
theorem dX0_minister_139 : decode cX0_minister 139 = .ok (.if_icmp .ne 7, 3) := dk_160 0 7 (dk_at dksX0_minister_6 0 rfl rfl)
theorem dX0_minister_142 : decode cX0_minister 142 = .ok (.iload_n 3, 1) := dk_29 (dk_at dksX0_minister_6 3 rfl rfl)
theorem dX0_minister_143 : decode cX0_minister 143 = .ok (.goto 5, 3) := dk_167 0 5 (dk_at dksX0_minister_6 4 rfl rfl)
theorem dX0_minister_146 : decode cX0_minister 146 = .ok (.iload 4, 2) := dk_21 4 (dk_at dksX0_minister_6 7 rfl rfl)
theorem dX0_minister_148 : decode cX0_minister 148 = .ok (.ireturn, 1) := dk_172 (dk_at dksX0_minister_6 9 rfl rfl)
abbrev cX0_isMinister : ByteArray := prog_1_method_9_code
def yX0_isMinister : MethodName := ⟨RX0, "isMinister", "(I)Z"⟩
def dkwX0_isMinister_0 : List UInt8 := [27, 133, 9, 42, 180, 0, 35, 180, 0, 78, 4, 100, 133, 184, 0, 5, 172]
abbrev dktX0_isMinister_0 : List UInt8 := dkwX0_isMinister_0 ++ []
theorem dksX0_isMinister_0 : cX0_isMinister.data.toList.drop 0 = dktX0_isMinister_0 := by decide +kernel
theorem dX0_isMinister_0 : decode cX0_isMinister 0 = .ok (.iload_n 1, 1) := dk_27 (dk_at dksX0_isMinister_0 0 rfl rfl)
theorem dX0_isMinister_1 : decode cX0_isMinister 1 = .ok (.i2l, 1) := dk_133 (dk_at dksX0_isMinister_0 1 rfl rfl)
theorem dX0_isMinister_2 : decode cX0_isMinister 2 = .ok (.lconst 0, 1) := dk_9 (dk_at dksX0_isMinister_0 2 rfl rfl)
theorem dX0_isMinister_3 : decode cX0_isMinister 3 = .ok (.aload_n 0, 1) := dk_42 (dk_at dksX0_isMinister_0 3 rfl rfl)
theorem dX0_isMinister_4 : decode cX0_isMinister 4 = .ok (.getfield 35, 3) := dk_180 0 35 (dk_at dksX0_isMinister_0 4 rfl rfl)
theorem dX0_isMinister_7 : decode cX0_isMinister 7 = .ok (.getfield 78, 3) := dk_180 0 78 (dk_at dksX0_isMinister_0 7 rfl rfl)
theorem dX0_isMinister_10 : decode cX0_isMinister 10 = .ok (.iconst 1, 1) := dk_4 (dk_at dksX0_isMinister_0 10 rfl rfl)
theorem dX0_isMinister_11 : decode cX0_isMinister 11 = .ok (.isub, 1) := dk_100 (dk_at dksX0_isMinister_0 11 rfl rfl)
theorem dX0_isMinister_12 : decode cX0_isMinister 12 = .ok (.i2l, 1) := dk_133 (dk_at dksX0_isMinister_0 12 rfl rfl)
theorem dX0_isMinister_13 : decode cX0_isMinister 13 = .ok (.invokestatic 5, 3) := dk_184 0 5 (dk_at dksX0_isMinister_0 13 rfl rfl)
theorem dX0_isMinister_16 : decode cX0_isMinister 16 = .ok (.ireturn, 1) := dk_172 (dk_at dksX0_isMinister_0 16 rfl rfl)
abbrev cX0_alter : ByteArray := prog_1_method_18_code
def yX0_alter : MethodName := ⟨RX0, "alter", "(III)I"⟩
def dkwX0_alter_0 : List UInt8 := [42, 27, 28, 29, 182, 0, 144, 172]
abbrev dktX0_alter_0 : List UInt8 := dkwX0_alter_0 ++ []
theorem dksX0_alter_0 : cX0_alter.data.toList.drop 0 = dktX0_alter_0 := by decide +kernel
theorem dX0_alter_0 : decode cX0_alter 0 = .ok (.aload_n 0, 1) := dk_42 (dk_at dksX0_alter_0 0 rfl rfl)
theorem dX0_alter_1 : decode cX0_alter 1 = .ok (.iload_n 1, 1) := dk_27 (dk_at dksX0_alter_0 1 rfl rfl)
theorem dX0_alter_2 : decode cX0_alter 2 = .ok (.iload_n 2, 1) := dk_28 (dk_at dksX0_alter_0 2 rfl rfl)
theorem dX0_alter_3 : decode cX0_alter 3 = .ok (.iload_n 3, 1) := dk_29 (dk_at dksX0_alter_0 3 rfl rfl)
theorem dX0_alter_4 : decode cX0_alter 4 = .ok (.invokevirtual 144, 3) := dk_182 0 144 (dk_at dksX0_alter_0 4 rfl rfl)
theorem dX0_alter_7 : decode cX0_alter 7 = .ok (.ireturn, 1) := dk_172 (dk_at dksX0_alter_0 7 rfl rfl)
abbrev cX0_altered : ByteArray := prog_1_method_17_code
def yX0_altered : MethodName := ⟨RX0, "altered", "(III)I"⟩
def dkwX0_altered_1 : List UInt8 := [180, 0, 116, 27, 50, 28, 46, 54, 4, 42, 180, 0, 35, 180, 0, 116, 27, 50, 28, 29, 79, 21, 4, 172]
abbrev dktX0_altered_1 : List UInt8 := dkwX0_altered_1 ++ []
def dkwX0_altered_0 : List UInt8 := [42, 27, 182, 0, 113, 153, 0, 11, 28, 29, 184, 0, 141, 154, 0, 5, 2, 172, 42, 180, 0, 35]
abbrev dktX0_altered_0 : List UInt8 := dkwX0_altered_0 ++ dktX0_altered_1
theorem dksX0_altered_0 : cX0_altered.data.toList.drop 0 = dktX0_altered_0 := by decide +kernel
theorem dksX0_altered_1 : cX0_altered.data.toList.drop 22 = dktX0_altered_1 := dk_seg dksX0_altered_0 22 rfl rfl
theorem dX0_altered_0 : decode cX0_altered 0 = .ok (.aload_n 0, 1) := dk_42 (dk_at dksX0_altered_0 0 rfl rfl)
theorem dX0_altered_1 : decode cX0_altered 1 = .ok (.iload_n 1, 1) := dk_27 (dk_at dksX0_altered_0 1 rfl rfl)
theorem dX0_altered_2 : decode cX0_altered 2 = .ok (.invokevirtual 113, 3) := dk_182 0 113 (dk_at dksX0_altered_0 2 rfl rfl)
theorem dX0_altered_5 : decode cX0_altered 5 = .ok (.ifCond .eq 11, 3) := dk_153 0 11 (dk_at dksX0_altered_0 5 rfl rfl)
theorem dX0_altered_8 : decode cX0_altered 8 = .ok (.iload_n 2, 1) := dk_28 (dk_at dksX0_altered_0 8 rfl rfl)
theorem dX0_altered_9 : decode cX0_altered 9 = .ok (.iload_n 3, 1) := dk_29 (dk_at dksX0_altered_0 9 rfl rfl)
theorem dX0_altered_10 : decode cX0_altered 10 = .ok (.invokestatic 141, 3) := dk_184 0 141 (dk_at dksX0_altered_0 10 rfl rfl)
theorem dX0_altered_13 : decode cX0_altered 13 = .ok (.ifCond .ne 5, 3) := dk_154 0 5 (dk_at dksX0_altered_0 13 rfl rfl)
theorem dX0_altered_16 : decode cX0_altered 16 = .ok (.iconst (-1), 1) := dk_2 (dk_at dksX0_altered_0 16 rfl rfl)
theorem dX0_altered_17 : decode cX0_altered 17 = .ok (.ireturn, 1) := dk_172 (dk_at dksX0_altered_0 17 rfl rfl)
theorem dX0_altered_18 : decode cX0_altered 18 = .ok (.aload_n 0, 1) := dk_42 (dk_at dksX0_altered_0 18 rfl rfl)
theorem dX0_altered_19 : decode cX0_altered 19 = .ok (.getfield 35, 3) := dk_180 0 35 (dk_at dksX0_altered_0 19 rfl rfl)
theorem dX0_altered_22 : decode cX0_altered 22 = .ok (.getfield 116, 3) := dk_180 0 116 (dk_at dksX0_altered_1 0 rfl rfl)
theorem dX0_altered_25 : decode cX0_altered 25 = .ok (.iload_n 1, 1) := dk_27 (dk_at dksX0_altered_1 3 rfl rfl)
theorem dX0_altered_26 : decode cX0_altered 26 = .ok (.aaload, 1) := dk_50 (dk_at dksX0_altered_1 4 rfl rfl)
theorem dX0_altered_27 : decode cX0_altered 27 = .ok (.iload_n 2, 1) := dk_28 (dk_at dksX0_altered_1 5 rfl rfl)
theorem dX0_altered_28 : decode cX0_altered 28 = .ok (.iaload, 1) := dk_46 (dk_at dksX0_altered_1 6 rfl rfl)
theorem dX0_altered_29 : decode cX0_altered 29 = .ok (.istore 4, 2) := dk_54 4 (dk_at dksX0_altered_1 7 rfl rfl)
theorem dX0_altered_31 : decode cX0_altered 31 = .ok (.aload_n 0, 1) := dk_42 (dk_at dksX0_altered_1 9 rfl rfl)
theorem dX0_altered_32 : decode cX0_altered 32 = .ok (.getfield 35, 3) := dk_180 0 35 (dk_at dksX0_altered_1 10 rfl rfl)
theorem dX0_altered_35 : decode cX0_altered 35 = .ok (.getfield 116, 3) := dk_180 0 116 (dk_at dksX0_altered_1 13 rfl rfl)
theorem dX0_altered_38 : decode cX0_altered 38 = .ok (.iload_n 1, 1) := dk_27 (dk_at dksX0_altered_1 16 rfl rfl)
theorem dX0_altered_39 : decode cX0_altered 39 = .ok (.aaload, 1) := dk_50 (dk_at dksX0_altered_1 17 rfl rfl)
theorem dX0_altered_40 : decode cX0_altered 40 = .ok (.iload_n 2, 1) := dk_28 (dk_at dksX0_altered_1 18 rfl rfl)
theorem dX0_altered_41 : decode cX0_altered 41 = .ok (.iload_n 3, 1) := dk_29 (dk_at dksX0_altered_1 19 rfl rfl)
theorem dX0_altered_42 : decode cX0_altered 42 = .ok (.iastore, 1) := dk_79 (dk_at dksX0_altered_1 20 rfl rfl)
theorem dX0_altered_43 : decode cX0_altered 43 = .ok (.iload 4, 2) := dk_21 4 (dk_at dksX0_altered_1 21 rfl rfl)
theorem dX0_altered_45 : decode cX0_altered 45 = .ok (.ireturn, 1) := dk_172 (dk_at dksX0_altered_1 23 rfl rfl)
abbrev cX0_isGood : ByteArray := prog_1_method_16_code
def yX0_isGood : MethodName := ⟨RX0, "isGood", "(II)Z"⟩
def dkwX0_isGood_3 : List UInt8 := [172, 3, 172]
abbrev dktX0_isGood_3 : List UInt8 := dkwX0_isGood_3 ++ []
def dkwX0_isGood_2 : List UInt8 := [27, 133, 9, 20, 0, 100, 184, 0, 5, 172, 27, 184, 0, 96, 172, 27, 133, 9, 20, 0, 139, 184, 0, 5]
abbrev dktX0_isGood_2 : List UInt8 := dkwX0_isGood_2 ++ dktX0_isGood_3
def dkwX0_isGood_1 : List UInt8 := [170, 0, 0, 0, 0, 0, 52, 0, 0, 0, 0, 0, 0, 0, 2, 0, 0, 0, 27, 0, 0, 0, 37, 0, 0, 0, 42]
abbrev dktX0_isGood_1 : List UInt8 := dkwX0_isGood_1 ++ dktX0_isGood_2
def dkwX0_isGood_0 : List UInt8 := [26]
abbrev dktX0_isGood_0 : List UInt8 := dkwX0_isGood_0 ++ dktX0_isGood_1
theorem dksX0_isGood_0 : cX0_isGood.data.toList.drop 0 = dktX0_isGood_0 := by decide +kernel
theorem dksX0_isGood_1 : cX0_isGood.data.toList.drop 1 = dktX0_isGood_1 := dk_seg dksX0_isGood_0 1 rfl rfl
theorem dksX0_isGood_2 : cX0_isGood.data.toList.drop 28 = dktX0_isGood_2 := dk_seg dksX0_isGood_1 27 rfl rfl
theorem dksX0_isGood_3 : cX0_isGood.data.toList.drop 52 = dktX0_isGood_3 := dk_seg dksX0_isGood_2 24 rfl rfl
theorem dX0_isGood_0 : decode cX0_isGood 0 = .ok (.iload_n 0, 1) := dk_26 (dk_at dksX0_isGood_0 0 rfl rfl)
theorem dX0_isGood_1 : decode cX0_isGood 1 = .ok (.tableswitch 52 0 2 #[27, 37, 42], 27) := by decide +kernel
theorem dX0_isGood_28 : decode cX0_isGood 28 = .ok (.iload_n 1, 1) := dk_27 (dk_at dksX0_isGood_2 0 rfl rfl)
theorem dX0_isGood_29 : decode cX0_isGood 29 = .ok (.i2l, 1) := dk_133 (dk_at dksX0_isGood_2 1 rfl rfl)
theorem dX0_isGood_30 : decode cX0_isGood 30 = .ok (.lconst 0, 1) := dk_9 (dk_at dksX0_isGood_2 2 rfl rfl)
theorem dX0_isGood_31 : decode cX0_isGood 31 = .ok (.ldc2_w 100, 3) := dk_20 0 100 (dk_at dksX0_isGood_2 3 rfl rfl)
theorem dX0_isGood_34 : decode cX0_isGood 34 = .ok (.invokestatic 5, 3) := dk_184 0 5 (dk_at dksX0_isGood_2 6 rfl rfl)
theorem dX0_isGood_37 : decode cX0_isGood 37 = .ok (.ireturn, 1) := dk_172 (dk_at dksX0_isGood_2 9 rfl rfl)
theorem dX0_isGood_38 : decode cX0_isGood 38 = .ok (.iload_n 1, 1) := dk_27 (dk_at dksX0_isGood_2 10 rfl rfl)
theorem dX0_isGood_39 : decode cX0_isGood 39 = .ok (.invokestatic 96, 3) := dk_184 0 96 (dk_at dksX0_isGood_2 11 rfl rfl)
theorem dX0_isGood_42 : decode cX0_isGood 42 = .ok (.ireturn, 1) := dk_172 (dk_at dksX0_isGood_2 14 rfl rfl)
theorem dX0_isGood_43 : decode cX0_isGood 43 = .ok (.iload_n 1, 1) := dk_27 (dk_at dksX0_isGood_2 15 rfl rfl)
theorem dX0_isGood_44 : decode cX0_isGood 44 = .ok (.i2l, 1) := dk_133 (dk_at dksX0_isGood_2 16 rfl rfl)
theorem dX0_isGood_45 : decode cX0_isGood 45 = .ok (.lconst 0, 1) := dk_9 (dk_at dksX0_isGood_2 17 rfl rfl)
theorem dX0_isGood_46 : decode cX0_isGood 46 = .ok (.ldc2_w 139, 3) := dk_20 0 139 (dk_at dksX0_isGood_2 18 rfl rfl)
theorem dX0_isGood_49 : decode cX0_isGood 49 = .ok (.invokestatic 5, 3) := dk_184 0 5 (dk_at dksX0_isGood_2 21 rfl rfl)
theorem dX0_isGood_52 : decode cX0_isGood 52 = .ok (.ireturn, 1) := dk_172 (dk_at dksX0_isGood_3 0 rfl rfl)
theorem dX0_isGood_53 : decode cX0_isGood 53 = .ok (.iconst 0, 1) := dk_3 (dk_at dksX0_isGood_3 1 rfl rfl)
theorem dX0_isGood_54 : decode cX0_isGood 54 = .ok (.ireturn, 1) := dk_172 (dk_at dksX0_isGood_3 2 rfl rfl)
abbrev cX0_tread : ByteArray := prog_1_method_19_code
def yX0_tread : MethodName := ⟨RX0, "tread", "(II)I"⟩
def dkwX0_tread_2 : List UInt8 := [172]
abbrev dktX0_tread_2 : List UInt8 := dkwX0_tread_2 ++ []
def dkwX0_tread_1 : List UInt8 := [180, 0, 35, 180, 0, 128, 27, 50, 3, 46, 62, 42, 180, 0, 35, 180, 0, 128, 27, 50, 3, 28, 79, 29]
abbrev dktX0_tread_1 : List UInt8 := dkwX0_tread_1 ++ dktX0_tread_2
def dkwX0_tread_0 : List UInt8 := [42, 27, 182, 0, 122, 153, 0, 15, 28, 133, 9, 20, 0, 148, 184, 0, 5, 154, 0, 5, 2, 172, 42]
abbrev dktX0_tread_0 : List UInt8 := dkwX0_tread_0 ++ dktX0_tread_1
theorem dksX0_tread_0 : cX0_tread.data.toList.drop 0 = dktX0_tread_0 := by decide +kernel
theorem dksX0_tread_1 : cX0_tread.data.toList.drop 23 = dktX0_tread_1 := dk_seg dksX0_tread_0 23 rfl rfl
theorem dksX0_tread_2 : cX0_tread.data.toList.drop 47 = dktX0_tread_2 := dk_seg dksX0_tread_1 24 rfl rfl
theorem dX0_tread_0 : decode cX0_tread 0 = .ok (.aload_n 0, 1) := dk_42 (dk_at dksX0_tread_0 0 rfl rfl)
theorem dX0_tread_1 : decode cX0_tread 1 = .ok (.iload_n 1, 1) := dk_27 (dk_at dksX0_tread_0 1 rfl rfl)
theorem dX0_tread_2 : decode cX0_tread 2 = .ok (.invokevirtual 122, 3) := dk_182 0 122 (dk_at dksX0_tread_0 2 rfl rfl)
theorem dX0_tread_5 : decode cX0_tread 5 = .ok (.ifCond .eq 15, 3) := dk_153 0 15 (dk_at dksX0_tread_0 5 rfl rfl)
theorem dX0_tread_8 : decode cX0_tread 8 = .ok (.iload_n 2, 1) := dk_28 (dk_at dksX0_tread_0 8 rfl rfl)
theorem dX0_tread_9 : decode cX0_tread 9 = .ok (.i2l, 1) := dk_133 (dk_at dksX0_tread_0 9 rfl rfl)
theorem dX0_tread_10 : decode cX0_tread 10 = .ok (.lconst 0, 1) := dk_9 (dk_at dksX0_tread_0 10 rfl rfl)
theorem dX0_tread_11 : decode cX0_tread 11 = .ok (.ldc2_w 148, 3) := dk_20 0 148 (dk_at dksX0_tread_0 11 rfl rfl)
theorem dX0_tread_14 : decode cX0_tread 14 = .ok (.invokestatic 5, 3) := dk_184 0 5 (dk_at dksX0_tread_0 14 rfl rfl)
theorem dX0_tread_17 : decode cX0_tread 17 = .ok (.ifCond .ne 5, 3) := dk_154 0 5 (dk_at dksX0_tread_0 17 rfl rfl)
theorem dX0_tread_20 : decode cX0_tread 20 = .ok (.iconst (-1), 1) := dk_2 (dk_at dksX0_tread_0 20 rfl rfl)
theorem dX0_tread_21 : decode cX0_tread 21 = .ok (.ireturn, 1) := dk_172 (dk_at dksX0_tread_0 21 rfl rfl)
theorem dX0_tread_22 : decode cX0_tread 22 = .ok (.aload_n 0, 1) := dk_42 (dk_at dksX0_tread_0 22 rfl rfl)
theorem dX0_tread_23 : decode cX0_tread 23 = .ok (.getfield 35, 3) := dk_180 0 35 (dk_at dksX0_tread_1 0 rfl rfl)
theorem dX0_tread_26 : decode cX0_tread 26 = .ok (.getfield 128, 3) := dk_180 0 128 (dk_at dksX0_tread_1 3 rfl rfl)
theorem dX0_tread_29 : decode cX0_tread 29 = .ok (.iload_n 1, 1) := dk_27 (dk_at dksX0_tread_1 6 rfl rfl)
theorem dX0_tread_30 : decode cX0_tread 30 = .ok (.aaload, 1) := dk_50 (dk_at dksX0_tread_1 7 rfl rfl)
theorem dX0_tread_31 : decode cX0_tread 31 = .ok (.iconst 0, 1) := dk_3 (dk_at dksX0_tread_1 8 rfl rfl)
theorem dX0_tread_32 : decode cX0_tread 32 = .ok (.iaload, 1) := dk_46 (dk_at dksX0_tread_1 9 rfl rfl)
theorem dX0_tread_33 : decode cX0_tread 33 = .ok (.istore_n 3, 1) := dk_62 (dk_at dksX0_tread_1 10 rfl rfl)
theorem dX0_tread_34 : decode cX0_tread 34 = .ok (.aload_n 0, 1) := dk_42 (dk_at dksX0_tread_1 11 rfl rfl)
theorem dX0_tread_35 : decode cX0_tread 35 = .ok (.getfield 35, 3) := dk_180 0 35 (dk_at dksX0_tread_1 12 rfl rfl)
theorem dX0_tread_38 : decode cX0_tread 38 = .ok (.getfield 128, 3) := dk_180 0 128 (dk_at dksX0_tread_1 15 rfl rfl)
theorem dX0_tread_41 : decode cX0_tread 41 = .ok (.iload_n 1, 1) := dk_27 (dk_at dksX0_tread_1 18 rfl rfl)
theorem dX0_tread_42 : decode cX0_tread 42 = .ok (.aaload, 1) := dk_50 (dk_at dksX0_tread_1 19 rfl rfl)
theorem dX0_tread_43 : decode cX0_tread 43 = .ok (.iconst 0, 1) := dk_3 (dk_at dksX0_tread_1 20 rfl rfl)
theorem dX0_tread_44 : decode cX0_tread 44 = .ok (.iload_n 2, 1) := dk_28 (dk_at dksX0_tread_1 21 rfl rfl)
theorem dX0_tread_45 : decode cX0_tread 45 = .ok (.iastore, 1) := dk_79 (dk_at dksX0_tread_1 22 rfl rfl)
theorem dX0_tread_46 : decode cX0_tread 46 = .ok (.iload_n 3, 1) := dk_29 (dk_at dksX0_tread_1 23 rfl rfl)
theorem dX0_tread_47 : decode cX0_tread 47 = .ok (.ireturn, 1) := dk_172 (dk_at dksX0_tread_2 0 rfl rfl)
abbrev cX0_step : ByteArray := prog_1_method_20_code
def yX0_step : MethodName := ⟨RX0, "step", "(II)I"⟩
def dkwX0_step_2 : List UInt8 := [160, 0, 8, 16, 252, 167, 0, 4, 28, 79, 29, 172]
abbrev dktX0_step_2 : List UInt8 := dkwX0_step_2 ++ []
def dkwX0_step_1 : List UInt8 := [180, 0, 35, 180, 0, 128, 27, 50, 4, 46, 62, 42, 180, 0, 35, 180, 0, 128, 27, 50, 4, 28, 16, 9]
abbrev dktX0_step_1 : List UInt8 := dkwX0_step_1 ++ dktX0_step_2
def dkwX0_step_0 : List UInt8 := [42, 27, 182, 0, 122, 153, 0, 16, 28, 184, 0, 96, 154, 0, 11, 28, 16, 9, 159, 0, 5, 2, 172, 42]
abbrev dktX0_step_0 : List UInt8 := dkwX0_step_0 ++ dktX0_step_1
theorem dksX0_step_0 : cX0_step.data.toList.drop 0 = dktX0_step_0 := by decide +kernel
theorem dksX0_step_1 : cX0_step.data.toList.drop 24 = dktX0_step_1 := dk_seg dksX0_step_0 24 rfl rfl
theorem dksX0_step_2 : cX0_step.data.toList.drop 48 = dktX0_step_2 := dk_seg dksX0_step_1 24 rfl rfl
theorem dX0_step_0 : decode cX0_step 0 = .ok (.aload_n 0, 1) := dk_42 (dk_at dksX0_step_0 0 rfl rfl)
theorem dX0_step_1 : decode cX0_step 1 = .ok (.iload_n 1, 1) := dk_27 (dk_at dksX0_step_0 1 rfl rfl)
theorem dX0_step_2 : decode cX0_step 2 = .ok (.invokevirtual 122, 3) := dk_182 0 122 (dk_at dksX0_step_0 2 rfl rfl)
theorem dX0_step_5 : decode cX0_step 5 = .ok (.ifCond .eq 16, 3) := dk_153 0 16 (dk_at dksX0_step_0 5 rfl rfl)
theorem dX0_step_8 : decode cX0_step 8 = .ok (.iload_n 2, 1) := dk_28 (dk_at dksX0_step_0 8 rfl rfl)
theorem dX0_step_9 : decode cX0_step 9 = .ok (.invokestatic 96, 3) := dk_184 0 96 (dk_at dksX0_step_0 9 rfl rfl)
theorem dX0_step_12 : decode cX0_step 12 = .ok (.ifCond .ne 11, 3) := dk_154 0 11 (dk_at dksX0_step_0 12 rfl rfl)
theorem dX0_step_15 : decode cX0_step 15 = .ok (.iload_n 2, 1) := dk_28 (dk_at dksX0_step_0 15 rfl rfl)
theorem dX0_step_16 : decode cX0_step 16 = .ok (.bipush 9, 2) := dk_16 9 (dk_at dksX0_step_0 16 rfl rfl)
theorem dX0_step_18 : decode cX0_step 18 = .ok (.if_icmp .eq 5, 3) := dk_159 0 5 (dk_at dksX0_step_0 18 rfl rfl)
theorem dX0_step_21 : decode cX0_step 21 = .ok (.iconst (-1), 1) := dk_2 (dk_at dksX0_step_0 21 rfl rfl)
theorem dX0_step_22 : decode cX0_step 22 = .ok (.ireturn, 1) := dk_172 (dk_at dksX0_step_0 22 rfl rfl)
theorem dX0_step_23 : decode cX0_step 23 = .ok (.aload_n 0, 1) := dk_42 (dk_at dksX0_step_0 23 rfl rfl)
theorem dX0_step_24 : decode cX0_step 24 = .ok (.getfield 35, 3) := dk_180 0 35 (dk_at dksX0_step_1 0 rfl rfl)
theorem dX0_step_27 : decode cX0_step 27 = .ok (.getfield 128, 3) := dk_180 0 128 (dk_at dksX0_step_1 3 rfl rfl)
theorem dX0_step_30 : decode cX0_step 30 = .ok (.iload_n 1, 1) := dk_27 (dk_at dksX0_step_1 6 rfl rfl)
theorem dX0_step_31 : decode cX0_step 31 = .ok (.aaload, 1) := dk_50 (dk_at dksX0_step_1 7 rfl rfl)
theorem dX0_step_32 : decode cX0_step 32 = .ok (.iconst 1, 1) := dk_4 (dk_at dksX0_step_1 8 rfl rfl)
theorem dX0_step_33 : decode cX0_step 33 = .ok (.iaload, 1) := dk_46 (dk_at dksX0_step_1 9 rfl rfl)
theorem dX0_step_34 : decode cX0_step 34 = .ok (.istore_n 3, 1) := dk_62 (dk_at dksX0_step_1 10 rfl rfl)
theorem dX0_step_35 : decode cX0_step 35 = .ok (.aload_n 0, 1) := dk_42 (dk_at dksX0_step_1 11 rfl rfl)
theorem dX0_step_36 : decode cX0_step 36 = .ok (.getfield 35, 3) := dk_180 0 35 (dk_at dksX0_step_1 12 rfl rfl)
theorem dX0_step_39 : decode cX0_step 39 = .ok (.getfield 128, 3) := dk_180 0 128 (dk_at dksX0_step_1 15 rfl rfl)
theorem dX0_step_42 : decode cX0_step 42 = .ok (.iload_n 1, 1) := dk_27 (dk_at dksX0_step_1 18 rfl rfl)
theorem dX0_step_43 : decode cX0_step 43 = .ok (.aaload, 1) := dk_50 (dk_at dksX0_step_1 19 rfl rfl)
theorem dX0_step_44 : decode cX0_step 44 = .ok (.iconst 1, 1) := dk_4 (dk_at dksX0_step_1 20 rfl rfl)
theorem dX0_step_45 : decode cX0_step 45 = .ok (.iload_n 2, 1) := dk_28 (dk_at dksX0_step_1 21 rfl rfl)
theorem dX0_step_46 : decode cX0_step 46 = .ok (.bipush 9, 2) := dk_16 9 (dk_at dksX0_step_1 22 rfl rfl)
theorem dX0_step_48 : decode cX0_step 48 = .ok (.if_icmp .ne 8, 3) := dk_160 0 8 (dk_at dksX0_step_2 0 rfl rfl)
theorem dX0_step_51 : decode cX0_step 51 = .ok (.bipush (-4), 2) := dk_16 252 (dk_at dksX0_step_2 3 rfl rfl)
theorem dX0_step_53 : decode cX0_step 53 = .ok (.goto 4, 3) := dk_167 0 4 (dk_at dksX0_step_2 5 rfl rfl)
theorem dX0_step_56 : decode cX0_step 56 = .ok (.iload_n 2, 1) := dk_28 (dk_at dksX0_step_2 8 rfl rfl)
theorem dX0_step_57 : decode cX0_step 57 = .ok (.iastore, 1) := dk_79 (dk_at dksX0_step_2 9 rfl rfl)
theorem dX0_step_58 : decode cX0_step 58 = .ok (.iload_n 3, 1) := dk_29 (dk_at dksX0_step_2 10 rfl rfl)
theorem dX0_step_59 : decode cX0_step 59 = .ok (.ireturn, 1) := dk_172 (dk_at dksX0_step_2 11 rfl rfl)
abbrev cX0_bolt : ByteArray := prog_1_method_21_code
def yX0_bolt : MethodName := ⟨RX0, "bolt", "(III)I"⟩
def dkwX0_bolt_3 : List UInt8 := [180, 0, 102, 27, 50, 28, 29, 79, 21, 5, 172]
abbrev dktX0_bolt_3 : List UInt8 := dkwX0_bolt_3 ++ []
def dkwX0_bolt_2 : List UInt8 := [21, 4, 154, 0, 5, 2, 172, 42, 180, 0, 35, 180, 0, 102, 27, 50, 28, 46, 54, 5, 42, 180, 0, 35]
abbrev dktX0_bolt_2 : List UInt8 := dkwX0_bolt_2 ++ dktX0_bolt_3
def dkwX0_bolt_1 : List UInt8 := [20, 0, 100, 184, 0, 5, 153, 0, 7, 4, 167, 0, 4, 3, 54, 4, 27, 184, 0, 96, 153, 0, 8]
abbrev dktX0_bolt_1 : List UInt8 := dkwX0_bolt_1 ++ dktX0_bolt_2
def dkwX0_bolt_0 : List UInt8 := [28, 154, 0, 15, 29, 133, 9, 20, 0, 150, 184, 0, 5, 167, 0, 25, 28, 4, 160, 0, 19, 29, 133, 10]
abbrev dktX0_bolt_0 : List UInt8 := dkwX0_bolt_0 ++ dktX0_bolt_1
theorem dksX0_bolt_0 : cX0_bolt.data.toList.drop 0 = dktX0_bolt_0 := by decide +kernel
theorem dksX0_bolt_1 : cX0_bolt.data.toList.drop 24 = dktX0_bolt_1 := dk_seg dksX0_bolt_0 24 rfl rfl
theorem dksX0_bolt_2 : cX0_bolt.data.toList.drop 47 = dktX0_bolt_2 := dk_seg dksX0_bolt_1 23 rfl rfl
theorem dksX0_bolt_3 : cX0_bolt.data.toList.drop 71 = dktX0_bolt_3 := dk_seg dksX0_bolt_2 24 rfl rfl
theorem dX0_bolt_0 : decode cX0_bolt 0 = .ok (.iload_n 2, 1) := dk_28 (dk_at dksX0_bolt_0 0 rfl rfl)
theorem dX0_bolt_1 : decode cX0_bolt 1 = .ok (.ifCond .ne 15, 3) := dk_154 0 15 (dk_at dksX0_bolt_0 1 rfl rfl)
theorem dX0_bolt_4 : decode cX0_bolt 4 = .ok (.iload_n 3, 1) := dk_29 (dk_at dksX0_bolt_0 4 rfl rfl)
theorem dX0_bolt_5 : decode cX0_bolt 5 = .ok (.i2l, 1) := dk_133 (dk_at dksX0_bolt_0 5 rfl rfl)
theorem dX0_bolt_6 : decode cX0_bolt 6 = .ok (.lconst 0, 1) := dk_9 (dk_at dksX0_bolt_0 6 rfl rfl)
theorem dX0_bolt_7 : decode cX0_bolt 7 = .ok (.ldc2_w 150, 3) := dk_20 0 150 (dk_at dksX0_bolt_0 7 rfl rfl)
theorem dX0_bolt_10 : decode cX0_bolt 10 = .ok (.invokestatic 5, 3) := dk_184 0 5 (dk_at dksX0_bolt_0 10 rfl rfl)
theorem dX0_bolt_13 : decode cX0_bolt 13 = .ok (.goto 25, 3) := dk_167 0 25 (dk_at dksX0_bolt_0 13 rfl rfl)
theorem dX0_bolt_16 : decode cX0_bolt 16 = .ok (.iload_n 2, 1) := dk_28 (dk_at dksX0_bolt_0 16 rfl rfl)
theorem dX0_bolt_17 : decode cX0_bolt 17 = .ok (.iconst 1, 1) := dk_4 (dk_at dksX0_bolt_0 17 rfl rfl)
theorem dX0_bolt_18 : decode cX0_bolt 18 = .ok (.if_icmp .ne 19, 3) := dk_160 0 19 (dk_at dksX0_bolt_0 18 rfl rfl)
theorem dX0_bolt_21 : decode cX0_bolt 21 = .ok (.iload_n 3, 1) := dk_29 (dk_at dksX0_bolt_0 21 rfl rfl)
theorem dX0_bolt_22 : decode cX0_bolt 22 = .ok (.i2l, 1) := dk_133 (dk_at dksX0_bolt_0 22 rfl rfl)
theorem dX0_bolt_23 : decode cX0_bolt 23 = .ok (.lconst 1, 1) := dk_10 (dk_at dksX0_bolt_0 23 rfl rfl)
theorem dX0_bolt_24 : decode cX0_bolt 24 = .ok (.ldc2_w 100, 3) := dk_20 0 100 (dk_at dksX0_bolt_1 0 rfl rfl)
theorem dX0_bolt_27 : decode cX0_bolt 27 = .ok (.invokestatic 5, 3) := dk_184 0 5 (dk_at dksX0_bolt_1 3 rfl rfl)
theorem dX0_bolt_30 : decode cX0_bolt 30 = .ok (.ifCond .eq 7, 3) := dk_153 0 7 (dk_at dksX0_bolt_1 6 rfl rfl)
theorem dX0_bolt_33 : decode cX0_bolt 33 = .ok (.iconst 1, 1) := dk_4 (dk_at dksX0_bolt_1 9 rfl rfl)
theorem dX0_bolt_34 : decode cX0_bolt 34 = .ok (.goto 4, 3) := dk_167 0 4 (dk_at dksX0_bolt_1 10 rfl rfl)
theorem dX0_bolt_37 : decode cX0_bolt 37 = .ok (.iconst 0, 1) := dk_3 (dk_at dksX0_bolt_1 13 rfl rfl)
theorem dX0_bolt_38 : decode cX0_bolt 38 = .ok (.istore 4, 2) := dk_54 4 (dk_at dksX0_bolt_1 14 rfl rfl)
theorem dX0_bolt_40 : decode cX0_bolt 40 = .ok (.iload_n 1, 1) := dk_27 (dk_at dksX0_bolt_1 16 rfl rfl)
theorem dX0_bolt_41 : decode cX0_bolt 41 = .ok (.invokestatic 96, 3) := dk_184 0 96 (dk_at dksX0_bolt_1 17 rfl rfl)
theorem dX0_bolt_44 : decode cX0_bolt 44 = .ok (.ifCond .eq 8, 3) := dk_153 0 8 (dk_at dksX0_bolt_1 20 rfl rfl)
theorem dX0_bolt_47 : decode cX0_bolt 47 = .ok (.iload 4, 2) := dk_21 4 (dk_at dksX0_bolt_2 0 rfl rfl)
theorem dX0_bolt_49 : decode cX0_bolt 49 = .ok (.ifCond .ne 5, 3) := dk_154 0 5 (dk_at dksX0_bolt_2 2 rfl rfl)
theorem dX0_bolt_52 : decode cX0_bolt 52 = .ok (.iconst (-1), 1) := dk_2 (dk_at dksX0_bolt_2 5 rfl rfl)
theorem dX0_bolt_53 : decode cX0_bolt 53 = .ok (.ireturn, 1) := dk_172 (dk_at dksX0_bolt_2 6 rfl rfl)
theorem dX0_bolt_54 : decode cX0_bolt 54 = .ok (.aload_n 0, 1) := dk_42 (dk_at dksX0_bolt_2 7 rfl rfl)
theorem dX0_bolt_55 : decode cX0_bolt 55 = .ok (.getfield 35, 3) := dk_180 0 35 (dk_at dksX0_bolt_2 8 rfl rfl)
theorem dX0_bolt_58 : decode cX0_bolt 58 = .ok (.getfield 102, 3) := dk_180 0 102 (dk_at dksX0_bolt_2 11 rfl rfl)
theorem dX0_bolt_61 : decode cX0_bolt 61 = .ok (.iload_n 1, 1) := dk_27 (dk_at dksX0_bolt_2 14 rfl rfl)
theorem dX0_bolt_62 : decode cX0_bolt 62 = .ok (.aaload, 1) := dk_50 (dk_at dksX0_bolt_2 15 rfl rfl)
theorem dX0_bolt_63 : decode cX0_bolt 63 = .ok (.iload_n 2, 1) := dk_28 (dk_at dksX0_bolt_2 16 rfl rfl)
theorem dX0_bolt_64 : decode cX0_bolt 64 = .ok (.iaload, 1) := dk_46 (dk_at dksX0_bolt_2 17 rfl rfl)
theorem dX0_bolt_65 : decode cX0_bolt 65 = .ok (.istore 5, 2) := dk_54 5 (dk_at dksX0_bolt_2 18 rfl rfl)
theorem dX0_bolt_67 : decode cX0_bolt 67 = .ok (.aload_n 0, 1) := dk_42 (dk_at dksX0_bolt_2 20 rfl rfl)
theorem dX0_bolt_68 : decode cX0_bolt 68 = .ok (.getfield 35, 3) := dk_180 0 35 (dk_at dksX0_bolt_2 21 rfl rfl)
theorem dX0_bolt_71 : decode cX0_bolt 71 = .ok (.getfield 102, 3) := dk_180 0 102 (dk_at dksX0_bolt_3 0 rfl rfl)
theorem dX0_bolt_74 : decode cX0_bolt 74 = .ok (.iload_n 1, 1) := dk_27 (dk_at dksX0_bolt_3 3 rfl rfl)
theorem dX0_bolt_75 : decode cX0_bolt 75 = .ok (.aaload, 1) := dk_50 (dk_at dksX0_bolt_3 4 rfl rfl)
theorem dX0_bolt_76 : decode cX0_bolt 76 = .ok (.iload_n 2, 1) := dk_28 (dk_at dksX0_bolt_3 5 rfl rfl)
theorem dX0_bolt_77 : decode cX0_bolt 77 = .ok (.iload_n 3, 1) := dk_29 (dk_at dksX0_bolt_3 6 rfl rfl)
theorem dX0_bolt_78 : decode cX0_bolt 78 = .ok (.iastore, 1) := dk_79 (dk_at dksX0_bolt_3 7 rfl rfl)
theorem dX0_bolt_79 : decode cX0_bolt 79 = .ok (.iload 5, 2) := dk_21 5 (dk_at dksX0_bolt_3 8 rfl rfl)
theorem dX0_bolt_81 : decode cX0_bolt 81 = .ok (.ireturn, 1) := dk_172 (dk_at dksX0_bolt_3 10 rfl rfl)
abbrev cX0_turns : ByteArray := prog_1_method_22_code
def yX0_turns : MethodName := ⟨RX0, "turns", "(I)I"⟩
def dkwX0_turns_2 : List UInt8 := [42, 180, 0, 35, 3, 182, 0, 157, 132, 2, 1, 167, 255, 240, 42, 180, 0, 35, 180, 0, 154, 172]
abbrev dktX0_turns_2 : List UInt8 := dkwX0_turns_2 ++ []
def dkwX0_turns_1 : List UInt8 := [17, 3, 231, 164, 0, 6, 16, 253, 172, 42, 180, 0, 35, 3, 181, 0, 154, 3, 61, 28, 27, 162, 0, 17]
abbrev dktX0_turns_1 : List UInt8 := dkwX0_turns_1 ++ dktX0_turns_2
def dkwX0_turns_0 : List UInt8 := [27, 133, 9, 20, 0, 152, 184, 0, 5, 154, 0, 5, 2, 172, 42, 180, 0, 35, 180, 0, 83, 27, 96]
abbrev dktX0_turns_0 : List UInt8 := dkwX0_turns_0 ++ dktX0_turns_1
theorem dksX0_turns_0 : cX0_turns.data.toList.drop 0 = dktX0_turns_0 := by decide +kernel
theorem dksX0_turns_1 : cX0_turns.data.toList.drop 23 = dktX0_turns_1 := dk_seg dksX0_turns_0 23 rfl rfl
theorem dksX0_turns_2 : cX0_turns.data.toList.drop 47 = dktX0_turns_2 := dk_seg dksX0_turns_1 24 rfl rfl
theorem dX0_turns_0 : decode cX0_turns 0 = .ok (.iload_n 1, 1) := dk_27 (dk_at dksX0_turns_0 0 rfl rfl)
theorem dX0_turns_1 : decode cX0_turns 1 = .ok (.i2l, 1) := dk_133 (dk_at dksX0_turns_0 1 rfl rfl)
theorem dX0_turns_2 : decode cX0_turns 2 = .ok (.lconst 0, 1) := dk_9 (dk_at dksX0_turns_0 2 rfl rfl)
theorem dX0_turns_3 : decode cX0_turns 3 = .ok (.ldc2_w 152, 3) := dk_20 0 152 (dk_at dksX0_turns_0 3 rfl rfl)
theorem dX0_turns_6 : decode cX0_turns 6 = .ok (.invokestatic 5, 3) := dk_184 0 5 (dk_at dksX0_turns_0 6 rfl rfl)
theorem dX0_turns_9 : decode cX0_turns 9 = .ok (.ifCond .ne 5, 3) := dk_154 0 5 (dk_at dksX0_turns_0 9 rfl rfl)
theorem dX0_turns_12 : decode cX0_turns 12 = .ok (.iconst (-1), 1) := dk_2 (dk_at dksX0_turns_0 12 rfl rfl)
theorem dX0_turns_13 : decode cX0_turns 13 = .ok (.ireturn, 1) := dk_172 (dk_at dksX0_turns_0 13 rfl rfl)
theorem dX0_turns_14 : decode cX0_turns 14 = .ok (.aload_n 0, 1) := dk_42 (dk_at dksX0_turns_0 14 rfl rfl)
theorem dX0_turns_15 : decode cX0_turns 15 = .ok (.getfield 35, 3) := dk_180 0 35 (dk_at dksX0_turns_0 15 rfl rfl)
theorem dX0_turns_18 : decode cX0_turns 18 = .ok (.getfield 83, 3) := dk_180 0 83 (dk_at dksX0_turns_0 18 rfl rfl)
theorem dX0_turns_21 : decode cX0_turns 21 = .ok (.iload_n 1, 1) := dk_27 (dk_at dksX0_turns_0 21 rfl rfl)
theorem dX0_turns_22 : decode cX0_turns 22 = .ok (.iadd, 1) := dk_96 (dk_at dksX0_turns_0 22 rfl rfl)
theorem dX0_turns_23 : decode cX0_turns 23 = .ok (.sipush 999, 3) := dk_17 3 231 (dk_at dksX0_turns_1 0 rfl rfl)
theorem dX0_turns_26 : decode cX0_turns 26 = .ok (.if_icmp .le 6, 3) := dk_164 0 6 (dk_at dksX0_turns_1 3 rfl rfl)
theorem dX0_turns_29 : decode cX0_turns 29 = .ok (.bipush (-3), 2) := dk_16 253 (dk_at dksX0_turns_1 6 rfl rfl)
theorem dX0_turns_31 : decode cX0_turns 31 = .ok (.ireturn, 1) := dk_172 (dk_at dksX0_turns_1 8 rfl rfl)
theorem dX0_turns_32 : decode cX0_turns 32 = .ok (.aload_n 0, 1) := dk_42 (dk_at dksX0_turns_1 9 rfl rfl)
theorem dX0_turns_33 : decode cX0_turns 33 = .ok (.getfield 35, 3) := dk_180 0 35 (dk_at dksX0_turns_1 10 rfl rfl)
theorem dX0_turns_36 : decode cX0_turns 36 = .ok (.iconst 0, 1) := dk_3 (dk_at dksX0_turns_1 13 rfl rfl)
theorem dX0_turns_37 : decode cX0_turns 37 = .ok (.putfield 154, 3) := dk_181 0 154 (dk_at dksX0_turns_1 14 rfl rfl)
theorem dX0_turns_40 : decode cX0_turns 40 = .ok (.iconst 0, 1) := dk_3 (dk_at dksX0_turns_1 17 rfl rfl)
theorem dX0_turns_41 : decode cX0_turns 41 = .ok (.istore_n 2, 1) := dk_61 (dk_at dksX0_turns_1 18 rfl rfl)
theorem dX0_turns_42 : decode cX0_turns 42 = .ok (.iload_n 2, 1) := dk_28 (dk_at dksX0_turns_1 19 rfl rfl)
theorem dX0_turns_43 : decode cX0_turns 43 = .ok (.iload_n 1, 1) := dk_27 (dk_at dksX0_turns_1 20 rfl rfl)
theorem dX0_turns_44 : decode cX0_turns 44 = .ok (.if_icmp .ge 17, 3) := dk_162 0 17 (dk_at dksX0_turns_1 21 rfl rfl)
theorem dX0_turns_47 : decode cX0_turns 47 = .ok (.aload_n 0, 1) := dk_42 (dk_at dksX0_turns_2 0 rfl rfl)
theorem dX0_turns_48 : decode cX0_turns 48 = .ok (.getfield 35, 3) := dk_180 0 35 (dk_at dksX0_turns_2 1 rfl rfl)
theorem dX0_turns_51 : decode cX0_turns 51 = .ok (.iconst 0, 1) := dk_3 (dk_at dksX0_turns_2 4 rfl rfl)
theorem dX0_turns_52 : decode cX0_turns 52 = .ok (.invokevirtual 157, 3) := dk_182 0 157 (dk_at dksX0_turns_2 5 rfl rfl)
theorem dX0_turns_55 : decode cX0_turns 55 = .ok (.iinc 2 1, 3) := dk_132 2 1 (dk_at dksX0_turns_2 8 rfl rfl)
theorem dX0_turns_58 : decode cX0_turns 58 = .ok (.goto (-16), 3) := dk_167 255 240 (dk_at dksX0_turns_2 11 rfl rfl)
theorem dX0_turns_61 : decode cX0_turns 61 = .ok (.aload_n 0, 1) := dk_42 (dk_at dksX0_turns_2 14 rfl rfl)
theorem dX0_turns_62 : decode cX0_turns 62 = .ok (.getfield 35, 3) := dk_180 0 35 (dk_at dksX0_turns_2 15 rfl rfl)
theorem dX0_turns_65 : decode cX0_turns 65 = .ok (.getfield 154, 3) := dk_180 0 154 (dk_at dksX0_turns_2 18 rfl rfl)
theorem dX0_turns_68 : decode cX0_turns 68 = .ok (.ireturn, 1) := dk_172 (dk_at dksX0_turns_2 21 rfl rfl)
abbrev cX0_runs : ByteArray := prog_1_method_24_code
def yX0_runs : MethodName := ⟨RX0, "runs", "(II)I"⟩
def dkwX0_runs_3 : List UInt8 := [180, 0, 161, 182, 0, 93, 172]
abbrev dktX0_runs_3 : List UInt8 := dkwX0_runs_3 ++ []
def dkwX0_runs_2 : List UInt8 := [180, 0, 161, 182, 0, 86, 167, 0, 22, 28, 5, 160, 0, 10, 42, 180, 0, 164, 167, 0, 10, 42]
abbrev dktX0_runs_2 : List UInt8 := dkwX0_runs_2 ++ dktX0_runs_3
def dkwX0_runs_1 : List UInt8 := [180, 0, 35, 27, 182, 0, 170, 62, 28, 154, 0, 7, 29, 167, 0, 37, 28, 4, 160, 0, 13, 42]
abbrev dktX0_runs_1 : List UInt8 := dkwX0_runs_1 ++ dktX0_runs_2
def dkwX0_runs_0 : List UInt8 := [27, 184, 0, 167, 153, 0, 15, 28, 133, 9, 20, 0, 100, 184, 0, 5, 154, 0, 5, 2, 172, 42, 42]
abbrev dktX0_runs_0 : List UInt8 := dkwX0_runs_0 ++ dktX0_runs_1
theorem dksX0_runs_0 : cX0_runs.data.toList.drop 0 = dktX0_runs_0 := by decide +kernel
theorem dksX0_runs_1 : cX0_runs.data.toList.drop 23 = dktX0_runs_1 := dk_seg dksX0_runs_0 23 rfl rfl
theorem dksX0_runs_2 : cX0_runs.data.toList.drop 45 = dktX0_runs_2 := dk_seg dksX0_runs_1 22 rfl rfl
theorem dksX0_runs_3 : cX0_runs.data.toList.drop 67 = dktX0_runs_3 := dk_seg dksX0_runs_2 22 rfl rfl
theorem dX0_runs_0 : decode cX0_runs 0 = .ok (.iload_n 1, 1) := dk_27 (dk_at dksX0_runs_0 0 rfl rfl)
theorem dX0_runs_1 : decode cX0_runs 1 = .ok (.invokestatic 167, 3) := dk_184 0 167 (dk_at dksX0_runs_0 1 rfl rfl)
theorem dX0_runs_4 : decode cX0_runs 4 = .ok (.ifCond .eq 15, 3) := dk_153 0 15 (dk_at dksX0_runs_0 4 rfl rfl)
theorem dX0_runs_7 : decode cX0_runs 7 = .ok (.iload_n 2, 1) := dk_28 (dk_at dksX0_runs_0 7 rfl rfl)
theorem dX0_runs_8 : decode cX0_runs 8 = .ok (.i2l, 1) := dk_133 (dk_at dksX0_runs_0 8 rfl rfl)
theorem dX0_runs_9 : decode cX0_runs 9 = .ok (.lconst 0, 1) := dk_9 (dk_at dksX0_runs_0 9 rfl rfl)
theorem dX0_runs_10 : decode cX0_runs 10 = .ok (.ldc2_w 100, 3) := dk_20 0 100 (dk_at dksX0_runs_0 10 rfl rfl)
theorem dX0_runs_13 : decode cX0_runs 13 = .ok (.invokestatic 5, 3) := dk_184 0 5 (dk_at dksX0_runs_0 13 rfl rfl)
theorem dX0_runs_16 : decode cX0_runs 16 = .ok (.ifCond .ne 5, 3) := dk_154 0 5 (dk_at dksX0_runs_0 16 rfl rfl)
theorem dX0_runs_19 : decode cX0_runs 19 = .ok (.iconst (-1), 1) := dk_2 (dk_at dksX0_runs_0 19 rfl rfl)
theorem dX0_runs_20 : decode cX0_runs 20 = .ok (.ireturn, 1) := dk_172 (dk_at dksX0_runs_0 20 rfl rfl)
theorem dX0_runs_21 : decode cX0_runs 21 = .ok (.aload_n 0, 1) := dk_42 (dk_at dksX0_runs_0 21 rfl rfl)
theorem dX0_runs_22 : decode cX0_runs 22 = .ok (.aload_n 0, 1) := dk_42 (dk_at dksX0_runs_0 22 rfl rfl)
theorem dX0_runs_23 : decode cX0_runs 23 = .ok (.getfield 35, 3) := dk_180 0 35 (dk_at dksX0_runs_1 0 rfl rfl)
theorem dX0_runs_26 : decode cX0_runs 26 = .ok (.iload_n 1, 1) := dk_27 (dk_at dksX0_runs_1 3 rfl rfl)
theorem dX0_runs_27 : decode cX0_runs 27 = .ok (.invokevirtual 170, 3) := dk_182 0 170 (dk_at dksX0_runs_1 4 rfl rfl)
theorem dX0_runs_30 : decode cX0_runs 30 = .ok (.istore_n 3, 1) := dk_62 (dk_at dksX0_runs_1 7 rfl rfl)
theorem dX0_runs_31 : decode cX0_runs 31 = .ok (.iload_n 2, 1) := dk_28 (dk_at dksX0_runs_1 8 rfl rfl)
theorem dX0_runs_32 : decode cX0_runs 32 = .ok (.ifCond .ne 7, 3) := dk_154 0 7 (dk_at dksX0_runs_1 9 rfl rfl)
theorem dX0_runs_35 : decode cX0_runs 35 = .ok (.iload_n 3, 1) := dk_29 (dk_at dksX0_runs_1 12 rfl rfl)
theorem dX0_runs_36 : decode cX0_runs 36 = .ok (.goto 37, 3) := dk_167 0 37 (dk_at dksX0_runs_1 13 rfl rfl)
theorem dX0_runs_39 : decode cX0_runs 39 = .ok (.iload_n 2, 1) := dk_28 (dk_at dksX0_runs_1 16 rfl rfl)
theorem dX0_runs_40 : decode cX0_runs 40 = .ok (.iconst 1, 1) := dk_4 (dk_at dksX0_runs_1 17 rfl rfl)
theorem dX0_runs_41 : decode cX0_runs 41 = .ok (.if_icmp .ne 13, 3) := dk_160 0 13 (dk_at dksX0_runs_1 18 rfl rfl)
theorem dX0_runs_44 : decode cX0_runs 44 = .ok (.aload_n 0, 1) := dk_42 (dk_at dksX0_runs_1 21 rfl rfl)
theorem dX0_runs_45 : decode cX0_runs 45 = .ok (.getfield 161, 3) := dk_180 0 161 (dk_at dksX0_runs_2 0 rfl rfl)
theorem dX0_runs_48 : decode cX0_runs 48 = .ok (.invokevirtual 86, 3) := dk_182 0 86 (dk_at dksX0_runs_2 3 rfl rfl)
theorem dX0_runs_51 : decode cX0_runs 51 = .ok (.goto 22, 3) := dk_167 0 22 (dk_at dksX0_runs_2 6 rfl rfl)
theorem dX0_runs_54 : decode cX0_runs 54 = .ok (.iload_n 2, 1) := dk_28 (dk_at dksX0_runs_2 9 rfl rfl)
theorem dX0_runs_55 : decode cX0_runs 55 = .ok (.iconst 2, 1) := dk_5 (dk_at dksX0_runs_2 10 rfl rfl)
theorem dX0_runs_56 : decode cX0_runs 56 = .ok (.if_icmp .ne 10, 3) := dk_160 0 10 (dk_at dksX0_runs_2 11 rfl rfl)
theorem dX0_runs_59 : decode cX0_runs 59 = .ok (.aload_n 0, 1) := dk_42 (dk_at dksX0_runs_2 14 rfl rfl)
theorem dX0_runs_60 : decode cX0_runs 60 = .ok (.getfield 164, 3) := dk_180 0 164 (dk_at dksX0_runs_2 15 rfl rfl)
theorem dX0_runs_63 : decode cX0_runs 63 = .ok (.goto 10, 3) := dk_167 0 10 (dk_at dksX0_runs_2 18 rfl rfl)
theorem dX0_runs_66 : decode cX0_runs 66 = .ok (.aload_n 0, 1) := dk_42 (dk_at dksX0_runs_2 21 rfl rfl)
theorem dX0_runs_67 : decode cX0_runs 67 = .ok (.getfield 161, 3) := dk_180 0 161 (dk_at dksX0_runs_3 0 rfl rfl)
theorem dX0_runs_70 : decode cX0_runs 70 = .ok (.invokevirtual 93, 3) := dk_182 0 93 (dk_at dksX0_runs_3 3 rfl rfl)
theorem dX0_runs_73 : decode cX0_runs 73 = .ok (.ireturn, 1) := dk_172 (dk_at dksX0_runs_3 6 rfl rfl)
abbrev cX0_isLong : ByteArray := prog_1_method_10_code
def yX0_isLong : MethodName := ⟨RX0, "isLong", "(I)Z"⟩
def dkwX0_isLong_0 : List UInt8 := [26, 133, 9, 20, 0, 81, 184, 0, 5, 172]
abbrev dktX0_isLong_0 : List UInt8 := dkwX0_isLong_0 ++ []
theorem dksX0_isLong_0 : cX0_isLong.data.toList.drop 0 = dktX0_isLong_0 := by decide +kernel
theorem dX0_isLong_0 : decode cX0_isLong 0 = .ok (.iload_n 0, 1) := dk_26 (dk_at dksX0_isLong_0 0 rfl rfl)
theorem dX0_isLong_1 : decode cX0_isLong 1 = .ok (.i2l, 1) := dk_133 (dk_at dksX0_isLong_0 1 rfl rfl)
theorem dX0_isLong_2 : decode cX0_isLong 2 = .ok (.lconst 0, 1) := dk_9 (dk_at dksX0_isLong_0 2 rfl rfl)
theorem dX0_isLong_3 : decode cX0_isLong 3 = .ok (.ldc2_w 81, 3) := dk_20 0 81 (dk_at dksX0_isLong_0 3 rfl rfl)
theorem dX0_isLong_6 : decode cX0_isLong 6 = .ok (.invokestatic 5, 3) := dk_184 0 5 (dk_at dksX0_isLong_0 6 rfl rfl)
theorem dX0_isLong_9 : decode cX0_isLong 9 = .ok (.ireturn, 1) := dk_172 (dk_at dksX0_isLong_0 9 rfl rfl)
abbrev cX0_fallsOf : ByteArray := prog_1_method_23_code
def yX0_fallsOf : MethodName := ⟨RX0, "fallsOf", "(LTrapdoorVotes$Stage;I)I"⟩
def dkwX0_fallsOf_3 : List UInt8 := [180, 0, 154, 172]
abbrev dktX0_fallsOf_3 : List UInt8 := dkwX0_fallsOf_3 ++ []
def dkwX0_fallsOf_2 : List UInt8 := [158, 0, 7, 29, 167, 0, 7, 42, 180, 0, 164, 181, 0, 164, 132, 3, 1, 167, 255, 209, 42, 180, 0, 161]
abbrev dktX0_fallsOf_2 : List UInt8 := dkwX0_fallsOf_2 ++ dktX0_fallsOf_3
def dkwX0_fallsOf_1 : List UInt8 := [180, 0, 161, 3, 182, 0, 157, 42, 42, 180, 0, 164, 16, 252, 160, 0, 17, 42, 180, 0, 161, 180, 0, 154]
abbrev dktX0_fallsOf_1 : List UInt8 := dkwX0_fallsOf_1 ++ dktX0_fallsOf_2
def dkwX0_fallsOf_0 : List UInt8 := [42, 180, 0, 161, 43, 182, 0, 42, 42, 16, 252, 181, 0, 164, 4, 62, 29, 28, 163, 0, 48, 42]
abbrev dktX0_fallsOf_0 : List UInt8 := dkwX0_fallsOf_0 ++ dktX0_fallsOf_1
theorem dksX0_fallsOf_0 : cX0_fallsOf.data.toList.drop 0 = dktX0_fallsOf_0 := by decide +kernel
theorem dksX0_fallsOf_1 : cX0_fallsOf.data.toList.drop 22 = dktX0_fallsOf_1 := dk_seg dksX0_fallsOf_0 22 rfl rfl
theorem dksX0_fallsOf_2 : cX0_fallsOf.data.toList.drop 46 = dktX0_fallsOf_2 := dk_seg dksX0_fallsOf_1 24 rfl rfl
theorem dksX0_fallsOf_3 : cX0_fallsOf.data.toList.drop 70 = dktX0_fallsOf_3 := dk_seg dksX0_fallsOf_2 24 rfl rfl
theorem dX0_fallsOf_0 : decode cX0_fallsOf 0 = .ok (.aload_n 0, 1) := dk_42 (dk_at dksX0_fallsOf_0 0 rfl rfl)
theorem dX0_fallsOf_1 : decode cX0_fallsOf 1 = .ok (.getfield 161, 3) := dk_180 0 161 (dk_at dksX0_fallsOf_0 1 rfl rfl)
theorem dX0_fallsOf_4 : decode cX0_fallsOf 4 = .ok (.aload_n 1, 1) := dk_43 (dk_at dksX0_fallsOf_0 4 rfl rfl)
theorem dX0_fallsOf_5 : decode cX0_fallsOf 5 = .ok (.invokevirtual 42, 3) := dk_182 0 42 (dk_at dksX0_fallsOf_0 5 rfl rfl)
theorem dX0_fallsOf_8 : decode cX0_fallsOf 8 = .ok (.aload_n 0, 1) := dk_42 (dk_at dksX0_fallsOf_0 8 rfl rfl)
theorem dX0_fallsOf_9 : decode cX0_fallsOf 9 = .ok (.bipush (-4), 2) := dk_16 252 (dk_at dksX0_fallsOf_0 9 rfl rfl)
theorem dX0_fallsOf_11 : decode cX0_fallsOf 11 = .ok (.putfield 164, 3) := dk_181 0 164 (dk_at dksX0_fallsOf_0 11 rfl rfl)
theorem dX0_fallsOf_14 : decode cX0_fallsOf 14 = .ok (.iconst 1, 1) := dk_4 (dk_at dksX0_fallsOf_0 14 rfl rfl)
theorem dX0_fallsOf_15 : decode cX0_fallsOf 15 = .ok (.istore_n 3, 1) := dk_62 (dk_at dksX0_fallsOf_0 15 rfl rfl)
theorem dX0_fallsOf_16 : decode cX0_fallsOf 16 = .ok (.iload_n 3, 1) := dk_29 (dk_at dksX0_fallsOf_0 16 rfl rfl)
theorem dX0_fallsOf_17 : decode cX0_fallsOf 17 = .ok (.iload_n 2, 1) := dk_28 (dk_at dksX0_fallsOf_0 17 rfl rfl)
theorem dX0_fallsOf_18 : decode cX0_fallsOf 18 = .ok (.if_icmp .gt 48, 3) := dk_163 0 48 (dk_at dksX0_fallsOf_0 18 rfl rfl)
theorem dX0_fallsOf_21 : decode cX0_fallsOf 21 = .ok (.aload_n 0, 1) := dk_42 (dk_at dksX0_fallsOf_0 21 rfl rfl)
theorem dX0_fallsOf_22 : decode cX0_fallsOf 22 = .ok (.getfield 161, 3) := dk_180 0 161 (dk_at dksX0_fallsOf_1 0 rfl rfl)
theorem dX0_fallsOf_25 : decode cX0_fallsOf 25 = .ok (.iconst 0, 1) := dk_3 (dk_at dksX0_fallsOf_1 3 rfl rfl)
theorem dX0_fallsOf_26 : decode cX0_fallsOf 26 = .ok (.invokevirtual 157, 3) := dk_182 0 157 (dk_at dksX0_fallsOf_1 4 rfl rfl)
theorem dX0_fallsOf_29 : decode cX0_fallsOf 29 = .ok (.aload_n 0, 1) := dk_42 (dk_at dksX0_fallsOf_1 7 rfl rfl)
theorem dX0_fallsOf_30 : decode cX0_fallsOf 30 = .ok (.aload_n 0, 1) := dk_42 (dk_at dksX0_fallsOf_1 8 rfl rfl)
theorem dX0_fallsOf_31 : decode cX0_fallsOf 31 = .ok (.getfield 164, 3) := dk_180 0 164 (dk_at dksX0_fallsOf_1 9 rfl rfl)
theorem dX0_fallsOf_34 : decode cX0_fallsOf 34 = .ok (.bipush (-4), 2) := dk_16 252 (dk_at dksX0_fallsOf_1 12 rfl rfl)
theorem dX0_fallsOf_36 : decode cX0_fallsOf 36 = .ok (.if_icmp .ne 17, 3) := dk_160 0 17 (dk_at dksX0_fallsOf_1 14 rfl rfl)
theorem dX0_fallsOf_39 : decode cX0_fallsOf 39 = .ok (.aload_n 0, 1) := dk_42 (dk_at dksX0_fallsOf_1 17 rfl rfl)
theorem dX0_fallsOf_40 : decode cX0_fallsOf 40 = .ok (.getfield 161, 3) := dk_180 0 161 (dk_at dksX0_fallsOf_1 18 rfl rfl)
theorem dX0_fallsOf_43 : decode cX0_fallsOf 43 = .ok (.getfield 154, 3) := dk_180 0 154 (dk_at dksX0_fallsOf_1 21 rfl rfl)
theorem dX0_fallsOf_46 : decode cX0_fallsOf 46 = .ok (.ifCond .le 7, 3) := dk_158 0 7 (dk_at dksX0_fallsOf_2 0 rfl rfl)
theorem dX0_fallsOf_49 : decode cX0_fallsOf 49 = .ok (.iload_n 3, 1) := dk_29 (dk_at dksX0_fallsOf_2 3 rfl rfl)
theorem dX0_fallsOf_50 : decode cX0_fallsOf 50 = .ok (.goto 7, 3) := dk_167 0 7 (dk_at dksX0_fallsOf_2 4 rfl rfl)
theorem dX0_fallsOf_53 : decode cX0_fallsOf 53 = .ok (.aload_n 0, 1) := dk_42 (dk_at dksX0_fallsOf_2 7 rfl rfl)
theorem dX0_fallsOf_54 : decode cX0_fallsOf 54 = .ok (.getfield 164, 3) := dk_180 0 164 (dk_at dksX0_fallsOf_2 8 rfl rfl)
theorem dX0_fallsOf_57 : decode cX0_fallsOf 57 = .ok (.putfield 164, 3) := dk_181 0 164 (dk_at dksX0_fallsOf_2 11 rfl rfl)
theorem dX0_fallsOf_60 : decode cX0_fallsOf 60 = .ok (.iinc 3 1, 3) := dk_132 3 1 (dk_at dksX0_fallsOf_2 14 rfl rfl)
theorem dX0_fallsOf_63 : decode cX0_fallsOf 63 = .ok (.goto (-47), 3) := dk_167 255 209 (dk_at dksX0_fallsOf_2 17 rfl rfl)
theorem dX0_fallsOf_66 : decode cX0_fallsOf 66 = .ok (.aload_n 0, 1) := dk_42 (dk_at dksX0_fallsOf_2 20 rfl rfl)
theorem dX0_fallsOf_67 : decode cX0_fallsOf 67 = .ok (.getfield 161, 3) := dk_180 0 161 (dk_at dksX0_fallsOf_2 21 rfl rfl)
theorem dX0_fallsOf_70 : decode cX0_fallsOf 70 = .ok (.getfield 154, 3) := dk_180 0 154 (dk_at dksX0_fallsOf_3 0 rfl rfl)
theorem dX0_fallsOf_73 : decode cX0_fallsOf 73 = .ok (.ireturn, 1) := dk_172 (dk_at dksX0_fallsOf_3 3 rfl rfl)
abbrev cX0_ahead : ByteArray := prog_1_method_25_code
def yX0_ahead : MethodName := ⟨RX0, "ahead", "(II)I"⟩
def dkwX0_ahead_1 : List UInt8 := [182, 0, 170, 87, 42, 180, 0, 161, 180, 0, 116, 27, 50, 5, 46, 172]
abbrev dktX0_ahead_1 : List UInt8 := dkwX0_ahead_1 ++ []
def dkwX0_ahead_0 : List UInt8 := [42, 27, 182, 0, 113, 153, 0, 10, 28, 184, 0, 167, 154, 0, 5, 2, 172, 42, 42, 180, 0, 35, 28]
abbrev dktX0_ahead_0 : List UInt8 := dkwX0_ahead_0 ++ dktX0_ahead_1
theorem dksX0_ahead_0 : cX0_ahead.data.toList.drop 0 = dktX0_ahead_0 := by decide +kernel
theorem dksX0_ahead_1 : cX0_ahead.data.toList.drop 23 = dktX0_ahead_1 := dk_seg dksX0_ahead_0 23 rfl rfl
theorem dX0_ahead_0 : decode cX0_ahead 0 = .ok (.aload_n 0, 1) := dk_42 (dk_at dksX0_ahead_0 0 rfl rfl)
theorem dX0_ahead_1 : decode cX0_ahead 1 = .ok (.iload_n 1, 1) := dk_27 (dk_at dksX0_ahead_0 1 rfl rfl)
theorem dX0_ahead_2 : decode cX0_ahead 2 = .ok (.invokevirtual 113, 3) := dk_182 0 113 (dk_at dksX0_ahead_0 2 rfl rfl)
theorem dX0_ahead_5 : decode cX0_ahead 5 = .ok (.ifCond .eq 10, 3) := dk_153 0 10 (dk_at dksX0_ahead_0 5 rfl rfl)
theorem dX0_ahead_8 : decode cX0_ahead 8 = .ok (.iload_n 2, 1) := dk_28 (dk_at dksX0_ahead_0 8 rfl rfl)
theorem dX0_ahead_9 : decode cX0_ahead 9 = .ok (.invokestatic 167, 3) := dk_184 0 167 (dk_at dksX0_ahead_0 9 rfl rfl)
theorem dX0_ahead_12 : decode cX0_ahead 12 = .ok (.ifCond .ne 5, 3) := dk_154 0 5 (dk_at dksX0_ahead_0 12 rfl rfl)
theorem dX0_ahead_15 : decode cX0_ahead 15 = .ok (.iconst (-1), 1) := dk_2 (dk_at dksX0_ahead_0 15 rfl rfl)
theorem dX0_ahead_16 : decode cX0_ahead 16 = .ok (.ireturn, 1) := dk_172 (dk_at dksX0_ahead_0 16 rfl rfl)
theorem dX0_ahead_17 : decode cX0_ahead 17 = .ok (.aload_n 0, 1) := dk_42 (dk_at dksX0_ahead_0 17 rfl rfl)
theorem dX0_ahead_18 : decode cX0_ahead 18 = .ok (.aload_n 0, 1) := dk_42 (dk_at dksX0_ahead_0 18 rfl rfl)
theorem dX0_ahead_19 : decode cX0_ahead 19 = .ok (.getfield 35, 3) := dk_180 0 35 (dk_at dksX0_ahead_0 19 rfl rfl)
theorem dX0_ahead_22 : decode cX0_ahead 22 = .ok (.iload_n 2, 1) := dk_28 (dk_at dksX0_ahead_0 22 rfl rfl)
theorem dX0_ahead_23 : decode cX0_ahead 23 = .ok (.invokevirtual 170, 3) := dk_182 0 170 (dk_at dksX0_ahead_1 0 rfl rfl)
theorem dX0_ahead_26 : decode cX0_ahead 26 = .ok (.pop, 1) := dk_87 (dk_at dksX0_ahead_1 3 rfl rfl)
theorem dX0_ahead_27 : decode cX0_ahead 27 = .ok (.aload_n 0, 1) := dk_42 (dk_at dksX0_ahead_1 4 rfl rfl)
theorem dX0_ahead_28 : decode cX0_ahead 28 = .ok (.getfield 161, 3) := dk_180 0 161 (dk_at dksX0_ahead_1 5 rfl rfl)
theorem dX0_ahead_31 : decode cX0_ahead 31 = .ok (.getfield 116, 3) := dk_180 0 116 (dk_at dksX0_ahead_1 8 rfl rfl)
theorem dX0_ahead_34 : decode cX0_ahead 34 = .ok (.iload_n 1, 1) := dk_27 (dk_at dksX0_ahead_1 11 rfl rfl)
theorem dX0_ahead_35 : decode cX0_ahead 35 = .ok (.aaload, 1) := dk_50 (dk_at dksX0_ahead_1 12 rfl rfl)
theorem dX0_ahead_36 : decode cX0_ahead 36 = .ok (.iconst 2, 1) := dk_5 (dk_at dksX0_ahead_1 13 rfl rfl)
theorem dX0_ahead_37 : decode cX0_ahead 37 = .ok (.iaload, 1) := dk_46 (dk_at dksX0_ahead_1 14 rfl rfl)
theorem dX0_ahead_38 : decode cX0_ahead 38 = .ok (.ireturn, 1) := dk_172 (dk_at dksX0_ahead_1 15 rfl rfl)
abbrev cX0_lasts : ByteArray := prog_1_method_27_code
def yX0_lasts : MethodName := ⟨RX0, "lasts", "(I)I"⟩
def dkwX0_lasts_0 : List UInt8 := [42, 27, 182, 0, 122, 153, 0, 15, 42, 42, 180, 0, 35, 27, 182, 0, 174, 167, 0, 4, 2, 172]
abbrev dktX0_lasts_0 : List UInt8 := dkwX0_lasts_0 ++ []
theorem dksX0_lasts_0 : cX0_lasts.data.toList.drop 0 = dktX0_lasts_0 := by decide +kernel
theorem dX0_lasts_0 : decode cX0_lasts 0 = .ok (.aload_n 0, 1) := dk_42 (dk_at dksX0_lasts_0 0 rfl rfl)
theorem dX0_lasts_1 : decode cX0_lasts 1 = .ok (.iload_n 1, 1) := dk_27 (dk_at dksX0_lasts_0 1 rfl rfl)
theorem dX0_lasts_2 : decode cX0_lasts 2 = .ok (.invokevirtual 122, 3) := dk_182 0 122 (dk_at dksX0_lasts_0 2 rfl rfl)
theorem dX0_lasts_5 : decode cX0_lasts 5 = .ok (.ifCond .eq 15, 3) := dk_153 0 15 (dk_at dksX0_lasts_0 5 rfl rfl)
theorem dX0_lasts_8 : decode cX0_lasts 8 = .ok (.aload_n 0, 1) := dk_42 (dk_at dksX0_lasts_0 8 rfl rfl)
theorem dX0_lasts_9 : decode cX0_lasts 9 = .ok (.aload_n 0, 1) := dk_42 (dk_at dksX0_lasts_0 9 rfl rfl)
theorem dX0_lasts_10 : decode cX0_lasts 10 = .ok (.getfield 35, 3) := dk_180 0 35 (dk_at dksX0_lasts_0 10 rfl rfl)
theorem dX0_lasts_13 : decode cX0_lasts 13 = .ok (.iload_n 1, 1) := dk_27 (dk_at dksX0_lasts_0 13 rfl rfl)
theorem dX0_lasts_14 : decode cX0_lasts 14 = .ok (.invokevirtual 174, 3) := dk_182 0 174 (dk_at dksX0_lasts_0 14 rfl rfl)
theorem dX0_lasts_17 : decode cX0_lasts 17 = .ok (.goto 4, 3) := dk_167 0 4 (dk_at dksX0_lasts_0 17 rfl rfl)
theorem dX0_lasts_20 : decode cX0_lasts 20 = .ok (.iconst (-1), 1) := dk_2 (dk_at dksX0_lasts_0 20 rfl rfl)
theorem dX0_lasts_21 : decode cX0_lasts 21 = .ok (.ireturn, 1) := dk_172 (dk_at dksX0_lasts_0 21 rfl rfl)
abbrev cX0_lastsOf : ByteArray := prog_1_method_26_code
def yX0_lastsOf : MethodName := ⟨RX0, "lastsOf", "(LTrapdoorVotes$Stage;I)I"⟩
def dkwX0_lastsOf_1 : List UInt8 := [153, 0, 5, 29, 172, 42, 180, 0, 161, 3, 182, 0, 157, 132, 3, 1, 167, 255, 226, 16, 252, 172]
abbrev dktX0_lastsOf_1 : List UInt8 := dkwX0_lastsOf_1 ++ []
def dkwX0_lastsOf_0 : List UInt8 := [42, 180, 0, 161, 43, 182, 0, 42, 3, 62, 29, 16, 60, 163, 0, 30, 42, 180, 0, 161, 28, 182, 0, 125]
abbrev dktX0_lastsOf_0 : List UInt8 := dkwX0_lastsOf_0 ++ dktX0_lastsOf_1
theorem dksX0_lastsOf_0 : cX0_lastsOf.data.toList.drop 0 = dktX0_lastsOf_0 := by decide +kernel
theorem dksX0_lastsOf_1 : cX0_lastsOf.data.toList.drop 24 = dktX0_lastsOf_1 := dk_seg dksX0_lastsOf_0 24 rfl rfl
theorem dX0_lastsOf_0 : decode cX0_lastsOf 0 = .ok (.aload_n 0, 1) := dk_42 (dk_at dksX0_lastsOf_0 0 rfl rfl)
theorem dX0_lastsOf_1 : decode cX0_lastsOf 1 = .ok (.getfield 161, 3) := dk_180 0 161 (dk_at dksX0_lastsOf_0 1 rfl rfl)
theorem dX0_lastsOf_4 : decode cX0_lastsOf 4 = .ok (.aload_n 1, 1) := dk_43 (dk_at dksX0_lastsOf_0 4 rfl rfl)
theorem dX0_lastsOf_5 : decode cX0_lastsOf 5 = .ok (.invokevirtual 42, 3) := dk_182 0 42 (dk_at dksX0_lastsOf_0 5 rfl rfl)
theorem dX0_lastsOf_8 : decode cX0_lastsOf 8 = .ok (.iconst 0, 1) := dk_3 (dk_at dksX0_lastsOf_0 8 rfl rfl)
theorem dX0_lastsOf_9 : decode cX0_lastsOf 9 = .ok (.istore_n 3, 1) := dk_62 (dk_at dksX0_lastsOf_0 9 rfl rfl)
theorem dX0_lastsOf_10 : decode cX0_lastsOf 10 = .ok (.iload_n 3, 1) := dk_29 (dk_at dksX0_lastsOf_0 10 rfl rfl)
theorem dX0_lastsOf_11 : decode cX0_lastsOf 11 = .ok (.bipush 60, 2) := dk_16 60 (dk_at dksX0_lastsOf_0 11 rfl rfl)
theorem dX0_lastsOf_13 : decode cX0_lastsOf 13 = .ok (.if_icmp .gt 30, 3) := dk_163 0 30 (dk_at dksX0_lastsOf_0 13 rfl rfl)
theorem dX0_lastsOf_16 : decode cX0_lastsOf 16 = .ok (.aload_n 0, 1) := dk_42 (dk_at dksX0_lastsOf_0 16 rfl rfl)
theorem dX0_lastsOf_17 : decode cX0_lastsOf 17 = .ok (.getfield 161, 3) := dk_180 0 161 (dk_at dksX0_lastsOf_0 17 rfl rfl)
theorem dX0_lastsOf_20 : decode cX0_lastsOf 20 = .ok (.iload_n 2, 1) := dk_28 (dk_at dksX0_lastsOf_0 20 rfl rfl)
theorem dX0_lastsOf_21 : decode cX0_lastsOf 21 = .ok (.invokevirtual 125, 3) := dk_182 0 125 (dk_at dksX0_lastsOf_0 21 rfl rfl)
theorem dX0_lastsOf_24 : decode cX0_lastsOf 24 = .ok (.ifCond .eq 5, 3) := dk_153 0 5 (dk_at dksX0_lastsOf_1 0 rfl rfl)
theorem dX0_lastsOf_27 : decode cX0_lastsOf 27 = .ok (.iload_n 3, 1) := dk_29 (dk_at dksX0_lastsOf_1 3 rfl rfl)
theorem dX0_lastsOf_28 : decode cX0_lastsOf 28 = .ok (.ireturn, 1) := dk_172 (dk_at dksX0_lastsOf_1 4 rfl rfl)
theorem dX0_lastsOf_29 : decode cX0_lastsOf 29 = .ok (.aload_n 0, 1) := dk_42 (dk_at dksX0_lastsOf_1 5 rfl rfl)
theorem dX0_lastsOf_30 : decode cX0_lastsOf 30 = .ok (.getfield 161, 3) := dk_180 0 161 (dk_at dksX0_lastsOf_1 6 rfl rfl)
theorem dX0_lastsOf_33 : decode cX0_lastsOf 33 = .ok (.iconst 0, 1) := dk_3 (dk_at dksX0_lastsOf_1 9 rfl rfl)
theorem dX0_lastsOf_34 : decode cX0_lastsOf 34 = .ok (.invokevirtual 157, 3) := dk_182 0 157 (dk_at dksX0_lastsOf_1 10 rfl rfl)
theorem dX0_lastsOf_37 : decode cX0_lastsOf 37 = .ok (.iinc 3 1, 3) := dk_132 3 1 (dk_at dksX0_lastsOf_1 13 rfl rfl)
theorem dX0_lastsOf_40 : decode cX0_lastsOf 40 = .ok (.goto (-30), 3) := dk_167 255 226 (dk_at dksX0_lastsOf_1 16 rfl rfl)
theorem dX0_lastsOf_43 : decode cX0_lastsOf 43 = .ok (.bipush (-4), 2) := dk_16 252 (dk_at dksX0_lastsOf_1 19 rfl rfl)
theorem dX0_lastsOf_45 : decode cX0_lastsOf 45 = .ok (.ireturn, 1) := dk_172 (dk_at dksX0_lastsOf_1 21 rfl rfl)
abbrev cX0_stand : ByteArray := prog_1_method_28_code
def yX0_stand : MethodName := ⟨RX0, "stand", "(II)I"⟩
def dkwX0_stand_5 : List UInt8 := [167, 0, 15, 29, 16, 61, 160, 0, 8, 16, 252, 167, 0, 4, 29, 172]
abbrev dktX0_stand_5 : List UInt8 := dkwX0_stand_5 ++ []
def dkwX0_stand_4 : List UInt8 := [21, 4, 54, 4, 29, 21, 7, 184, 0, 183, 62, 132, 5, 1, 167, 255, 184, 28, 154, 0, 8, 21, 4]
abbrev dktX0_stand_4 : List UInt8 := dkwX0_stand_4 ++ dktX0_stand_5
def dkwX0_stand_3 : List UInt8 := [160, 0, 8, 16, 61, 167, 0, 5, 21, 6, 54, 7, 21, 7, 29, 164, 0, 8, 21, 5, 167, 0, 5]
abbrev dktX0_stand_3 : List UInt8 := dkwX0_stand_3 ++ dktX0_stand_4
def dkwX0_stand_2 : List UInt8 := [180, 0, 128, 27, 50, 4, 21, 5, 79, 42, 42, 180, 0, 180, 27, 182, 0, 174, 54, 6, 21, 6, 16, 252]
abbrev dktX0_stand_2 : List UInt8 := dkwX0_stand_2 ++ dktX0_stand_3
def dkwX0_stand_1 : List UInt8 := [180, 0, 180, 42, 180, 0, 35, 182, 0, 42, 3, 54, 5, 21, 5, 16, 6, 162, 0, 71, 42, 180, 0, 180]
abbrev dktX0_stand_1 : List UInt8 := dkwX0_stand_1 ++ dktX0_stand_2
def dkwX0_stand_0 : List UInt8 := [42, 27, 182, 0, 122, 153, 0, 10, 28, 184, 0, 177, 154, 0, 5, 2, 172, 16, 252, 62, 3, 54, 4, 42]
abbrev dktX0_stand_0 : List UInt8 := dkwX0_stand_0 ++ dktX0_stand_1
theorem dksX0_stand_0 : cX0_stand.data.toList.drop 0 = dktX0_stand_0 := by decide +kernel
theorem dksX0_stand_1 : cX0_stand.data.toList.drop 24 = dktX0_stand_1 := dk_seg dksX0_stand_0 24 rfl rfl
theorem dksX0_stand_2 : cX0_stand.data.toList.drop 48 = dktX0_stand_2 := dk_seg dksX0_stand_1 24 rfl rfl
theorem dksX0_stand_3 : cX0_stand.data.toList.drop 72 = dktX0_stand_3 := dk_seg dksX0_stand_2 24 rfl rfl
theorem dksX0_stand_4 : cX0_stand.data.toList.drop 95 = dktX0_stand_4 := dk_seg dksX0_stand_3 23 rfl rfl
theorem dksX0_stand_5 : cX0_stand.data.toList.drop 118 = dktX0_stand_5 := dk_seg dksX0_stand_4 23 rfl rfl
theorem dX0_stand_0 : decode cX0_stand 0 = .ok (.aload_n 0, 1) := dk_42 (dk_at dksX0_stand_0 0 rfl rfl)
theorem dX0_stand_1 : decode cX0_stand 1 = .ok (.iload_n 1, 1) := dk_27 (dk_at dksX0_stand_0 1 rfl rfl)
theorem dX0_stand_2 : decode cX0_stand 2 = .ok (.invokevirtual 122, 3) := dk_182 0 122 (dk_at dksX0_stand_0 2 rfl rfl)
theorem dX0_stand_5 : decode cX0_stand 5 = .ok (.ifCond .eq 10, 3) := dk_153 0 10 (dk_at dksX0_stand_0 5 rfl rfl)
theorem dX0_stand_8 : decode cX0_stand 8 = .ok (.iload_n 2, 1) := dk_28 (dk_at dksX0_stand_0 8 rfl rfl)
theorem dX0_stand_9 : decode cX0_stand 9 = .ok (.invokestatic 177, 3) := dk_184 0 177 (dk_at dksX0_stand_0 9 rfl rfl)
theorem dX0_stand_12 : decode cX0_stand 12 = .ok (.ifCond .ne 5, 3) := dk_154 0 5 (dk_at dksX0_stand_0 12 rfl rfl)
theorem dX0_stand_15 : decode cX0_stand 15 = .ok (.iconst (-1), 1) := dk_2 (dk_at dksX0_stand_0 15 rfl rfl)
theorem dX0_stand_16 : decode cX0_stand 16 = .ok (.ireturn, 1) := dk_172 (dk_at dksX0_stand_0 16 rfl rfl)
theorem dX0_stand_17 : decode cX0_stand 17 = .ok (.bipush (-4), 2) := dk_16 252 (dk_at dksX0_stand_0 17 rfl rfl)
theorem dX0_stand_19 : decode cX0_stand 19 = .ok (.istore_n 3, 1) := dk_62 (dk_at dksX0_stand_0 19 rfl rfl)
theorem dX0_stand_20 : decode cX0_stand 20 = .ok (.iconst 0, 1) := dk_3 (dk_at dksX0_stand_0 20 rfl rfl)
theorem dX0_stand_21 : decode cX0_stand 21 = .ok (.istore 4, 2) := dk_54 4 (dk_at dksX0_stand_0 21 rfl rfl)
theorem dX0_stand_23 : decode cX0_stand 23 = .ok (.aload_n 0, 1) := dk_42 (dk_at dksX0_stand_0 23 rfl rfl)
theorem dX0_stand_24 : decode cX0_stand 24 = .ok (.getfield 180, 3) := dk_180 0 180 (dk_at dksX0_stand_1 0 rfl rfl)
theorem dX0_stand_27 : decode cX0_stand 27 = .ok (.aload_n 0, 1) := dk_42 (dk_at dksX0_stand_1 3 rfl rfl)
theorem dX0_stand_28 : decode cX0_stand 28 = .ok (.getfield 35, 3) := dk_180 0 35 (dk_at dksX0_stand_1 4 rfl rfl)
theorem dX0_stand_31 : decode cX0_stand 31 = .ok (.invokevirtual 42, 3) := dk_182 0 42 (dk_at dksX0_stand_1 7 rfl rfl)
theorem dX0_stand_34 : decode cX0_stand 34 = .ok (.iconst 0, 1) := dk_3 (dk_at dksX0_stand_1 10 rfl rfl)
theorem dX0_stand_35 : decode cX0_stand 35 = .ok (.istore 5, 2) := dk_54 5 (dk_at dksX0_stand_1 11 rfl rfl)
theorem dX0_stand_37 : decode cX0_stand 37 = .ok (.iload 5, 2) := dk_21 5 (dk_at dksX0_stand_1 13 rfl rfl)
theorem dX0_stand_39 : decode cX0_stand 39 = .ok (.bipush 6, 2) := dk_16 6 (dk_at dksX0_stand_1 15 rfl rfl)
theorem dX0_stand_41 : decode cX0_stand 41 = .ok (.if_icmp .ge 71, 3) := dk_162 0 71 (dk_at dksX0_stand_1 17 rfl rfl)
theorem dX0_stand_44 : decode cX0_stand 44 = .ok (.aload_n 0, 1) := dk_42 (dk_at dksX0_stand_1 20 rfl rfl)
theorem dX0_stand_45 : decode cX0_stand 45 = .ok (.getfield 180, 3) := dk_180 0 180 (dk_at dksX0_stand_1 21 rfl rfl)
theorem dX0_stand_48 : decode cX0_stand 48 = .ok (.getfield 128, 3) := dk_180 0 128 (dk_at dksX0_stand_2 0 rfl rfl)
theorem dX0_stand_51 : decode cX0_stand 51 = .ok (.iload_n 1, 1) := dk_27 (dk_at dksX0_stand_2 3 rfl rfl)
theorem dX0_stand_52 : decode cX0_stand 52 = .ok (.aaload, 1) := dk_50 (dk_at dksX0_stand_2 4 rfl rfl)
theorem dX0_stand_53 : decode cX0_stand 53 = .ok (.iconst 1, 1) := dk_4 (dk_at dksX0_stand_2 5 rfl rfl)
theorem dX0_stand_54 : decode cX0_stand 54 = .ok (.iload 5, 2) := dk_21 5 (dk_at dksX0_stand_2 6 rfl rfl)
theorem dX0_stand_56 : decode cX0_stand 56 = .ok (.iastore, 1) := dk_79 (dk_at dksX0_stand_2 8 rfl rfl)
theorem dX0_stand_57 : decode cX0_stand 57 = .ok (.aload_n 0, 1) := dk_42 (dk_at dksX0_stand_2 9 rfl rfl)
theorem dX0_stand_58 : decode cX0_stand 58 = .ok (.aload_n 0, 1) := dk_42 (dk_at dksX0_stand_2 10 rfl rfl)
theorem dX0_stand_59 : decode cX0_stand 59 = .ok (.getfield 180, 3) := dk_180 0 180 (dk_at dksX0_stand_2 11 rfl rfl)
theorem dX0_stand_62 : decode cX0_stand 62 = .ok (.iload_n 1, 1) := dk_27 (dk_at dksX0_stand_2 14 rfl rfl)
theorem dX0_stand_63 : decode cX0_stand 63 = .ok (.invokevirtual 174, 3) := dk_182 0 174 (dk_at dksX0_stand_2 15 rfl rfl)
theorem dX0_stand_66 : decode cX0_stand 66 = .ok (.istore 6, 2) := dk_54 6 (dk_at dksX0_stand_2 18 rfl rfl)
theorem dX0_stand_68 : decode cX0_stand 68 = .ok (.iload 6, 2) := dk_21 6 (dk_at dksX0_stand_2 20 rfl rfl)
theorem dX0_stand_70 : decode cX0_stand 70 = .ok (.bipush (-4), 2) := dk_16 252 (dk_at dksX0_stand_2 22 rfl rfl)
theorem dX0_stand_72 : decode cX0_stand 72 = .ok (.if_icmp .ne 8, 3) := dk_160 0 8 (dk_at dksX0_stand_3 0 rfl rfl)
theorem dX0_stand_75 : decode cX0_stand 75 = .ok (.bipush 61, 2) := dk_16 61 (dk_at dksX0_stand_3 3 rfl rfl)
theorem dX0_stand_77 : decode cX0_stand 77 = .ok (.goto 5, 3) := dk_167 0 5 (dk_at dksX0_stand_3 5 rfl rfl)
theorem dX0_stand_80 : decode cX0_stand 80 = .ok (.iload 6, 2) := dk_21 6 (dk_at dksX0_stand_3 8 rfl rfl)
theorem dX0_stand_82 : decode cX0_stand 82 = .ok (.istore 7, 2) := dk_54 7 (dk_at dksX0_stand_3 10 rfl rfl)
theorem dX0_stand_84 : decode cX0_stand 84 = .ok (.iload 7, 2) := dk_21 7 (dk_at dksX0_stand_3 12 rfl rfl)
theorem dX0_stand_86 : decode cX0_stand 86 = .ok (.iload_n 3, 1) := dk_29 (dk_at dksX0_stand_3 14 rfl rfl)
theorem dX0_stand_87 : decode cX0_stand 87 = .ok (.if_icmp .le 8, 3) := dk_164 0 8 (dk_at dksX0_stand_3 15 rfl rfl)
theorem dX0_stand_90 : decode cX0_stand 90 = .ok (.iload 5, 2) := dk_21 5 (dk_at dksX0_stand_3 18 rfl rfl)
theorem dX0_stand_92 : decode cX0_stand 92 = .ok (.goto 5, 3) := dk_167 0 5 (dk_at dksX0_stand_3 20 rfl rfl)
theorem dX0_stand_95 : decode cX0_stand 95 = .ok (.iload 4, 2) := dk_21 4 (dk_at dksX0_stand_4 0 rfl rfl)
theorem dX0_stand_97 : decode cX0_stand 97 = .ok (.istore 4, 2) := dk_54 4 (dk_at dksX0_stand_4 2 rfl rfl)
theorem dX0_stand_99 : decode cX0_stand 99 = .ok (.iload_n 3, 1) := dk_29 (dk_at dksX0_stand_4 4 rfl rfl)
theorem dX0_stand_100 : decode cX0_stand 100 = .ok (.iload 7, 2) := dk_21 7 (dk_at dksX0_stand_4 5 rfl rfl)
theorem dX0_stand_102 : decode cX0_stand 102 = .ok (.invokestatic 183, 3) := dk_184 0 183 (dk_at dksX0_stand_4 7 rfl rfl)
theorem dX0_stand_105 : decode cX0_stand 105 = .ok (.istore_n 3, 1) := dk_62 (dk_at dksX0_stand_4 10 rfl rfl)
theorem dX0_stand_106 : decode cX0_stand 106 = .ok (.iinc 5 1, 3) := dk_132 5 1 (dk_at dksX0_stand_4 11 rfl rfl)
theorem dX0_stand_109 : decode cX0_stand 109 = .ok (.goto (-72), 3) := dk_167 255 184 (dk_at dksX0_stand_4 14 rfl rfl)
theorem dX0_stand_112 : decode cX0_stand 112 = .ok (.iload_n 2, 1) := dk_28 (dk_at dksX0_stand_4 17 rfl rfl)
theorem dX0_stand_113 : decode cX0_stand 113 = .ok (.ifCond .ne 8, 3) := dk_154 0 8 (dk_at dksX0_stand_4 18 rfl rfl)
theorem dX0_stand_116 : decode cX0_stand 116 = .ok (.iload 4, 2) := dk_21 4 (dk_at dksX0_stand_4 21 rfl rfl)
theorem dX0_stand_118 : decode cX0_stand 118 = .ok (.goto 15, 3) := dk_167 0 15 (dk_at dksX0_stand_5 0 rfl rfl)
theorem dX0_stand_121 : decode cX0_stand 121 = .ok (.iload_n 3, 1) := dk_29 (dk_at dksX0_stand_5 3 rfl rfl)
theorem dX0_stand_122 : decode cX0_stand 122 = .ok (.bipush 61, 2) := dk_16 61 (dk_at dksX0_stand_5 4 rfl rfl)
theorem dX0_stand_124 : decode cX0_stand 124 = .ok (.if_icmp .ne 8, 3) := dk_160 0 8 (dk_at dksX0_stand_5 6 rfl rfl)
theorem dX0_stand_127 : decode cX0_stand 127 = .ok (.bipush (-4), 2) := dk_16 252 (dk_at dksX0_stand_5 9 rfl rfl)
theorem dX0_stand_129 : decode cX0_stand 129 = .ok (.goto 4, 3) := dk_167 0 4 (dk_at dksX0_stand_5 11 rfl rfl)
theorem dX0_stand_132 : decode cX0_stand 132 = .ok (.iload_n 3, 1) := dk_29 (dk_at dksX0_stand_5 14 rfl rfl)
theorem dX0_stand_133 : decode cX0_stand 133 = .ok (.ireturn, 1) := dk_172 (dk_at dksX0_stand_5 15 rfl rfl)
abbrev cX0_isPart : ByteArray := prog_1_method_11_code
def yX0_isPart : MethodName := ⟨RX0, "isPart", "(I)Z"⟩
def dkwX0_isPart_0 : List UInt8 := [26, 133, 9, 10, 184, 0, 5, 172]
abbrev dktX0_isPart_0 : List UInt8 := dkwX0_isPart_0 ++ []
theorem dksX0_isPart_0 : cX0_isPart.data.toList.drop 0 = dktX0_isPart_0 := by decide +kernel
theorem dX0_isPart_0 : decode cX0_isPart 0 = .ok (.iload_n 0, 1) := dk_26 (dk_at dksX0_isPart_0 0 rfl rfl)
theorem dX0_isPart_1 : decode cX0_isPart 1 = .ok (.i2l, 1) := dk_133 (dk_at dksX0_isPart_0 1 rfl rfl)
theorem dX0_isPart_2 : decode cX0_isPart 2 = .ok (.lconst 0, 1) := dk_9 (dk_at dksX0_isPart_0 2 rfl rfl)
theorem dX0_isPart_3 : decode cX0_isPart 3 = .ok (.lconst 1, 1) := dk_10 (dk_at dksX0_isPart_0 3 rfl rfl)
theorem dX0_isPart_4 : decode cX0_isPart 4 = .ok (.invokestatic 5, 3) := dk_184 0 5 (dk_at dksX0_isPart_0 4 rfl rfl)
theorem dX0_isPart_7 : decode cX0_isPart 7 = .ok (.ireturn, 1) := dk_172 (dk_at dksX0_isPart_0 7 rfl rfl)
abbrev cX0_soft : ByteArray := prog_1_method_29_code
def yX0_soft : MethodName := ⟨RX0, "soft", "(II)I"⟩
def dkwX0_soft_3 : List UInt8 := [87, 42, 180, 0, 161, 27, 182, 0, 125, 154, 0, 5, 29, 172, 132, 3, 255, 167, 255, 214, 16, 252, 172]
abbrev dktX0_soft_3 : List UInt8 := dkwX0_soft_3 ++ []
def dkwX0_soft_2 : List UInt8 := [155, 0, 44, 42, 180, 0, 180, 180, 0, 128, 27, 50, 3, 29, 79, 42, 42, 180, 0, 180, 28, 182, 0, 170]
abbrev dktX0_soft_2 : List UInt8 := dkwX0_soft_2 ++ dktX0_soft_3
def dkwX0_soft_1 : List UInt8 := [182, 0, 125, 153, 0, 6, 16, 254, 172, 42, 180, 0, 180, 42, 180, 0, 35, 182, 0, 42, 16, 9, 62, 29]
abbrev dktX0_soft_1 : List UInt8 := dkwX0_soft_1 ++ dktX0_soft_2
def dkwX0_soft_0 : List UInt8 := [42, 27, 182, 0, 122, 153, 0, 10, 28, 184, 0, 167, 154, 0, 5, 2, 172, 42, 180, 0, 35, 27]
abbrev dktX0_soft_0 : List UInt8 := dkwX0_soft_0 ++ dktX0_soft_1
theorem dksX0_soft_0 : cX0_soft.data.toList.drop 0 = dktX0_soft_0 := by decide +kernel
theorem dksX0_soft_1 : cX0_soft.data.toList.drop 22 = dktX0_soft_1 := dk_seg dksX0_soft_0 22 rfl rfl
theorem dksX0_soft_2 : cX0_soft.data.toList.drop 46 = dktX0_soft_2 := dk_seg dksX0_soft_1 24 rfl rfl
theorem dksX0_soft_3 : cX0_soft.data.toList.drop 70 = dktX0_soft_3 := dk_seg dksX0_soft_2 24 rfl rfl
theorem dX0_soft_0 : decode cX0_soft 0 = .ok (.aload_n 0, 1) := dk_42 (dk_at dksX0_soft_0 0 rfl rfl)
theorem dX0_soft_1 : decode cX0_soft 1 = .ok (.iload_n 1, 1) := dk_27 (dk_at dksX0_soft_0 1 rfl rfl)
theorem dX0_soft_2 : decode cX0_soft 2 = .ok (.invokevirtual 122, 3) := dk_182 0 122 (dk_at dksX0_soft_0 2 rfl rfl)
theorem dX0_soft_5 : decode cX0_soft 5 = .ok (.ifCond .eq 10, 3) := dk_153 0 10 (dk_at dksX0_soft_0 5 rfl rfl)
theorem dX0_soft_8 : decode cX0_soft 8 = .ok (.iload_n 2, 1) := dk_28 (dk_at dksX0_soft_0 8 rfl rfl)
theorem dX0_soft_9 : decode cX0_soft 9 = .ok (.invokestatic 167, 3) := dk_184 0 167 (dk_at dksX0_soft_0 9 rfl rfl)
theorem dX0_soft_12 : decode cX0_soft 12 = .ok (.ifCond .ne 5, 3) := dk_154 0 5 (dk_at dksX0_soft_0 12 rfl rfl)
theorem dX0_soft_15 : decode cX0_soft 15 = .ok (.iconst (-1), 1) := dk_2 (dk_at dksX0_soft_0 15 rfl rfl)
theorem dX0_soft_16 : decode cX0_soft 16 = .ok (.ireturn, 1) := dk_172 (dk_at dksX0_soft_0 16 rfl rfl)
theorem dX0_soft_17 : decode cX0_soft 17 = .ok (.aload_n 0, 1) := dk_42 (dk_at dksX0_soft_0 17 rfl rfl)
theorem dX0_soft_18 : decode cX0_soft 18 = .ok (.getfield 35, 3) := dk_180 0 35 (dk_at dksX0_soft_0 18 rfl rfl)
theorem dX0_soft_21 : decode cX0_soft 21 = .ok (.iload_n 1, 1) := dk_27 (dk_at dksX0_soft_0 21 rfl rfl)
theorem dX0_soft_22 : decode cX0_soft 22 = .ok (.invokevirtual 125, 3) := dk_182 0 125 (dk_at dksX0_soft_1 0 rfl rfl)
theorem dX0_soft_25 : decode cX0_soft 25 = .ok (.ifCond .eq 6, 3) := dk_153 0 6 (dk_at dksX0_soft_1 3 rfl rfl)
theorem dX0_soft_28 : decode cX0_soft 28 = .ok (.bipush (-2), 2) := dk_16 254 (dk_at dksX0_soft_1 6 rfl rfl)
theorem dX0_soft_30 : decode cX0_soft 30 = .ok (.ireturn, 1) := dk_172 (dk_at dksX0_soft_1 8 rfl rfl)
theorem dX0_soft_31 : decode cX0_soft 31 = .ok (.aload_n 0, 1) := dk_42 (dk_at dksX0_soft_1 9 rfl rfl)
theorem dX0_soft_32 : decode cX0_soft 32 = .ok (.getfield 180, 3) := dk_180 0 180 (dk_at dksX0_soft_1 10 rfl rfl)
theorem dX0_soft_35 : decode cX0_soft 35 = .ok (.aload_n 0, 1) := dk_42 (dk_at dksX0_soft_1 13 rfl rfl)
theorem dX0_soft_36 : decode cX0_soft 36 = .ok (.getfield 35, 3) := dk_180 0 35 (dk_at dksX0_soft_1 14 rfl rfl)
theorem dX0_soft_39 : decode cX0_soft 39 = .ok (.invokevirtual 42, 3) := dk_182 0 42 (dk_at dksX0_soft_1 17 rfl rfl)
theorem dX0_soft_42 : decode cX0_soft 42 = .ok (.bipush 9, 2) := dk_16 9 (dk_at dksX0_soft_1 20 rfl rfl)
theorem dX0_soft_44 : decode cX0_soft 44 = .ok (.istore_n 3, 1) := dk_62 (dk_at dksX0_soft_1 22 rfl rfl)
theorem dX0_soft_45 : decode cX0_soft 45 = .ok (.iload_n 3, 1) := dk_29 (dk_at dksX0_soft_1 23 rfl rfl)
theorem dX0_soft_46 : decode cX0_soft 46 = .ok (.ifCond .lt 44, 3) := dk_155 0 44 (dk_at dksX0_soft_2 0 rfl rfl)
theorem dX0_soft_49 : decode cX0_soft 49 = .ok (.aload_n 0, 1) := dk_42 (dk_at dksX0_soft_2 3 rfl rfl)
theorem dX0_soft_50 : decode cX0_soft 50 = .ok (.getfield 180, 3) := dk_180 0 180 (dk_at dksX0_soft_2 4 rfl rfl)
theorem dX0_soft_53 : decode cX0_soft 53 = .ok (.getfield 128, 3) := dk_180 0 128 (dk_at dksX0_soft_2 7 rfl rfl)
theorem dX0_soft_56 : decode cX0_soft 56 = .ok (.iload_n 1, 1) := dk_27 (dk_at dksX0_soft_2 10 rfl rfl)
theorem dX0_soft_57 : decode cX0_soft 57 = .ok (.aaload, 1) := dk_50 (dk_at dksX0_soft_2 11 rfl rfl)
theorem dX0_soft_58 : decode cX0_soft 58 = .ok (.iconst 0, 1) := dk_3 (dk_at dksX0_soft_2 12 rfl rfl)
theorem dX0_soft_59 : decode cX0_soft 59 = .ok (.iload_n 3, 1) := dk_29 (dk_at dksX0_soft_2 13 rfl rfl)
theorem dX0_soft_60 : decode cX0_soft 60 = .ok (.iastore, 1) := dk_79 (dk_at dksX0_soft_2 14 rfl rfl)
theorem dX0_soft_61 : decode cX0_soft 61 = .ok (.aload_n 0, 1) := dk_42 (dk_at dksX0_soft_2 15 rfl rfl)
theorem dX0_soft_62 : decode cX0_soft 62 = .ok (.aload_n 0, 1) := dk_42 (dk_at dksX0_soft_2 16 rfl rfl)
theorem dX0_soft_63 : decode cX0_soft 63 = .ok (.getfield 180, 3) := dk_180 0 180 (dk_at dksX0_soft_2 17 rfl rfl)
theorem dX0_soft_66 : decode cX0_soft 66 = .ok (.iload_n 2, 1) := dk_28 (dk_at dksX0_soft_2 20 rfl rfl)
theorem dX0_soft_67 : decode cX0_soft 67 = .ok (.invokevirtual 170, 3) := dk_182 0 170 (dk_at dksX0_soft_2 21 rfl rfl)
theorem dX0_soft_70 : decode cX0_soft 70 = .ok (.pop, 1) := dk_87 (dk_at dksX0_soft_3 0 rfl rfl)
theorem dX0_soft_71 : decode cX0_soft 71 = .ok (.aload_n 0, 1) := dk_42 (dk_at dksX0_soft_3 1 rfl rfl)
theorem dX0_soft_72 : decode cX0_soft 72 = .ok (.getfield 161, 3) := dk_180 0 161 (dk_at dksX0_soft_3 2 rfl rfl)
theorem dX0_soft_75 : decode cX0_soft 75 = .ok (.iload_n 1, 1) := dk_27 (dk_at dksX0_soft_3 5 rfl rfl)
theorem dX0_soft_76 : decode cX0_soft 76 = .ok (.invokevirtual 125, 3) := dk_182 0 125 (dk_at dksX0_soft_3 6 rfl rfl)
theorem dX0_soft_79 : decode cX0_soft 79 = .ok (.ifCond .ne 5, 3) := dk_154 0 5 (dk_at dksX0_soft_3 9 rfl rfl)
theorem dX0_soft_82 : decode cX0_soft 82 = .ok (.iload_n 3, 1) := dk_29 (dk_at dksX0_soft_3 12 rfl rfl)
theorem dX0_soft_83 : decode cX0_soft 83 = .ok (.ireturn, 1) := dk_172 (dk_at dksX0_soft_3 13 rfl rfl)
theorem dX0_soft_84 : decode cX0_soft 84 = .ok (.iinc 3 (-1), 3) := dk_132 3 255 (dk_at dksX0_soft_3 14 rfl rfl)
theorem dX0_soft_87 : decode cX0_soft 87 = .ok (.goto (-42), 3) := dk_167 255 214 (dk_at dksX0_soft_3 17 rfl rfl)
theorem dX0_soft_90 : decode cX0_soft 90 = .ok (.bipush (-4), 2) := dk_16 252 (dk_at dksX0_soft_3 20 rfl rfl)
theorem dX0_soft_92 : decode cX0_soft 92 = .ok (.ireturn, 1) := dk_172 (dk_at dksX0_soft_3 22 rfl rfl)
abbrev cX0_rust : ByteArray := prog_1_method_30_code
def yX0_rust : MethodName := ⟨RX0, "rust", "(II)I"⟩
def dkwX0_rust_3 : List UInt8 := [180, 0, 161, 182, 0, 86, 29, 126, 29, 160, 0, 6, 21, 4, 172, 132, 4, 1, 167, 255, 207, 16, 252, 172]
abbrev dktX0_rust_3 : List UInt8 := dkwX0_rust_3 ++ []
def dkwX0_rust_2 : List UInt8 := [180, 0, 180, 180, 0, 102, 27, 50, 3, 21, 4, 79, 42, 42, 180, 0, 180, 28, 182, 0, 170, 87, 42]
abbrev dktX0_rust_2 : List UInt8 := dkwX0_rust_2 ++ dktX0_rust_3
def dkwX0_rust_1 : List UInt8 := [62, 42, 180, 0, 180, 42, 180, 0, 35, 182, 0, 42, 3, 54, 4, 21, 4, 16, 20, 163, 0, 48, 42]
abbrev dktX0_rust_1 : List UInt8 := dkwX0_rust_1 ++ dktX0_rust_2
def dkwX0_rust_0 : List UInt8 := [27, 184, 0, 96, 153, 0, 10, 28, 184, 0, 167, 154, 0, 5, 2, 172, 42, 180, 0, 35, 27, 182, 0, 110]
abbrev dktX0_rust_0 : List UInt8 := dkwX0_rust_0 ++ dktX0_rust_1
theorem dksX0_rust_0 : cX0_rust.data.toList.drop 0 = dktX0_rust_0 := by decide +kernel
theorem dksX0_rust_1 : cX0_rust.data.toList.drop 24 = dktX0_rust_1 := dk_seg dksX0_rust_0 24 rfl rfl
theorem dksX0_rust_2 : cX0_rust.data.toList.drop 47 = dktX0_rust_2 := dk_seg dksX0_rust_1 23 rfl rfl
theorem dksX0_rust_3 : cX0_rust.data.toList.drop 70 = dktX0_rust_3 := dk_seg dksX0_rust_2 23 rfl rfl
theorem dX0_rust_0 : decode cX0_rust 0 = .ok (.iload_n 1, 1) := dk_27 (dk_at dksX0_rust_0 0 rfl rfl)
theorem dX0_rust_1 : decode cX0_rust 1 = .ok (.invokestatic 96, 3) := dk_184 0 96 (dk_at dksX0_rust_0 1 rfl rfl)
theorem dX0_rust_4 : decode cX0_rust 4 = .ok (.ifCond .eq 10, 3) := dk_153 0 10 (dk_at dksX0_rust_0 4 rfl rfl)
theorem dX0_rust_7 : decode cX0_rust 7 = .ok (.iload_n 2, 1) := dk_28 (dk_at dksX0_rust_0 7 rfl rfl)
theorem dX0_rust_8 : decode cX0_rust 8 = .ok (.invokestatic 167, 3) := dk_184 0 167 (dk_at dksX0_rust_0 8 rfl rfl)
theorem dX0_rust_11 : decode cX0_rust 11 = .ok (.ifCond .ne 5, 3) := dk_154 0 5 (dk_at dksX0_rust_0 11 rfl rfl)
theorem dX0_rust_14 : decode cX0_rust 14 = .ok (.iconst (-1), 1) := dk_2 (dk_at dksX0_rust_0 14 rfl rfl)
theorem dX0_rust_15 : decode cX0_rust 15 = .ok (.ireturn, 1) := dk_172 (dk_at dksX0_rust_0 15 rfl rfl)
theorem dX0_rust_16 : decode cX0_rust 16 = .ok (.aload_n 0, 1) := dk_42 (dk_at dksX0_rust_0 16 rfl rfl)
theorem dX0_rust_17 : decode cX0_rust 17 = .ok (.getfield 35, 3) := dk_180 0 35 (dk_at dksX0_rust_0 17 rfl rfl)
theorem dX0_rust_20 : decode cX0_rust 20 = .ok (.iload_n 1, 1) := dk_27 (dk_at dksX0_rust_0 20 rfl rfl)
theorem dX0_rust_21 : decode cX0_rust 21 = .ok (.invokevirtual 110, 3) := dk_182 0 110 (dk_at dksX0_rust_0 21 rfl rfl)
theorem dX0_rust_24 : decode cX0_rust 24 = .ok (.istore_n 3, 1) := dk_62 (dk_at dksX0_rust_1 0 rfl rfl)
theorem dX0_rust_25 : decode cX0_rust 25 = .ok (.aload_n 0, 1) := dk_42 (dk_at dksX0_rust_1 1 rfl rfl)
theorem dX0_rust_26 : decode cX0_rust 26 = .ok (.getfield 180, 3) := dk_180 0 180 (dk_at dksX0_rust_1 2 rfl rfl)
theorem dX0_rust_29 : decode cX0_rust 29 = .ok (.aload_n 0, 1) := dk_42 (dk_at dksX0_rust_1 5 rfl rfl)
theorem dX0_rust_30 : decode cX0_rust 30 = .ok (.getfield 35, 3) := dk_180 0 35 (dk_at dksX0_rust_1 6 rfl rfl)
theorem dX0_rust_33 : decode cX0_rust 33 = .ok (.invokevirtual 42, 3) := dk_182 0 42 (dk_at dksX0_rust_1 9 rfl rfl)
theorem dX0_rust_36 : decode cX0_rust 36 = .ok (.iconst 0, 1) := dk_3 (dk_at dksX0_rust_1 12 rfl rfl)
theorem dX0_rust_37 : decode cX0_rust 37 = .ok (.istore 4, 2) := dk_54 4 (dk_at dksX0_rust_1 13 rfl rfl)
theorem dX0_rust_39 : decode cX0_rust 39 = .ok (.iload 4, 2) := dk_21 4 (dk_at dksX0_rust_1 15 rfl rfl)
theorem dX0_rust_41 : decode cX0_rust 41 = .ok (.bipush 20, 2) := dk_16 20 (dk_at dksX0_rust_1 17 rfl rfl)
theorem dX0_rust_43 : decode cX0_rust 43 = .ok (.if_icmp .gt 48, 3) := dk_163 0 48 (dk_at dksX0_rust_1 19 rfl rfl)
theorem dX0_rust_46 : decode cX0_rust 46 = .ok (.aload_n 0, 1) := dk_42 (dk_at dksX0_rust_1 22 rfl rfl)
theorem dX0_rust_47 : decode cX0_rust 47 = .ok (.getfield 180, 3) := dk_180 0 180 (dk_at dksX0_rust_2 0 rfl rfl)
theorem dX0_rust_50 : decode cX0_rust 50 = .ok (.getfield 102, 3) := dk_180 0 102 (dk_at dksX0_rust_2 3 rfl rfl)
theorem dX0_rust_53 : decode cX0_rust 53 = .ok (.iload_n 1, 1) := dk_27 (dk_at dksX0_rust_2 6 rfl rfl)
theorem dX0_rust_54 : decode cX0_rust 54 = .ok (.aaload, 1) := dk_50 (dk_at dksX0_rust_2 7 rfl rfl)
theorem dX0_rust_55 : decode cX0_rust 55 = .ok (.iconst 0, 1) := dk_3 (dk_at dksX0_rust_2 8 rfl rfl)
theorem dX0_rust_56 : decode cX0_rust 56 = .ok (.iload 4, 2) := dk_21 4 (dk_at dksX0_rust_2 9 rfl rfl)
theorem dX0_rust_58 : decode cX0_rust 58 = .ok (.iastore, 1) := dk_79 (dk_at dksX0_rust_2 11 rfl rfl)
theorem dX0_rust_59 : decode cX0_rust 59 = .ok (.aload_n 0, 1) := dk_42 (dk_at dksX0_rust_2 12 rfl rfl)
theorem dX0_rust_60 : decode cX0_rust 60 = .ok (.aload_n 0, 1) := dk_42 (dk_at dksX0_rust_2 13 rfl rfl)
theorem dX0_rust_61 : decode cX0_rust 61 = .ok (.getfield 180, 3) := dk_180 0 180 (dk_at dksX0_rust_2 14 rfl rfl)
theorem dX0_rust_64 : decode cX0_rust 64 = .ok (.iload_n 2, 1) := dk_28 (dk_at dksX0_rust_2 17 rfl rfl)
theorem dX0_rust_65 : decode cX0_rust 65 = .ok (.invokevirtual 170, 3) := dk_182 0 170 (dk_at dksX0_rust_2 18 rfl rfl)
theorem dX0_rust_68 : decode cX0_rust 68 = .ok (.pop, 1) := dk_87 (dk_at dksX0_rust_2 21 rfl rfl)
theorem dX0_rust_69 : decode cX0_rust 69 = .ok (.aload_n 0, 1) := dk_42 (dk_at dksX0_rust_2 22 rfl rfl)
theorem dX0_rust_70 : decode cX0_rust 70 = .ok (.getfield 161, 3) := dk_180 0 161 (dk_at dksX0_rust_3 0 rfl rfl)
theorem dX0_rust_73 : decode cX0_rust 73 = .ok (.invokevirtual 86, 3) := dk_182 0 86 (dk_at dksX0_rust_3 3 rfl rfl)
theorem dX0_rust_76 : decode cX0_rust 76 = .ok (.iload_n 3, 1) := dk_29 (dk_at dksX0_rust_3 6 rfl rfl)
theorem dX0_rust_77 : decode cX0_rust 77 = .ok (.iand, 1) := dk_126 (dk_at dksX0_rust_3 7 rfl rfl)
theorem dX0_rust_78 : decode cX0_rust 78 = .ok (.iload_n 3, 1) := dk_29 (dk_at dksX0_rust_3 8 rfl rfl)
theorem dX0_rust_79 : decode cX0_rust 79 = .ok (.if_icmp .ne 6, 3) := dk_160 0 6 (dk_at dksX0_rust_3 9 rfl rfl)
theorem dX0_rust_82 : decode cX0_rust 82 = .ok (.iload 4, 2) := dk_21 4 (dk_at dksX0_rust_3 12 rfl rfl)
theorem dX0_rust_84 : decode cX0_rust 84 = .ok (.ireturn, 1) := dk_172 (dk_at dksX0_rust_3 14 rfl rfl)
theorem dX0_rust_85 : decode cX0_rust 85 = .ok (.iinc 4 1, 3) := dk_132 4 1 (dk_at dksX0_rust_3 15 rfl rfl)
theorem dX0_rust_88 : decode cX0_rust 88 = .ok (.goto (-49), 3) := dk_167 255 207 (dk_at dksX0_rust_3 18 rfl rfl)
theorem dX0_rust_91 : decode cX0_rust 91 = .ok (.bipush (-4), 2) := dk_16 252 (dk_at dksX0_rust_3 21 rfl rfl)
theorem dX0_rust_93 : decode cX0_rust 93 = .ok (.ireturn, 1) := dk_172 (dk_at dksX0_rust_3 23 rfl rfl)
abbrev cX0_bribe : ByteArray := prog_1_method_33_code
def yX0_bribe : MethodName := ⟨RX0, "bribe", "(II)I"⟩
def dkwX0_bribe_4 : List UInt8 := [167, 0, 7, 42, 180, 0, 188, 172]
abbrev dktX0_bribe_4 : List UInt8 := dkwX0_bribe_4 ++ []
def dkwX0_bribe_3 : List UInt8 := [167, 0, 4, 29, 62, 132, 4, 1, 167, 255, 212, 29, 16, 252, 159, 0, 7, 28, 154, 0, 7, 29]
abbrev dktX0_bribe_3 : List UInt8 := dkwX0_bribe_3 ++ dktX0_bribe_4
def dkwX0_bribe_2 : List UInt8 := [42, 21, 4, 182, 0, 194, 42, 42, 42, 180, 0, 180, 27, 182, 0, 170, 182, 0, 198, 153, 0, 8, 21, 4]
abbrev dktX0_bribe_2 : List UInt8 := dkwX0_bribe_2 ++ dktX0_bribe_3
def dkwX0_bribe_1 : List UInt8 := [182, 0, 170, 181, 0, 188, 16, 252, 62, 3, 54, 4, 21, 4, 42, 180, 0, 35, 180, 0, 75, 162, 0, 38]
abbrev dktX0_bribe_1 : List UInt8 := dkwX0_bribe_1 ++ dktX0_bribe_2
def dkwX0_bribe_0 : List UInt8 := [27, 184, 0, 167, 153, 0, 10, 28, 184, 0, 177, 154, 0, 5, 2, 172, 42, 42, 42, 180, 0, 35, 27]
abbrev dktX0_bribe_0 : List UInt8 := dkwX0_bribe_0 ++ dktX0_bribe_1
theorem dksX0_bribe_0 : cX0_bribe.data.toList.drop 0 = dktX0_bribe_0 := by decide +kernel
theorem dksX0_bribe_1 : cX0_bribe.data.toList.drop 23 = dktX0_bribe_1 := dk_seg dksX0_bribe_0 23 rfl rfl
theorem dksX0_bribe_2 : cX0_bribe.data.toList.drop 47 = dktX0_bribe_2 := dk_seg dksX0_bribe_1 24 rfl rfl
theorem dksX0_bribe_3 : cX0_bribe.data.toList.drop 71 = dktX0_bribe_3 := dk_seg dksX0_bribe_2 24 rfl rfl
theorem dksX0_bribe_4 : cX0_bribe.data.toList.drop 93 = dktX0_bribe_4 := dk_seg dksX0_bribe_3 22 rfl rfl
theorem dX0_bribe_0 : decode cX0_bribe 0 = .ok (.iload_n 1, 1) := dk_27 (dk_at dksX0_bribe_0 0 rfl rfl)
theorem dX0_bribe_1 : decode cX0_bribe 1 = .ok (.invokestatic 167, 3) := dk_184 0 167 (dk_at dksX0_bribe_0 1 rfl rfl)
theorem dX0_bribe_4 : decode cX0_bribe 4 = .ok (.ifCond .eq 10, 3) := dk_153 0 10 (dk_at dksX0_bribe_0 4 rfl rfl)
theorem dX0_bribe_7 : decode cX0_bribe 7 = .ok (.iload_n 2, 1) := dk_28 (dk_at dksX0_bribe_0 7 rfl rfl)
theorem dX0_bribe_8 : decode cX0_bribe 8 = .ok (.invokestatic 177, 3) := dk_184 0 177 (dk_at dksX0_bribe_0 8 rfl rfl)
theorem dX0_bribe_11 : decode cX0_bribe 11 = .ok (.ifCond .ne 5, 3) := dk_154 0 5 (dk_at dksX0_bribe_0 11 rfl rfl)
theorem dX0_bribe_14 : decode cX0_bribe 14 = .ok (.iconst (-1), 1) := dk_2 (dk_at dksX0_bribe_0 14 rfl rfl)
theorem dX0_bribe_15 : decode cX0_bribe 15 = .ok (.ireturn, 1) := dk_172 (dk_at dksX0_bribe_0 15 rfl rfl)
theorem dX0_bribe_16 : decode cX0_bribe 16 = .ok (.aload_n 0, 1) := dk_42 (dk_at dksX0_bribe_0 16 rfl rfl)
theorem dX0_bribe_17 : decode cX0_bribe 17 = .ok (.aload_n 0, 1) := dk_42 (dk_at dksX0_bribe_0 17 rfl rfl)
theorem dX0_bribe_18 : decode cX0_bribe 18 = .ok (.aload_n 0, 1) := dk_42 (dk_at dksX0_bribe_0 18 rfl rfl)
theorem dX0_bribe_19 : decode cX0_bribe 19 = .ok (.getfield 35, 3) := dk_180 0 35 (dk_at dksX0_bribe_0 19 rfl rfl)
theorem dX0_bribe_22 : decode cX0_bribe 22 = .ok (.iload_n 1, 1) := dk_27 (dk_at dksX0_bribe_0 22 rfl rfl)
theorem dX0_bribe_23 : decode cX0_bribe 23 = .ok (.invokevirtual 170, 3) := dk_182 0 170 (dk_at dksX0_bribe_1 0 rfl rfl)
theorem dX0_bribe_26 : decode cX0_bribe 26 = .ok (.putfield 188, 3) := dk_181 0 188 (dk_at dksX0_bribe_1 3 rfl rfl)
theorem dX0_bribe_29 : decode cX0_bribe 29 = .ok (.bipush (-4), 2) := dk_16 252 (dk_at dksX0_bribe_1 6 rfl rfl)
theorem dX0_bribe_31 : decode cX0_bribe 31 = .ok (.istore_n 3, 1) := dk_62 (dk_at dksX0_bribe_1 8 rfl rfl)
theorem dX0_bribe_32 : decode cX0_bribe 32 = .ok (.iconst 0, 1) := dk_3 (dk_at dksX0_bribe_1 9 rfl rfl)
theorem dX0_bribe_33 : decode cX0_bribe 33 = .ok (.istore 4, 2) := dk_54 4 (dk_at dksX0_bribe_1 10 rfl rfl)
theorem dX0_bribe_35 : decode cX0_bribe 35 = .ok (.iload 4, 2) := dk_21 4 (dk_at dksX0_bribe_1 12 rfl rfl)
theorem dX0_bribe_37 : decode cX0_bribe 37 = .ok (.aload_n 0, 1) := dk_42 (dk_at dksX0_bribe_1 14 rfl rfl)
theorem dX0_bribe_38 : decode cX0_bribe 38 = .ok (.getfield 35, 3) := dk_180 0 35 (dk_at dksX0_bribe_1 15 rfl rfl)
theorem dX0_bribe_41 : decode cX0_bribe 41 = .ok (.getfield 75, 3) := dk_180 0 75 (dk_at dksX0_bribe_1 18 rfl rfl)
theorem dX0_bribe_44 : decode cX0_bribe 44 = .ok (.if_icmp .ge 38, 3) := dk_162 0 38 (dk_at dksX0_bribe_1 21 rfl rfl)
theorem dX0_bribe_47 : decode cX0_bribe 47 = .ok (.aload_n 0, 1) := dk_42 (dk_at dksX0_bribe_2 0 rfl rfl)
theorem dX0_bribe_48 : decode cX0_bribe 48 = .ok (.iload 4, 2) := dk_21 4 (dk_at dksX0_bribe_2 1 rfl rfl)
theorem dX0_bribe_50 : decode cX0_bribe 50 = .ok (.invokevirtual 194, 3) := dk_182 0 194 (dk_at dksX0_bribe_2 3 rfl rfl)
theorem dX0_bribe_53 : decode cX0_bribe 53 = .ok (.aload_n 0, 1) := dk_42 (dk_at dksX0_bribe_2 6 rfl rfl)
theorem dX0_bribe_54 : decode cX0_bribe 54 = .ok (.aload_n 0, 1) := dk_42 (dk_at dksX0_bribe_2 7 rfl rfl)
theorem dX0_bribe_55 : decode cX0_bribe 55 = .ok (.aload_n 0, 1) := dk_42 (dk_at dksX0_bribe_2 8 rfl rfl)
theorem dX0_bribe_56 : decode cX0_bribe 56 = .ok (.getfield 180, 3) := dk_180 0 180 (dk_at dksX0_bribe_2 9 rfl rfl)
theorem dX0_bribe_59 : decode cX0_bribe 59 = .ok (.iload_n 1, 1) := dk_27 (dk_at dksX0_bribe_2 12 rfl rfl)
theorem dX0_bribe_60 : decode cX0_bribe 60 = .ok (.invokevirtual 170, 3) := dk_182 0 170 (dk_at dksX0_bribe_2 13 rfl rfl)
theorem dX0_bribe_63 : decode cX0_bribe 63 = .ok (.invokevirtual 198, 3) := dk_182 0 198 (dk_at dksX0_bribe_2 16 rfl rfl)
theorem dX0_bribe_66 : decode cX0_bribe 66 = .ok (.ifCond .eq 8, 3) := dk_153 0 8 (dk_at dksX0_bribe_2 19 rfl rfl)
theorem dX0_bribe_69 : decode cX0_bribe 69 = .ok (.iload 4, 2) := dk_21 4 (dk_at dksX0_bribe_2 22 rfl rfl)
theorem dX0_bribe_71 : decode cX0_bribe 71 = .ok (.goto 4, 3) := dk_167 0 4 (dk_at dksX0_bribe_3 0 rfl rfl)
theorem dX0_bribe_74 : decode cX0_bribe 74 = .ok (.iload_n 3, 1) := dk_29 (dk_at dksX0_bribe_3 3 rfl rfl)
theorem dX0_bribe_75 : decode cX0_bribe 75 = .ok (.istore_n 3, 1) := dk_62 (dk_at dksX0_bribe_3 4 rfl rfl)
theorem dX0_bribe_76 : decode cX0_bribe 76 = .ok (.iinc 4 1, 3) := dk_132 4 1 (dk_at dksX0_bribe_3 5 rfl rfl)
theorem dX0_bribe_79 : decode cX0_bribe 79 = .ok (.goto (-44), 3) := dk_167 255 212 (dk_at dksX0_bribe_3 8 rfl rfl)
theorem dX0_bribe_82 : decode cX0_bribe 82 = .ok (.iload_n 3, 1) := dk_29 (dk_at dksX0_bribe_3 11 rfl rfl)
theorem dX0_bribe_83 : decode cX0_bribe 83 = .ok (.bipush (-4), 2) := dk_16 252 (dk_at dksX0_bribe_3 12 rfl rfl)
theorem dX0_bribe_85 : decode cX0_bribe 85 = .ok (.if_icmp .eq 7, 3) := dk_159 0 7 (dk_at dksX0_bribe_3 14 rfl rfl)
theorem dX0_bribe_88 : decode cX0_bribe 88 = .ok (.iload_n 2, 1) := dk_28 (dk_at dksX0_bribe_3 17 rfl rfl)
theorem dX0_bribe_89 : decode cX0_bribe 89 = .ok (.ifCond .ne 7, 3) := dk_154 0 7 (dk_at dksX0_bribe_3 18 rfl rfl)
theorem dX0_bribe_92 : decode cX0_bribe 92 = .ok (.iload_n 3, 1) := dk_29 (dk_at dksX0_bribe_3 21 rfl rfl)
theorem dX0_bribe_93 : decode cX0_bribe 93 = .ok (.goto 7, 3) := dk_167 0 7 (dk_at dksX0_bribe_4 0 rfl rfl)
theorem dX0_bribe_96 : decode cX0_bribe 96 = .ok (.aload_n 0, 1) := dk_42 (dk_at dksX0_bribe_4 3 rfl rfl)
theorem dX0_bribe_97 : decode cX0_bribe 97 = .ok (.getfield 188, 3) := dk_180 0 188 (dk_at dksX0_bribe_4 4 rfl rfl)
theorem dX0_bribe_100 : decode cX0_bribe 100 = .ok (.ireturn, 1) := dk_172 (dk_at dksX0_bribe_4 7 rfl rfl)
abbrev cX0_without : ByteArray := prog_1_method_32_code
def yX0_without : MethodName := ⟨RX0, "without", "(I)V"⟩
def dkwX0_without_3 : List UInt8 := [177]
abbrev dktX0_without_3 : List UInt8 := dkwX0_without_3 ++ []
def dkwX0_without_2 : List UInt8 := [3, 6, 184, 0, 19, 132, 2, 1, 167, 255, 216, 42, 180, 0, 180, 89, 180, 0, 75, 4, 100, 181, 0, 75]
abbrev dktX0_without_2 : List UInt8 := dkwX0_without_2 ++ dktX0_without_3
def dkwX0_without_1 : List UInt8 := [162, 0, 35, 42, 180, 0, 35, 180, 0, 116, 28, 50, 3, 42, 180, 0, 180, 180, 0, 116, 28, 4, 100, 50]
abbrev dktX0_without_1 : List UInt8 := dkwX0_without_1 ++ dktX0_without_2
def dkwX0_without_0 : List UInt8 := [42, 180, 0, 180, 42, 180, 0, 35, 182, 0, 42, 27, 4, 96, 61, 28, 42, 180, 0, 35, 180, 0, 75]
abbrev dktX0_without_0 : List UInt8 := dkwX0_without_0 ++ dktX0_without_1
theorem dksX0_without_0 : cX0_without.data.toList.drop 0 = dktX0_without_0 := by decide +kernel
theorem dksX0_without_1 : cX0_without.data.toList.drop 23 = dktX0_without_1 := dk_seg dksX0_without_0 23 rfl rfl
theorem dksX0_without_2 : cX0_without.data.toList.drop 47 = dktX0_without_2 := dk_seg dksX0_without_1 24 rfl rfl
theorem dksX0_without_3 : cX0_without.data.toList.drop 71 = dktX0_without_3 := dk_seg dksX0_without_2 24 rfl rfl
theorem dX0_without_0 : decode cX0_without 0 = .ok (.aload_n 0, 1) := dk_42 (dk_at dksX0_without_0 0 rfl rfl)
theorem dX0_without_1 : decode cX0_without 1 = .ok (.getfield 180, 3) := dk_180 0 180 (dk_at dksX0_without_0 1 rfl rfl)
theorem dX0_without_4 : decode cX0_without 4 = .ok (.aload_n 0, 1) := dk_42 (dk_at dksX0_without_0 4 rfl rfl)
theorem dX0_without_5 : decode cX0_without 5 = .ok (.getfield 35, 3) := dk_180 0 35 (dk_at dksX0_without_0 5 rfl rfl)
theorem dX0_without_8 : decode cX0_without 8 = .ok (.invokevirtual 42, 3) := dk_182 0 42 (dk_at dksX0_without_0 8 rfl rfl)
theorem dX0_without_11 : decode cX0_without 11 = .ok (.iload_n 1, 1) := dk_27 (dk_at dksX0_without_0 11 rfl rfl)
theorem dX0_without_12 : decode cX0_without 12 = .ok (.iconst 1, 1) := dk_4 (dk_at dksX0_without_0 12 rfl rfl)
theorem dX0_without_13 : decode cX0_without 13 = .ok (.iadd, 1) := dk_96 (dk_at dksX0_without_0 13 rfl rfl)
theorem dX0_without_14 : decode cX0_without 14 = .ok (.istore_n 2, 1) := dk_61 (dk_at dksX0_without_0 14 rfl rfl)
theorem dX0_without_15 : decode cX0_without 15 = .ok (.iload_n 2, 1) := dk_28 (dk_at dksX0_without_0 15 rfl rfl)
theorem dX0_without_16 : decode cX0_without 16 = .ok (.aload_n 0, 1) := dk_42 (dk_at dksX0_without_0 16 rfl rfl)
theorem dX0_without_17 : decode cX0_without 17 = .ok (.getfield 35, 3) := dk_180 0 35 (dk_at dksX0_without_0 17 rfl rfl)
theorem dX0_without_20 : decode cX0_without 20 = .ok (.getfield 75, 3) := dk_180 0 75 (dk_at dksX0_without_0 20 rfl rfl)
theorem dX0_without_23 : decode cX0_without 23 = .ok (.if_icmp .ge 35, 3) := dk_162 0 35 (dk_at dksX0_without_1 0 rfl rfl)
theorem dX0_without_26 : decode cX0_without 26 = .ok (.aload_n 0, 1) := dk_42 (dk_at dksX0_without_1 3 rfl rfl)
theorem dX0_without_27 : decode cX0_without 27 = .ok (.getfield 35, 3) := dk_180 0 35 (dk_at dksX0_without_1 4 rfl rfl)
theorem dX0_without_30 : decode cX0_without 30 = .ok (.getfield 116, 3) := dk_180 0 116 (dk_at dksX0_without_1 7 rfl rfl)
theorem dX0_without_33 : decode cX0_without 33 = .ok (.iload_n 2, 1) := dk_28 (dk_at dksX0_without_1 10 rfl rfl)
theorem dX0_without_34 : decode cX0_without 34 = .ok (.aaload, 1) := dk_50 (dk_at dksX0_without_1 11 rfl rfl)
theorem dX0_without_35 : decode cX0_without 35 = .ok (.iconst 0, 1) := dk_3 (dk_at dksX0_without_1 12 rfl rfl)
theorem dX0_without_36 : decode cX0_without 36 = .ok (.aload_n 0, 1) := dk_42 (dk_at dksX0_without_1 13 rfl rfl)
theorem dX0_without_37 : decode cX0_without 37 = .ok (.getfield 180, 3) := dk_180 0 180 (dk_at dksX0_without_1 14 rfl rfl)
theorem dX0_without_40 : decode cX0_without 40 = .ok (.getfield 116, 3) := dk_180 0 116 (dk_at dksX0_without_1 17 rfl rfl)
theorem dX0_without_43 : decode cX0_without 43 = .ok (.iload_n 2, 1) := dk_28 (dk_at dksX0_without_1 20 rfl rfl)
theorem dX0_without_44 : decode cX0_without 44 = .ok (.iconst 1, 1) := dk_4 (dk_at dksX0_without_1 21 rfl rfl)
theorem dX0_without_45 : decode cX0_without 45 = .ok (.isub, 1) := dk_100 (dk_at dksX0_without_1 22 rfl rfl)
theorem dX0_without_46 : decode cX0_without 46 = .ok (.aaload, 1) := dk_50 (dk_at dksX0_without_1 23 rfl rfl)
theorem dX0_without_47 : decode cX0_without 47 = .ok (.iconst 0, 1) := dk_3 (dk_at dksX0_without_2 0 rfl rfl)
theorem dX0_without_48 : decode cX0_without 48 = .ok (.iconst 3, 1) := dk_6 (dk_at dksX0_without_2 1 rfl rfl)
theorem dX0_without_49 : decode cX0_without 49 = .ok (.invokestatic 19, 3) := dk_184 0 19 (dk_at dksX0_without_2 2 rfl rfl)
theorem dX0_without_52 : decode cX0_without 52 = .ok (.iinc 2 1, 3) := dk_132 2 1 (dk_at dksX0_without_2 5 rfl rfl)
theorem dX0_without_55 : decode cX0_without 55 = .ok (.goto (-40), 3) := dk_167 255 216 (dk_at dksX0_without_2 8 rfl rfl)
theorem dX0_without_58 : decode cX0_without 58 = .ok (.aload_n 0, 1) := dk_42 (dk_at dksX0_without_2 11 rfl rfl)
theorem dX0_without_59 : decode cX0_without 59 = .ok (.getfield 180, 3) := dk_180 0 180 (dk_at dksX0_without_2 12 rfl rfl)
theorem dX0_without_62 : decode cX0_without 62 = .ok (.dup, 1) := dk_89 (dk_at dksX0_without_2 15 rfl rfl)
theorem dX0_without_63 : decode cX0_without 63 = .ok (.getfield 75, 3) := dk_180 0 75 (dk_at dksX0_without_2 16 rfl rfl)
theorem dX0_without_66 : decode cX0_without 66 = .ok (.iconst 1, 1) := dk_4 (dk_at dksX0_without_2 19 rfl rfl)
theorem dX0_without_67 : decode cX0_without 67 = .ok (.isub, 1) := dk_100 (dk_at dksX0_without_2 20 rfl rfl)
theorem dX0_without_68 : decode cX0_without 68 = .ok (.putfield 75, 3) := dk_181 0 75 (dk_at dksX0_without_2 21 rfl rfl)
theorem dX0_without_71 : decode cX0_without 71 = .ok (.return_, 1) := dk_177 (dk_at dksX0_without_3 0 rfl rfl)
abbrev cX0_isLess : ByteArray := prog_1_method_31_code
def yX0_isLess : MethodName := ⟨RX0, "isLess", "(I)Z"⟩
def dkwX0_isLess_1 : List UInt8 := [181, 0, 188, 28, 172]
abbrev dktX0_isLess_1 : List UInt8 := dkwX0_isLess_1 ++ []
def dkwX0_isLess_0 : List UInt8 := [27, 42, 180, 0, 188, 162, 0, 7, 4, 167, 0, 4, 3, 61, 42, 42, 180, 0, 188, 27, 184, 0, 191]
abbrev dktX0_isLess_0 : List UInt8 := dkwX0_isLess_0 ++ dktX0_isLess_1
theorem dksX0_isLess_0 : cX0_isLess.data.toList.drop 0 = dktX0_isLess_0 := by decide +kernel
theorem dksX0_isLess_1 : cX0_isLess.data.toList.drop 23 = dktX0_isLess_1 := dk_seg dksX0_isLess_0 23 rfl rfl
theorem dX0_isLess_0 : decode cX0_isLess 0 = .ok (.iload_n 1, 1) := dk_27 (dk_at dksX0_isLess_0 0 rfl rfl)
theorem dX0_isLess_1 : decode cX0_isLess 1 = .ok (.aload_n 0, 1) := dk_42 (dk_at dksX0_isLess_0 1 rfl rfl)
theorem dX0_isLess_2 : decode cX0_isLess 2 = .ok (.getfield 188, 3) := dk_180 0 188 (dk_at dksX0_isLess_0 2 rfl rfl)
theorem dX0_isLess_5 : decode cX0_isLess 5 = .ok (.if_icmp .ge 7, 3) := dk_162 0 7 (dk_at dksX0_isLess_0 5 rfl rfl)
theorem dX0_isLess_8 : decode cX0_isLess 8 = .ok (.iconst 1, 1) := dk_4 (dk_at dksX0_isLess_0 8 rfl rfl)
theorem dX0_isLess_9 : decode cX0_isLess 9 = .ok (.goto 4, 3) := dk_167 0 4 (dk_at dksX0_isLess_0 9 rfl rfl)
theorem dX0_isLess_12 : decode cX0_isLess 12 = .ok (.iconst 0, 1) := dk_3 (dk_at dksX0_isLess_0 12 rfl rfl)
theorem dX0_isLess_13 : decode cX0_isLess 13 = .ok (.istore_n 2, 1) := dk_61 (dk_at dksX0_isLess_0 13 rfl rfl)
theorem dX0_isLess_14 : decode cX0_isLess 14 = .ok (.aload_n 0, 1) := dk_42 (dk_at dksX0_isLess_0 14 rfl rfl)
theorem dX0_isLess_15 : decode cX0_isLess 15 = .ok (.aload_n 0, 1) := dk_42 (dk_at dksX0_isLess_0 15 rfl rfl)
theorem dX0_isLess_16 : decode cX0_isLess 16 = .ok (.getfield 188, 3) := dk_180 0 188 (dk_at dksX0_isLess_0 16 rfl rfl)
theorem dX0_isLess_19 : decode cX0_isLess 19 = .ok (.iload_n 1, 1) := dk_27 (dk_at dksX0_isLess_0 19 rfl rfl)
theorem dX0_isLess_20 : decode cX0_isLess 20 = .ok (.invokestatic 191, 3) := dk_184 0 191 (dk_at dksX0_isLess_0 20 rfl rfl)
theorem dX0_isLess_23 : decode cX0_isLess 23 = .ok (.putfield 188, 3) := dk_181 0 188 (dk_at dksX0_isLess_1 0 rfl rfl)
theorem dX0_isLess_26 : decode cX0_isLess 26 = .ok (.iload_n 2, 1) := dk_28 (dk_at dksX0_isLess_1 3 rfl rfl)
theorem dX0_isLess_27 : decode cX0_isLess 27 = .ok (.ireturn, 1) := dk_172 (dk_at dksX0_isLess_1 4 rfl rfl)
abbrev cX0_swap : ByteArray := prog_1_method_34_code
def yX0_swap : MethodName := ⟨RX0, "swap", "(II)I"⟩
def dkwX0_swap_7 : List UInt8 := [16, 252, 159, 0, 7, 28, 154, 0, 7, 29, 167, 0, 7, 42, 180, 0, 188, 172]
abbrev dktX0_swap_7 : List UInt8 := dkwX0_swap_7 ++ []
def dkwX0_swap_6 : List UInt8 := [21, 4, 104, 21, 5, 96, 167, 0, 4, 29, 62, 132, 5, 1, 167, 255, 153, 132, 4, 1, 167, 255, 129, 29]
abbrev dktX0_swap_6 : List UInt8 := dkwX0_swap_6 ++ dktX0_swap_7
def dkwX0_swap_5 : List UInt8 := [21, 4, 50, 4, 46, 79, 42, 42, 42, 180, 0, 180, 27, 182, 0, 170, 182, 0, 198, 153, 0, 14, 16, 10]
abbrev dktX0_swap_5 : List UInt8 := dkwX0_swap_5 ++ dktX0_swap_6
def dkwX0_swap_4 : List UInt8 := [21, 5, 50, 4, 46, 79, 42, 180, 0, 180, 180, 0, 128, 21, 5, 50, 4, 42, 180, 0, 35, 180, 0, 128]
abbrev dktX0_swap_4 : List UInt8 := dkwX0_swap_4 ++ dktX0_swap_5
def dkwX0_swap_3 : List UInt8 := [180, 0, 35, 182, 0, 42, 42, 180, 0, 180, 180, 0, 128, 21, 4, 50, 4, 42, 180, 0, 35, 180, 0, 128]
abbrev dktX0_swap_3 : List UInt8 := dkwX0_swap_3 ++ dktX0_swap_4
def dkwX0_swap_2 : List UInt8 := [21, 4, 4, 96, 54, 5, 21, 5, 42, 180, 0, 35, 180, 0, 78, 162, 0, 97, 42, 180, 0, 180, 42]
abbrev dktX0_swap_2 : List UInt8 := dkwX0_swap_2 ++ dktX0_swap_3
def dkwX0_swap_1 : List UInt8 := [182, 0, 170, 181, 0, 188, 16, 252, 62, 3, 54, 4, 21, 4, 42, 180, 0, 35, 180, 0, 78, 162, 0, 121]
abbrev dktX0_swap_1 : List UInt8 := dkwX0_swap_1 ++ dktX0_swap_2
def dkwX0_swap_0 : List UInt8 := [27, 184, 0, 167, 153, 0, 10, 28, 184, 0, 177, 154, 0, 5, 2, 172, 42, 42, 42, 180, 0, 35, 27]
abbrev dktX0_swap_0 : List UInt8 := dkwX0_swap_0 ++ dktX0_swap_1
theorem dksX0_swap_0 : cX0_swap.data.toList.drop 0 = dktX0_swap_0 := by decide +kernel
theorem dksX0_swap_1 : cX0_swap.data.toList.drop 23 = dktX0_swap_1 := dk_seg dksX0_swap_0 23 rfl rfl
theorem dksX0_swap_2 : cX0_swap.data.toList.drop 47 = dktX0_swap_2 := dk_seg dksX0_swap_1 24 rfl rfl
theorem dksX0_swap_3 : cX0_swap.data.toList.drop 70 = dktX0_swap_3 := dk_seg dksX0_swap_2 23 rfl rfl
theorem dksX0_swap_4 : cX0_swap.data.toList.drop 94 = dktX0_swap_4 := dk_seg dksX0_swap_3 24 rfl rfl
theorem dksX0_swap_5 : cX0_swap.data.toList.drop 118 = dktX0_swap_5 := dk_seg dksX0_swap_4 24 rfl rfl
theorem dksX0_swap_6 : cX0_swap.data.toList.drop 142 = dktX0_swap_6 := dk_seg dksX0_swap_5 24 rfl rfl
theorem dksX0_swap_7 : cX0_swap.data.toList.drop 166 = dktX0_swap_7 := dk_seg dksX0_swap_6 24 rfl rfl
theorem dX0_swap_0 : decode cX0_swap 0 = .ok (.iload_n 1, 1) := dk_27 (dk_at dksX0_swap_0 0 rfl rfl)
theorem dX0_swap_1 : decode cX0_swap 1 = .ok (.invokestatic 167, 3) := dk_184 0 167 (dk_at dksX0_swap_0 1 rfl rfl)
theorem dX0_swap_4 : decode cX0_swap 4 = .ok (.ifCond .eq 10, 3) := dk_153 0 10 (dk_at dksX0_swap_0 4 rfl rfl)
theorem dX0_swap_7 : decode cX0_swap 7 = .ok (.iload_n 2, 1) := dk_28 (dk_at dksX0_swap_0 7 rfl rfl)
theorem dX0_swap_8 : decode cX0_swap 8 = .ok (.invokestatic 177, 3) := dk_184 0 177 (dk_at dksX0_swap_0 8 rfl rfl)
theorem dX0_swap_11 : decode cX0_swap 11 = .ok (.ifCond .ne 5, 3) := dk_154 0 5 (dk_at dksX0_swap_0 11 rfl rfl)
theorem dX0_swap_14 : decode cX0_swap 14 = .ok (.iconst (-1), 1) := dk_2 (dk_at dksX0_swap_0 14 rfl rfl)
theorem dX0_swap_15 : decode cX0_swap 15 = .ok (.ireturn, 1) := dk_172 (dk_at dksX0_swap_0 15 rfl rfl)
theorem dX0_swap_16 : decode cX0_swap 16 = .ok (.aload_n 0, 1) := dk_42 (dk_at dksX0_swap_0 16 rfl rfl)
theorem dX0_swap_17 : decode cX0_swap 17 = .ok (.aload_n 0, 1) := dk_42 (dk_at dksX0_swap_0 17 rfl rfl)
theorem dX0_swap_18 : decode cX0_swap 18 = .ok (.aload_n 0, 1) := dk_42 (dk_at dksX0_swap_0 18 rfl rfl)
theorem dX0_swap_19 : decode cX0_swap 19 = .ok (.getfield 35, 3) := dk_180 0 35 (dk_at dksX0_swap_0 19 rfl rfl)
theorem dX0_swap_22 : decode cX0_swap 22 = .ok (.iload_n 1, 1) := dk_27 (dk_at dksX0_swap_0 22 rfl rfl)
theorem dX0_swap_23 : decode cX0_swap 23 = .ok (.invokevirtual 170, 3) := dk_182 0 170 (dk_at dksX0_swap_1 0 rfl rfl)
theorem dX0_swap_26 : decode cX0_swap 26 = .ok (.putfield 188, 3) := dk_181 0 188 (dk_at dksX0_swap_1 3 rfl rfl)
theorem dX0_swap_29 : decode cX0_swap 29 = .ok (.bipush (-4), 2) := dk_16 252 (dk_at dksX0_swap_1 6 rfl rfl)
theorem dX0_swap_31 : decode cX0_swap 31 = .ok (.istore_n 3, 1) := dk_62 (dk_at dksX0_swap_1 8 rfl rfl)
theorem dX0_swap_32 : decode cX0_swap 32 = .ok (.iconst 0, 1) := dk_3 (dk_at dksX0_swap_1 9 rfl rfl)
theorem dX0_swap_33 : decode cX0_swap 33 = .ok (.istore 4, 2) := dk_54 4 (dk_at dksX0_swap_1 10 rfl rfl)
theorem dX0_swap_35 : decode cX0_swap 35 = .ok (.iload 4, 2) := dk_21 4 (dk_at dksX0_swap_1 12 rfl rfl)
theorem dX0_swap_37 : decode cX0_swap 37 = .ok (.aload_n 0, 1) := dk_42 (dk_at dksX0_swap_1 14 rfl rfl)
theorem dX0_swap_38 : decode cX0_swap 38 = .ok (.getfield 35, 3) := dk_180 0 35 (dk_at dksX0_swap_1 15 rfl rfl)
theorem dX0_swap_41 : decode cX0_swap 41 = .ok (.getfield 78, 3) := dk_180 0 78 (dk_at dksX0_swap_1 18 rfl rfl)
theorem dX0_swap_44 : decode cX0_swap 44 = .ok (.if_icmp .ge 121, 3) := dk_162 0 121 (dk_at dksX0_swap_1 21 rfl rfl)
theorem dX0_swap_47 : decode cX0_swap 47 = .ok (.iload 4, 2) := dk_21 4 (dk_at dksX0_swap_2 0 rfl rfl)
theorem dX0_swap_49 : decode cX0_swap 49 = .ok (.iconst 1, 1) := dk_4 (dk_at dksX0_swap_2 2 rfl rfl)
theorem dX0_swap_50 : decode cX0_swap 50 = .ok (.iadd, 1) := dk_96 (dk_at dksX0_swap_2 3 rfl rfl)
theorem dX0_swap_51 : decode cX0_swap 51 = .ok (.istore 5, 2) := dk_54 5 (dk_at dksX0_swap_2 4 rfl rfl)
theorem dX0_swap_53 : decode cX0_swap 53 = .ok (.iload 5, 2) := dk_21 5 (dk_at dksX0_swap_2 6 rfl rfl)
theorem dX0_swap_55 : decode cX0_swap 55 = .ok (.aload_n 0, 1) := dk_42 (dk_at dksX0_swap_2 8 rfl rfl)
theorem dX0_swap_56 : decode cX0_swap 56 = .ok (.getfield 35, 3) := dk_180 0 35 (dk_at dksX0_swap_2 9 rfl rfl)
theorem dX0_swap_59 : decode cX0_swap 59 = .ok (.getfield 78, 3) := dk_180 0 78 (dk_at dksX0_swap_2 12 rfl rfl)
theorem dX0_swap_62 : decode cX0_swap 62 = .ok (.if_icmp .ge 97, 3) := dk_162 0 97 (dk_at dksX0_swap_2 15 rfl rfl)
theorem dX0_swap_65 : decode cX0_swap 65 = .ok (.aload_n 0, 1) := dk_42 (dk_at dksX0_swap_2 18 rfl rfl)
theorem dX0_swap_66 : decode cX0_swap 66 = .ok (.getfield 180, 3) := dk_180 0 180 (dk_at dksX0_swap_2 19 rfl rfl)
theorem dX0_swap_69 : decode cX0_swap 69 = .ok (.aload_n 0, 1) := dk_42 (dk_at dksX0_swap_2 22 rfl rfl)
theorem dX0_swap_70 : decode cX0_swap 70 = .ok (.getfield 35, 3) := dk_180 0 35 (dk_at dksX0_swap_3 0 rfl rfl)
theorem dX0_swap_73 : decode cX0_swap 73 = .ok (.invokevirtual 42, 3) := dk_182 0 42 (dk_at dksX0_swap_3 3 rfl rfl)
theorem dX0_swap_76 : decode cX0_swap 76 = .ok (.aload_n 0, 1) := dk_42 (dk_at dksX0_swap_3 6 rfl rfl)
theorem dX0_swap_77 : decode cX0_swap 77 = .ok (.getfield 180, 3) := dk_180 0 180 (dk_at dksX0_swap_3 7 rfl rfl)
theorem dX0_swap_80 : decode cX0_swap 80 = .ok (.getfield 128, 3) := dk_180 0 128 (dk_at dksX0_swap_3 10 rfl rfl)
theorem dX0_swap_83 : decode cX0_swap 83 = .ok (.iload 4, 2) := dk_21 4 (dk_at dksX0_swap_3 13 rfl rfl)
theorem dX0_swap_85 : decode cX0_swap 85 = .ok (.aaload, 1) := dk_50 (dk_at dksX0_swap_3 15 rfl rfl)
theorem dX0_swap_86 : decode cX0_swap 86 = .ok (.iconst 1, 1) := dk_4 (dk_at dksX0_swap_3 16 rfl rfl)
theorem dX0_swap_87 : decode cX0_swap 87 = .ok (.aload_n 0, 1) := dk_42 (dk_at dksX0_swap_3 17 rfl rfl)
theorem dX0_swap_88 : decode cX0_swap 88 = .ok (.getfield 35, 3) := dk_180 0 35 (dk_at dksX0_swap_3 18 rfl rfl)
theorem dX0_swap_91 : decode cX0_swap 91 = .ok (.getfield 128, 3) := dk_180 0 128 (dk_at dksX0_swap_3 21 rfl rfl)
theorem dX0_swap_94 : decode cX0_swap 94 = .ok (.iload 5, 2) := dk_21 5 (dk_at dksX0_swap_4 0 rfl rfl)
theorem dX0_swap_96 : decode cX0_swap 96 = .ok (.aaload, 1) := dk_50 (dk_at dksX0_swap_4 2 rfl rfl)
theorem dX0_swap_97 : decode cX0_swap 97 = .ok (.iconst 1, 1) := dk_4 (dk_at dksX0_swap_4 3 rfl rfl)
theorem dX0_swap_98 : decode cX0_swap 98 = .ok (.iaload, 1) := dk_46 (dk_at dksX0_swap_4 4 rfl rfl)
theorem dX0_swap_99 : decode cX0_swap 99 = .ok (.iastore, 1) := dk_79 (dk_at dksX0_swap_4 5 rfl rfl)
theorem dX0_swap_100 : decode cX0_swap 100 = .ok (.aload_n 0, 1) := dk_42 (dk_at dksX0_swap_4 6 rfl rfl)
theorem dX0_swap_101 : decode cX0_swap 101 = .ok (.getfield 180, 3) := dk_180 0 180 (dk_at dksX0_swap_4 7 rfl rfl)
theorem dX0_swap_104 : decode cX0_swap 104 = .ok (.getfield 128, 3) := dk_180 0 128 (dk_at dksX0_swap_4 10 rfl rfl)
theorem dX0_swap_107 : decode cX0_swap 107 = .ok (.iload 5, 2) := dk_21 5 (dk_at dksX0_swap_4 13 rfl rfl)
theorem dX0_swap_109 : decode cX0_swap 109 = .ok (.aaload, 1) := dk_50 (dk_at dksX0_swap_4 15 rfl rfl)
theorem dX0_swap_110 : decode cX0_swap 110 = .ok (.iconst 1, 1) := dk_4 (dk_at dksX0_swap_4 16 rfl rfl)
theorem dX0_swap_111 : decode cX0_swap 111 = .ok (.aload_n 0, 1) := dk_42 (dk_at dksX0_swap_4 17 rfl rfl)
theorem dX0_swap_112 : decode cX0_swap 112 = .ok (.getfield 35, 3) := dk_180 0 35 (dk_at dksX0_swap_4 18 rfl rfl)
theorem dX0_swap_115 : decode cX0_swap 115 = .ok (.getfield 128, 3) := dk_180 0 128 (dk_at dksX0_swap_4 21 rfl rfl)
theorem dX0_swap_118 : decode cX0_swap 118 = .ok (.iload 4, 2) := dk_21 4 (dk_at dksX0_swap_5 0 rfl rfl)
theorem dX0_swap_120 : decode cX0_swap 120 = .ok (.aaload, 1) := dk_50 (dk_at dksX0_swap_5 2 rfl rfl)
theorem dX0_swap_121 : decode cX0_swap 121 = .ok (.iconst 1, 1) := dk_4 (dk_at dksX0_swap_5 3 rfl rfl)
theorem dX0_swap_122 : decode cX0_swap 122 = .ok (.iaload, 1) := dk_46 (dk_at dksX0_swap_5 4 rfl rfl)
theorem dX0_swap_123 : decode cX0_swap 123 = .ok (.iastore, 1) := dk_79 (dk_at dksX0_swap_5 5 rfl rfl)
theorem dX0_swap_124 : decode cX0_swap 124 = .ok (.aload_n 0, 1) := dk_42 (dk_at dksX0_swap_5 6 rfl rfl)
theorem dX0_swap_125 : decode cX0_swap 125 = .ok (.aload_n 0, 1) := dk_42 (dk_at dksX0_swap_5 7 rfl rfl)
theorem dX0_swap_126 : decode cX0_swap 126 = .ok (.aload_n 0, 1) := dk_42 (dk_at dksX0_swap_5 8 rfl rfl)
theorem dX0_swap_127 : decode cX0_swap 127 = .ok (.getfield 180, 3) := dk_180 0 180 (dk_at dksX0_swap_5 9 rfl rfl)
theorem dX0_swap_130 : decode cX0_swap 130 = .ok (.iload_n 1, 1) := dk_27 (dk_at dksX0_swap_5 12 rfl rfl)
theorem dX0_swap_131 : decode cX0_swap 131 = .ok (.invokevirtual 170, 3) := dk_182 0 170 (dk_at dksX0_swap_5 13 rfl rfl)
theorem dX0_swap_134 : decode cX0_swap 134 = .ok (.invokevirtual 198, 3) := dk_182 0 198 (dk_at dksX0_swap_5 16 rfl rfl)
theorem dX0_swap_137 : decode cX0_swap 137 = .ok (.ifCond .eq 14, 3) := dk_153 0 14 (dk_at dksX0_swap_5 19 rfl rfl)
theorem dX0_swap_140 : decode cX0_swap 140 = .ok (.bipush 10, 2) := dk_16 10 (dk_at dksX0_swap_5 22 rfl rfl)
theorem dX0_swap_142 : decode cX0_swap 142 = .ok (.iload 4, 2) := dk_21 4 (dk_at dksX0_swap_6 0 rfl rfl)
theorem dX0_swap_144 : decode cX0_swap 144 = .ok (.imul, 1) := dk_104 (dk_at dksX0_swap_6 2 rfl rfl)
theorem dX0_swap_145 : decode cX0_swap 145 = .ok (.iload 5, 2) := dk_21 5 (dk_at dksX0_swap_6 3 rfl rfl)
theorem dX0_swap_147 : decode cX0_swap 147 = .ok (.iadd, 1) := dk_96 (dk_at dksX0_swap_6 5 rfl rfl)
theorem dX0_swap_148 : decode cX0_swap 148 = .ok (.goto 4, 3) := dk_167 0 4 (dk_at dksX0_swap_6 6 rfl rfl)
theorem dX0_swap_151 : decode cX0_swap 151 = .ok (.iload_n 3, 1) := dk_29 (dk_at dksX0_swap_6 9 rfl rfl)
theorem dX0_swap_152 : decode cX0_swap 152 = .ok (.istore_n 3, 1) := dk_62 (dk_at dksX0_swap_6 10 rfl rfl)
theorem dX0_swap_153 : decode cX0_swap 153 = .ok (.iinc 5 1, 3) := dk_132 5 1 (dk_at dksX0_swap_6 11 rfl rfl)
theorem dX0_swap_156 : decode cX0_swap 156 = .ok (.goto (-103), 3) := dk_167 255 153 (dk_at dksX0_swap_6 14 rfl rfl)
theorem dX0_swap_159 : decode cX0_swap 159 = .ok (.iinc 4 1, 3) := dk_132 4 1 (dk_at dksX0_swap_6 17 rfl rfl)
theorem dX0_swap_162 : decode cX0_swap 162 = .ok (.goto (-127), 3) := dk_167 255 129 (dk_at dksX0_swap_6 20 rfl rfl)
theorem dX0_swap_165 : decode cX0_swap 165 = .ok (.iload_n 3, 1) := dk_29 (dk_at dksX0_swap_6 23 rfl rfl)
theorem dX0_swap_166 : decode cX0_swap 166 = .ok (.bipush (-4), 2) := dk_16 252 (dk_at dksX0_swap_7 0 rfl rfl)
theorem dX0_swap_168 : decode cX0_swap 168 = .ok (.if_icmp .eq 7, 3) := dk_159 0 7 (dk_at dksX0_swap_7 2 rfl rfl)
theorem dX0_swap_171 : decode cX0_swap 171 = .ok (.iload_n 2, 1) := dk_28 (dk_at dksX0_swap_7 5 rfl rfl)
theorem dX0_swap_172 : decode cX0_swap 172 = .ok (.ifCond .ne 7, 3) := dk_154 0 7 (dk_at dksX0_swap_7 6 rfl rfl)
theorem dX0_swap_175 : decode cX0_swap 175 = .ok (.iload_n 3, 1) := dk_29 (dk_at dksX0_swap_7 9 rfl rfl)
theorem dX0_swap_176 : decode cX0_swap 176 = .ok (.goto 7, 3) := dk_167 0 7 (dk_at dksX0_swap_7 10 rfl rfl)
theorem dX0_swap_179 : decode cX0_swap 179 = .ok (.aload_n 0, 1) := dk_42 (dk_at dksX0_swap_7 13 rfl rfl)
theorem dX0_swap_180 : decode cX0_swap 180 = .ok (.getfield 188, 3) := dk_180 0 188 (dk_at dksX0_swap_7 14 rfl rfl)
theorem dX0_swap_183 : decode cX0_swap 183 = .ok (.ireturn, 1) := dk_172 (dk_at dksX0_swap_7 17 rfl rfl)
abbrev cX0_kind : ByteArray := prog_1_method_35_code
def yX0_kind : MethodName := ⟨RX0, "kind", "(III)I"⟩
def dkwX0_kind_5 : List UInt8 := [172]
abbrev dktX0_kind_5 : List UInt8 := dkwX0_kind_5 ++ []
def dkwX0_kind_4 : List UInt8 := [21, 7, 184, 0, 183, 54, 4, 132, 6, 1, 167, 255, 198, 29, 154, 0, 8, 21, 5, 167, 0, 5, 21, 4]
abbrev dktX0_kind_4 : List UInt8 := dkwX0_kind_4 ++ dktX0_kind_5
def dkwX0_kind_3 : List UInt8 := [182, 0, 170, 54, 7, 21, 7, 21, 4, 164, 0, 8, 21, 6, 167, 0, 5, 21, 5, 54, 5, 21, 4]
abbrev dktX0_kind_3 : List UInt8 := dkwX0_kind_3 ++ dktX0_kind_4
def dkwX0_kind_2 : List UInt8 := [162, 0, 58, 42, 180, 0, 180, 180, 0, 116, 27, 50, 3, 21, 6, 79, 42, 42, 180, 0, 180, 28]
abbrev dktX0_kind_2 : List UInt8 := dkwX0_kind_2 ++ dktX0_kind_3
def dkwX0_kind_1 : List UInt8 := [16, 252, 54, 4, 3, 54, 5, 42, 180, 0, 180, 42, 180, 0, 35, 182, 0, 42, 3, 54, 6, 21, 6, 7]
abbrev dktX0_kind_1 : List UInt8 := dkwX0_kind_1 ++ dktX0_kind_2
def dkwX0_kind_0 : List UInt8 := [42, 27, 182, 0, 113, 153, 0, 17, 28, 184, 0, 167, 153, 0, 10, 29, 184, 0, 177, 154, 0, 5, 2, 172]
abbrev dktX0_kind_0 : List UInt8 := dkwX0_kind_0 ++ dktX0_kind_1
theorem dksX0_kind_0 : cX0_kind.data.toList.drop 0 = dktX0_kind_0 := by decide +kernel
theorem dksX0_kind_1 : cX0_kind.data.toList.drop 24 = dktX0_kind_1 := dk_seg dksX0_kind_0 24 rfl rfl
theorem dksX0_kind_2 : cX0_kind.data.toList.drop 48 = dktX0_kind_2 := dk_seg dksX0_kind_1 24 rfl rfl
theorem dksX0_kind_3 : cX0_kind.data.toList.drop 70 = dktX0_kind_3 := dk_seg dksX0_kind_2 22 rfl rfl
theorem dksX0_kind_4 : cX0_kind.data.toList.drop 93 = dktX0_kind_4 := dk_seg dksX0_kind_3 23 rfl rfl
theorem dksX0_kind_5 : cX0_kind.data.toList.drop 117 = dktX0_kind_5 := dk_seg dksX0_kind_4 24 rfl rfl
theorem dX0_kind_0 : decode cX0_kind 0 = .ok (.aload_n 0, 1) := dk_42 (dk_at dksX0_kind_0 0 rfl rfl)
theorem dX0_kind_1 : decode cX0_kind 1 = .ok (.iload_n 1, 1) := dk_27 (dk_at dksX0_kind_0 1 rfl rfl)
theorem dX0_kind_2 : decode cX0_kind 2 = .ok (.invokevirtual 113, 3) := dk_182 0 113 (dk_at dksX0_kind_0 2 rfl rfl)
theorem dX0_kind_5 : decode cX0_kind 5 = .ok (.ifCond .eq 17, 3) := dk_153 0 17 (dk_at dksX0_kind_0 5 rfl rfl)
theorem dX0_kind_8 : decode cX0_kind 8 = .ok (.iload_n 2, 1) := dk_28 (dk_at dksX0_kind_0 8 rfl rfl)
theorem dX0_kind_9 : decode cX0_kind 9 = .ok (.invokestatic 167, 3) := dk_184 0 167 (dk_at dksX0_kind_0 9 rfl rfl)
theorem dX0_kind_12 : decode cX0_kind 12 = .ok (.ifCond .eq 10, 3) := dk_153 0 10 (dk_at dksX0_kind_0 12 rfl rfl)
theorem dX0_kind_15 : decode cX0_kind 15 = .ok (.iload_n 3, 1) := dk_29 (dk_at dksX0_kind_0 15 rfl rfl)
theorem dX0_kind_16 : decode cX0_kind 16 = .ok (.invokestatic 177, 3) := dk_184 0 177 (dk_at dksX0_kind_0 16 rfl rfl)
theorem dX0_kind_19 : decode cX0_kind 19 = .ok (.ifCond .ne 5, 3) := dk_154 0 5 (dk_at dksX0_kind_0 19 rfl rfl)
theorem dX0_kind_22 : decode cX0_kind 22 = .ok (.iconst (-1), 1) := dk_2 (dk_at dksX0_kind_0 22 rfl rfl)
theorem dX0_kind_23 : decode cX0_kind 23 = .ok (.ireturn, 1) := dk_172 (dk_at dksX0_kind_0 23 rfl rfl)
theorem dX0_kind_24 : decode cX0_kind 24 = .ok (.bipush (-4), 2) := dk_16 252 (dk_at dksX0_kind_1 0 rfl rfl)
theorem dX0_kind_26 : decode cX0_kind 26 = .ok (.istore 4, 2) := dk_54 4 (dk_at dksX0_kind_1 2 rfl rfl)
theorem dX0_kind_28 : decode cX0_kind 28 = .ok (.iconst 0, 1) := dk_3 (dk_at dksX0_kind_1 4 rfl rfl)
theorem dX0_kind_29 : decode cX0_kind 29 = .ok (.istore 5, 2) := dk_54 5 (dk_at dksX0_kind_1 5 rfl rfl)
theorem dX0_kind_31 : decode cX0_kind 31 = .ok (.aload_n 0, 1) := dk_42 (dk_at dksX0_kind_1 7 rfl rfl)
theorem dX0_kind_32 : decode cX0_kind 32 = .ok (.getfield 180, 3) := dk_180 0 180 (dk_at dksX0_kind_1 8 rfl rfl)
theorem dX0_kind_35 : decode cX0_kind 35 = .ok (.aload_n 0, 1) := dk_42 (dk_at dksX0_kind_1 11 rfl rfl)
theorem dX0_kind_36 : decode cX0_kind 36 = .ok (.getfield 35, 3) := dk_180 0 35 (dk_at dksX0_kind_1 12 rfl rfl)
theorem dX0_kind_39 : decode cX0_kind 39 = .ok (.invokevirtual 42, 3) := dk_182 0 42 (dk_at dksX0_kind_1 15 rfl rfl)
theorem dX0_kind_42 : decode cX0_kind 42 = .ok (.iconst 0, 1) := dk_3 (dk_at dksX0_kind_1 18 rfl rfl)
theorem dX0_kind_43 : decode cX0_kind 43 = .ok (.istore 6, 2) := dk_54 6 (dk_at dksX0_kind_1 19 rfl rfl)
theorem dX0_kind_45 : decode cX0_kind 45 = .ok (.iload 6, 2) := dk_21 6 (dk_at dksX0_kind_1 21 rfl rfl)
theorem dX0_kind_47 : decode cX0_kind 47 = .ok (.iconst 4, 1) := dk_7 (dk_at dksX0_kind_1 23 rfl rfl)
theorem dX0_kind_48 : decode cX0_kind 48 = .ok (.if_icmp .ge 58, 3) := dk_162 0 58 (dk_at dksX0_kind_2 0 rfl rfl)
theorem dX0_kind_51 : decode cX0_kind 51 = .ok (.aload_n 0, 1) := dk_42 (dk_at dksX0_kind_2 3 rfl rfl)
theorem dX0_kind_52 : decode cX0_kind 52 = .ok (.getfield 180, 3) := dk_180 0 180 (dk_at dksX0_kind_2 4 rfl rfl)
theorem dX0_kind_55 : decode cX0_kind 55 = .ok (.getfield 116, 3) := dk_180 0 116 (dk_at dksX0_kind_2 7 rfl rfl)
theorem dX0_kind_58 : decode cX0_kind 58 = .ok (.iload_n 1, 1) := dk_27 (dk_at dksX0_kind_2 10 rfl rfl)
theorem dX0_kind_59 : decode cX0_kind 59 = .ok (.aaload, 1) := dk_50 (dk_at dksX0_kind_2 11 rfl rfl)
theorem dX0_kind_60 : decode cX0_kind 60 = .ok (.iconst 0, 1) := dk_3 (dk_at dksX0_kind_2 12 rfl rfl)
theorem dX0_kind_61 : decode cX0_kind 61 = .ok (.iload 6, 2) := dk_21 6 (dk_at dksX0_kind_2 13 rfl rfl)
theorem dX0_kind_63 : decode cX0_kind 63 = .ok (.iastore, 1) := dk_79 (dk_at dksX0_kind_2 15 rfl rfl)
theorem dX0_kind_64 : decode cX0_kind 64 = .ok (.aload_n 0, 1) := dk_42 (dk_at dksX0_kind_2 16 rfl rfl)
theorem dX0_kind_65 : decode cX0_kind 65 = .ok (.aload_n 0, 1) := dk_42 (dk_at dksX0_kind_2 17 rfl rfl)
theorem dX0_kind_66 : decode cX0_kind 66 = .ok (.getfield 180, 3) := dk_180 0 180 (dk_at dksX0_kind_2 18 rfl rfl)
theorem dX0_kind_69 : decode cX0_kind 69 = .ok (.iload_n 2, 1) := dk_28 (dk_at dksX0_kind_2 21 rfl rfl)
theorem dX0_kind_70 : decode cX0_kind 70 = .ok (.invokevirtual 170, 3) := dk_182 0 170 (dk_at dksX0_kind_3 0 rfl rfl)
theorem dX0_kind_73 : decode cX0_kind 73 = .ok (.istore 7, 2) := dk_54 7 (dk_at dksX0_kind_3 3 rfl rfl)
theorem dX0_kind_75 : decode cX0_kind 75 = .ok (.iload 7, 2) := dk_21 7 (dk_at dksX0_kind_3 5 rfl rfl)
theorem dX0_kind_77 : decode cX0_kind 77 = .ok (.iload 4, 2) := dk_21 4 (dk_at dksX0_kind_3 7 rfl rfl)
theorem dX0_kind_79 : decode cX0_kind 79 = .ok (.if_icmp .le 8, 3) := dk_164 0 8 (dk_at dksX0_kind_3 9 rfl rfl)
theorem dX0_kind_82 : decode cX0_kind 82 = .ok (.iload 6, 2) := dk_21 6 (dk_at dksX0_kind_3 12 rfl rfl)
theorem dX0_kind_84 : decode cX0_kind 84 = .ok (.goto 5, 3) := dk_167 0 5 (dk_at dksX0_kind_3 14 rfl rfl)
theorem dX0_kind_87 : decode cX0_kind 87 = .ok (.iload 5, 2) := dk_21 5 (dk_at dksX0_kind_3 17 rfl rfl)
theorem dX0_kind_89 : decode cX0_kind 89 = .ok (.istore 5, 2) := dk_54 5 (dk_at dksX0_kind_3 19 rfl rfl)
theorem dX0_kind_91 : decode cX0_kind 91 = .ok (.iload 4, 2) := dk_21 4 (dk_at dksX0_kind_3 21 rfl rfl)
theorem dX0_kind_93 : decode cX0_kind 93 = .ok (.iload 7, 2) := dk_21 7 (dk_at dksX0_kind_4 0 rfl rfl)
theorem dX0_kind_95 : decode cX0_kind 95 = .ok (.invokestatic 183, 3) := dk_184 0 183 (dk_at dksX0_kind_4 2 rfl rfl)
theorem dX0_kind_98 : decode cX0_kind 98 = .ok (.istore 4, 2) := dk_54 4 (dk_at dksX0_kind_4 5 rfl rfl)
theorem dX0_kind_100 : decode cX0_kind 100 = .ok (.iinc 6 1, 3) := dk_132 6 1 (dk_at dksX0_kind_4 7 rfl rfl)
theorem dX0_kind_103 : decode cX0_kind 103 = .ok (.goto (-58), 3) := dk_167 255 198 (dk_at dksX0_kind_4 10 rfl rfl)
theorem dX0_kind_106 : decode cX0_kind 106 = .ok (.iload_n 3, 1) := dk_29 (dk_at dksX0_kind_4 13 rfl rfl)
theorem dX0_kind_107 : decode cX0_kind 107 = .ok (.ifCond .ne 8, 3) := dk_154 0 8 (dk_at dksX0_kind_4 14 rfl rfl)
theorem dX0_kind_110 : decode cX0_kind 110 = .ok (.iload 5, 2) := dk_21 5 (dk_at dksX0_kind_4 17 rfl rfl)
theorem dX0_kind_112 : decode cX0_kind 112 = .ok (.goto 5, 3) := dk_167 0 5 (dk_at dksX0_kind_4 19 rfl rfl)
theorem dX0_kind_115 : decode cX0_kind 115 = .ok (.iload 4, 2) := dk_21 4 (dk_at dksX0_kind_4 22 rfl rfl)
theorem dX0_kind_117 : decode cX0_kind 117 = .ok (.ireturn, 1) := dk_172 (dk_at dksX0_kind_5 0 rfl rfl)
abbrev cX0_luck : ByteArray := prog_1_method_39_code
def yX0_luck : MethodName := ⟨RX0, "luck", "(IIII)J"⟩
def dkwX0_luck_2 : List UInt8 := [182, 0, 213, 167, 0, 6, 20, 0, 217, 173]
abbrev dktX0_luck_2 : List UInt8 := dkwX0_luck_2 ++ []
def dkwX0_luck_1 : List UInt8 := [20, 0, 211, 184, 0, 5, 153, 0, 23, 21, 4, 184, 0, 177, 153, 0, 15, 42, 27, 28, 29, 21, 4]
abbrev dktX0_luck_1 : List UInt8 := dkwX0_luck_1 ++ dktX0_luck_2
def dkwX0_luck_0 : List UInt8 := [27, 133, 9, 20, 0, 205, 184, 0, 5, 153, 0, 43, 42, 28, 182, 0, 122, 153, 0, 35, 29, 133, 9]
abbrev dktX0_luck_0 : List UInt8 := dkwX0_luck_0 ++ dktX0_luck_1
theorem dksX0_luck_0 : cX0_luck.data.toList.drop 0 = dktX0_luck_0 := by decide +kernel
theorem dksX0_luck_1 : cX0_luck.data.toList.drop 23 = dktX0_luck_1 := dk_seg dksX0_luck_0 23 rfl rfl
theorem dksX0_luck_2 : cX0_luck.data.toList.drop 46 = dktX0_luck_2 := dk_seg dksX0_luck_1 23 rfl rfl
theorem dX0_luck_0 : decode cX0_luck 0 = .ok (.iload_n 1, 1) := dk_27 (dk_at dksX0_luck_0 0 rfl rfl)
theorem dX0_luck_1 : decode cX0_luck 1 = .ok (.i2l, 1) := dk_133 (dk_at dksX0_luck_0 1 rfl rfl)
theorem dX0_luck_2 : decode cX0_luck 2 = .ok (.lconst 0, 1) := dk_9 (dk_at dksX0_luck_0 2 rfl rfl)
theorem dX0_luck_3 : decode cX0_luck 3 = .ok (.ldc2_w 205, 3) := dk_20 0 205 (dk_at dksX0_luck_0 3 rfl rfl)
theorem dX0_luck_6 : decode cX0_luck 6 = .ok (.invokestatic 5, 3) := dk_184 0 5 (dk_at dksX0_luck_0 6 rfl rfl)
theorem dX0_luck_9 : decode cX0_luck 9 = .ok (.ifCond .eq 43, 3) := dk_153 0 43 (dk_at dksX0_luck_0 9 rfl rfl)
theorem dX0_luck_12 : decode cX0_luck 12 = .ok (.aload_n 0, 1) := dk_42 (dk_at dksX0_luck_0 12 rfl rfl)
theorem dX0_luck_13 : decode cX0_luck 13 = .ok (.iload_n 2, 1) := dk_28 (dk_at dksX0_luck_0 13 rfl rfl)
theorem dX0_luck_14 : decode cX0_luck 14 = .ok (.invokevirtual 122, 3) := dk_182 0 122 (dk_at dksX0_luck_0 14 rfl rfl)
theorem dX0_luck_17 : decode cX0_luck 17 = .ok (.ifCond .eq 35, 3) := dk_153 0 35 (dk_at dksX0_luck_0 17 rfl rfl)
theorem dX0_luck_20 : decode cX0_luck 20 = .ok (.iload_n 3, 1) := dk_29 (dk_at dksX0_luck_0 20 rfl rfl)
theorem dX0_luck_21 : decode cX0_luck 21 = .ok (.i2l, 1) := dk_133 (dk_at dksX0_luck_0 21 rfl rfl)
theorem dX0_luck_22 : decode cX0_luck 22 = .ok (.lconst 0, 1) := dk_9 (dk_at dksX0_luck_0 22 rfl rfl)
theorem dX0_luck_23 : decode cX0_luck 23 = .ok (.ldc2_w 211, 3) := dk_20 0 211 (dk_at dksX0_luck_1 0 rfl rfl)
theorem dX0_luck_26 : decode cX0_luck 26 = .ok (.invokestatic 5, 3) := dk_184 0 5 (dk_at dksX0_luck_1 3 rfl rfl)
theorem dX0_luck_29 : decode cX0_luck 29 = .ok (.ifCond .eq 23, 3) := dk_153 0 23 (dk_at dksX0_luck_1 6 rfl rfl)
theorem dX0_luck_32 : decode cX0_luck 32 = .ok (.iload 4, 2) := dk_21 4 (dk_at dksX0_luck_1 9 rfl rfl)
theorem dX0_luck_34 : decode cX0_luck 34 = .ok (.invokestatic 177, 3) := dk_184 0 177 (dk_at dksX0_luck_1 11 rfl rfl)
theorem dX0_luck_37 : decode cX0_luck 37 = .ok (.ifCond .eq 15, 3) := dk_153 0 15 (dk_at dksX0_luck_1 14 rfl rfl)
theorem dX0_luck_40 : decode cX0_luck 40 = .ok (.aload_n 0, 1) := dk_42 (dk_at dksX0_luck_1 17 rfl rfl)
theorem dX0_luck_41 : decode cX0_luck 41 = .ok (.iload_n 1, 1) := dk_27 (dk_at dksX0_luck_1 18 rfl rfl)
theorem dX0_luck_42 : decode cX0_luck 42 = .ok (.iload_n 2, 1) := dk_28 (dk_at dksX0_luck_1 19 rfl rfl)
theorem dX0_luck_43 : decode cX0_luck 43 = .ok (.iload_n 3, 1) := dk_29 (dk_at dksX0_luck_1 20 rfl rfl)
theorem dX0_luck_44 : decode cX0_luck 44 = .ok (.iload 4, 2) := dk_21 4 (dk_at dksX0_luck_1 21 rfl rfl)
theorem dX0_luck_46 : decode cX0_luck 46 = .ok (.invokevirtual 213, 3) := dk_182 0 213 (dk_at dksX0_luck_2 0 rfl rfl)
theorem dX0_luck_49 : decode cX0_luck 49 = .ok (.goto 6, 3) := dk_167 0 6 (dk_at dksX0_luck_2 3 rfl rfl)
theorem dX0_luck_52 : decode cX0_luck 52 = .ok (.ldc2_w 217, 3) := dk_20 0 217 (dk_at dksX0_luck_2 6 rfl rfl)
theorem dX0_luck_55 : decode cX0_luck 55 = .ok (.lreturn, 1) := dk_173 (dk_at dksX0_luck_2 9 rfl rfl)
abbrev cX0_bySilence : ByteArray := prog_1_method_38_code
def yX0_bySilence : MethodName := ⟨RX0, "bySilence", "(IIII)J"⟩
def dkwX0_bySilence_7 : List UInt8 := [184, 0, 207, 173]
abbrev dktX0_bySilence_7 : List UInt8 := dkwX0_bySilence_7 ++ []
def dkwX0_bySilence_6 : List UInt8 := [3, 167, 0, 4, 4, 133, 105, 97, 55, 5, 132, 9, 1, 167, 255, 136, 22, 5, 22, 7, 21, 4]
abbrev dktX0_bySilence_6 : List UInt8 := dkwX0_bySilence_6 ++ dktX0_bySilence_7
def dkwX0_bySilence_5 : List UInt8 := [160, 0, 13, 42, 180, 0, 161, 180, 0, 154, 167, 0, 19, 42, 180, 0, 161, 28, 182, 0, 125, 153, 0, 7]
abbrev dktX0_bySilence_5 : List UInt8 := dkwX0_bySilence_5 ++ dktX0_bySilence_6
def dkwX0_bySilence_4 : List UInt8 := [21, 9, 21, 12, 184, 0, 131, 182, 0, 157, 132, 12, 1, 167, 255, 208, 22, 5, 22, 10, 28, 16, 252]
abbrev dktX0_bySilence_4 : List UInt8 := dkwX0_bySilence_4 ++ dktX0_bySilence_5
def dkwX0_bySilence_3 : List UInt8 := [184, 0, 131, 153, 0, 8, 27, 133, 167, 0, 8, 16, 10, 27, 100, 133, 105, 55, 10, 42, 180, 0, 161]
abbrev dktX0_bySilence_3 : List UInt8 := dkwX0_bySilence_3 ++ dktX0_bySilence_4
def dkwX0_bySilence_2 : List UInt8 := [42, 180, 0, 35, 182, 0, 42, 3, 54, 12, 21, 12, 29, 162, 0, 48, 22, 10, 21, 9, 21, 12]
abbrev dktX0_bySilence_2 : List UInt8 := dkwX0_bySilence_2 ++ dktX0_bySilence_3
def dkwX0_bySilence_1 : List UInt8 := [132, 9, 1, 167, 255, 239, 3, 54, 9, 21, 9, 4, 29, 120, 162, 0, 118, 10, 55, 10, 42, 180, 0, 161]
abbrev dktX0_bySilence_1 : List UInt8 := dkwX0_bySilence_1 ++ dktX0_bySilence_2
def dkwX0_bySilence_0 : List UInt8 := [9, 55, 5, 10, 55, 7, 3, 54, 9, 21, 9, 29, 162, 0, 17, 22, 7, 20, 0, 205, 105, 55, 7]
abbrev dktX0_bySilence_0 : List UInt8 := dkwX0_bySilence_0 ++ dktX0_bySilence_1
theorem dksX0_bySilence_0 : cX0_bySilence.data.toList.drop 0 = dktX0_bySilence_0 := by decide +kernel
theorem dksX0_bySilence_1 : cX0_bySilence.data.toList.drop 23 = dktX0_bySilence_1 := dk_seg dksX0_bySilence_0 23 rfl rfl
theorem dksX0_bySilence_2 : cX0_bySilence.data.toList.drop 47 = dktX0_bySilence_2 := dk_seg dksX0_bySilence_1 24 rfl rfl
theorem dksX0_bySilence_3 : cX0_bySilence.data.toList.drop 69 = dktX0_bySilence_3 := dk_seg dksX0_bySilence_2 22 rfl rfl
theorem dksX0_bySilence_4 : cX0_bySilence.data.toList.drop 92 = dktX0_bySilence_4 := dk_seg dksX0_bySilence_3 23 rfl rfl
theorem dksX0_bySilence_5 : cX0_bySilence.data.toList.drop 115 = dktX0_bySilence_5 := dk_seg dksX0_bySilence_4 23 rfl rfl
theorem dksX0_bySilence_6 : cX0_bySilence.data.toList.drop 139 = dktX0_bySilence_6 := dk_seg dksX0_bySilence_5 24 rfl rfl
theorem dksX0_bySilence_7 : cX0_bySilence.data.toList.drop 161 = dktX0_bySilence_7 := dk_seg dksX0_bySilence_6 22 rfl rfl
theorem dX0_bySilence_0 : decode cX0_bySilence 0 = .ok (.lconst 0, 1) := dk_9 (dk_at dksX0_bySilence_0 0 rfl rfl)
theorem dX0_bySilence_1 : decode cX0_bySilence 1 = .ok (.lstore 5, 2) := dk_55 5 (dk_at dksX0_bySilence_0 1 rfl rfl)
theorem dX0_bySilence_3 : decode cX0_bySilence 3 = .ok (.lconst 1, 1) := dk_10 (dk_at dksX0_bySilence_0 3 rfl rfl)
theorem dX0_bySilence_4 : decode cX0_bySilence 4 = .ok (.lstore 7, 2) := dk_55 7 (dk_at dksX0_bySilence_0 4 rfl rfl)
theorem dX0_bySilence_6 : decode cX0_bySilence 6 = .ok (.iconst 0, 1) := dk_3 (dk_at dksX0_bySilence_0 6 rfl rfl)
theorem dX0_bySilence_7 : decode cX0_bySilence 7 = .ok (.istore 9, 2) := dk_54 9 (dk_at dksX0_bySilence_0 7 rfl rfl)
theorem dX0_bySilence_9 : decode cX0_bySilence 9 = .ok (.iload 9, 2) := dk_21 9 (dk_at dksX0_bySilence_0 9 rfl rfl)
theorem dX0_bySilence_11 : decode cX0_bySilence 11 = .ok (.iload_n 3, 1) := dk_29 (dk_at dksX0_bySilence_0 11 rfl rfl)
theorem dX0_bySilence_12 : decode cX0_bySilence 12 = .ok (.if_icmp .ge 17, 3) := dk_162 0 17 (dk_at dksX0_bySilence_0 12 rfl rfl)
theorem dX0_bySilence_15 : decode cX0_bySilence 15 = .ok (.lload 7, 2) := dk_22 7 (dk_at dksX0_bySilence_0 15 rfl rfl)
theorem dX0_bySilence_17 : decode cX0_bySilence 17 = .ok (.ldc2_w 205, 3) := dk_20 0 205 (dk_at dksX0_bySilence_0 17 rfl rfl)
theorem dX0_bySilence_20 : decode cX0_bySilence 20 = .ok (.lmul, 1) := dk_105 (dk_at dksX0_bySilence_0 20 rfl rfl)
theorem dX0_bySilence_21 : decode cX0_bySilence 21 = .ok (.lstore 7, 2) := dk_55 7 (dk_at dksX0_bySilence_0 21 rfl rfl)
theorem dX0_bySilence_23 : decode cX0_bySilence 23 = .ok (.iinc 9 1, 3) := dk_132 9 1 (dk_at dksX0_bySilence_1 0 rfl rfl)
theorem dX0_bySilence_26 : decode cX0_bySilence 26 = .ok (.goto (-17), 3) := dk_167 255 239 (dk_at dksX0_bySilence_1 3 rfl rfl)
theorem dX0_bySilence_29 : decode cX0_bySilence 29 = .ok (.iconst 0, 1) := dk_3 (dk_at dksX0_bySilence_1 6 rfl rfl)
theorem dX0_bySilence_30 : decode cX0_bySilence 30 = .ok (.istore 9, 2) := dk_54 9 (dk_at dksX0_bySilence_1 7 rfl rfl)
theorem dX0_bySilence_32 : decode cX0_bySilence 32 = .ok (.iload 9, 2) := dk_21 9 (dk_at dksX0_bySilence_1 9 rfl rfl)
theorem dX0_bySilence_34 : decode cX0_bySilence 34 = .ok (.iconst 1, 1) := dk_4 (dk_at dksX0_bySilence_1 11 rfl rfl)
theorem dX0_bySilence_35 : decode cX0_bySilence 35 = .ok (.iload_n 3, 1) := dk_29 (dk_at dksX0_bySilence_1 12 rfl rfl)
theorem dX0_bySilence_36 : decode cX0_bySilence 36 = .ok (.ishl, 1) := dk_120 (dk_at dksX0_bySilence_1 13 rfl rfl)
theorem dX0_bySilence_37 : decode cX0_bySilence 37 = .ok (.if_icmp .ge 118, 3) := dk_162 0 118 (dk_at dksX0_bySilence_1 14 rfl rfl)
theorem dX0_bySilence_40 : decode cX0_bySilence 40 = .ok (.lconst 1, 1) := dk_10 (dk_at dksX0_bySilence_1 17 rfl rfl)
theorem dX0_bySilence_41 : decode cX0_bySilence 41 = .ok (.lstore 10, 2) := dk_55 10 (dk_at dksX0_bySilence_1 18 rfl rfl)
theorem dX0_bySilence_43 : decode cX0_bySilence 43 = .ok (.aload_n 0, 1) := dk_42 (dk_at dksX0_bySilence_1 20 rfl rfl)
theorem dX0_bySilence_44 : decode cX0_bySilence 44 = .ok (.getfield 161, 3) := dk_180 0 161 (dk_at dksX0_bySilence_1 21 rfl rfl)
theorem dX0_bySilence_47 : decode cX0_bySilence 47 = .ok (.aload_n 0, 1) := dk_42 (dk_at dksX0_bySilence_2 0 rfl rfl)
theorem dX0_bySilence_48 : decode cX0_bySilence 48 = .ok (.getfield 35, 3) := dk_180 0 35 (dk_at dksX0_bySilence_2 1 rfl rfl)
theorem dX0_bySilence_51 : decode cX0_bySilence 51 = .ok (.invokevirtual 42, 3) := dk_182 0 42 (dk_at dksX0_bySilence_2 4 rfl rfl)
theorem dX0_bySilence_54 : decode cX0_bySilence 54 = .ok (.iconst 0, 1) := dk_3 (dk_at dksX0_bySilence_2 7 rfl rfl)
theorem dX0_bySilence_55 : decode cX0_bySilence 55 = .ok (.istore 12, 2) := dk_54 12 (dk_at dksX0_bySilence_2 8 rfl rfl)
theorem dX0_bySilence_57 : decode cX0_bySilence 57 = .ok (.iload 12, 2) := dk_21 12 (dk_at dksX0_bySilence_2 10 rfl rfl)
theorem dX0_bySilence_59 : decode cX0_bySilence 59 = .ok (.iload_n 3, 1) := dk_29 (dk_at dksX0_bySilence_2 12 rfl rfl)
theorem dX0_bySilence_60 : decode cX0_bySilence 60 = .ok (.if_icmp .ge 48, 3) := dk_162 0 48 (dk_at dksX0_bySilence_2 13 rfl rfl)
theorem dX0_bySilence_63 : decode cX0_bySilence 63 = .ok (.lload 10, 2) := dk_22 10 (dk_at dksX0_bySilence_2 16 rfl rfl)
theorem dX0_bySilence_65 : decode cX0_bySilence 65 = .ok (.iload 9, 2) := dk_21 9 (dk_at dksX0_bySilence_2 18 rfl rfl)
theorem dX0_bySilence_67 : decode cX0_bySilence 67 = .ok (.iload 12, 2) := dk_21 12 (dk_at dksX0_bySilence_2 20 rfl rfl)
theorem dX0_bySilence_69 : decode cX0_bySilence 69 = .ok (.invokestatic 131, 3) := dk_184 0 131 (dk_at dksX0_bySilence_3 0 rfl rfl)
theorem dX0_bySilence_72 : decode cX0_bySilence 72 = .ok (.ifCond .eq 8, 3) := dk_153 0 8 (dk_at dksX0_bySilence_3 3 rfl rfl)
theorem dX0_bySilence_75 : decode cX0_bySilence 75 = .ok (.iload_n 1, 1) := dk_27 (dk_at dksX0_bySilence_3 6 rfl rfl)
theorem dX0_bySilence_76 : decode cX0_bySilence 76 = .ok (.i2l, 1) := dk_133 (dk_at dksX0_bySilence_3 7 rfl rfl)
theorem dX0_bySilence_77 : decode cX0_bySilence 77 = .ok (.goto 8, 3) := dk_167 0 8 (dk_at dksX0_bySilence_3 8 rfl rfl)
theorem dX0_bySilence_80 : decode cX0_bySilence 80 = .ok (.bipush 10, 2) := dk_16 10 (dk_at dksX0_bySilence_3 11 rfl rfl)
theorem dX0_bySilence_82 : decode cX0_bySilence 82 = .ok (.iload_n 1, 1) := dk_27 (dk_at dksX0_bySilence_3 13 rfl rfl)
theorem dX0_bySilence_83 : decode cX0_bySilence 83 = .ok (.isub, 1) := dk_100 (dk_at dksX0_bySilence_3 14 rfl rfl)
theorem dX0_bySilence_84 : decode cX0_bySilence 84 = .ok (.i2l, 1) := dk_133 (dk_at dksX0_bySilence_3 15 rfl rfl)
theorem dX0_bySilence_85 : decode cX0_bySilence 85 = .ok (.lmul, 1) := dk_105 (dk_at dksX0_bySilence_3 16 rfl rfl)
theorem dX0_bySilence_86 : decode cX0_bySilence 86 = .ok (.lstore 10, 2) := dk_55 10 (dk_at dksX0_bySilence_3 17 rfl rfl)
theorem dX0_bySilence_88 : decode cX0_bySilence 88 = .ok (.aload_n 0, 1) := dk_42 (dk_at dksX0_bySilence_3 19 rfl rfl)
theorem dX0_bySilence_89 : decode cX0_bySilence 89 = .ok (.getfield 161, 3) := dk_180 0 161 (dk_at dksX0_bySilence_3 20 rfl rfl)
theorem dX0_bySilence_92 : decode cX0_bySilence 92 = .ok (.iload 9, 2) := dk_21 9 (dk_at dksX0_bySilence_4 0 rfl rfl)
theorem dX0_bySilence_94 : decode cX0_bySilence 94 = .ok (.iload 12, 2) := dk_21 12 (dk_at dksX0_bySilence_4 2 rfl rfl)
theorem dX0_bySilence_96 : decode cX0_bySilence 96 = .ok (.invokestatic 131, 3) := dk_184 0 131 (dk_at dksX0_bySilence_4 4 rfl rfl)
theorem dX0_bySilence_99 : decode cX0_bySilence 99 = .ok (.invokevirtual 157, 3) := dk_182 0 157 (dk_at dksX0_bySilence_4 7 rfl rfl)
theorem dX0_bySilence_102 : decode cX0_bySilence 102 = .ok (.iinc 12 1, 3) := dk_132 12 1 (dk_at dksX0_bySilence_4 10 rfl rfl)
theorem dX0_bySilence_105 : decode cX0_bySilence 105 = .ok (.goto (-48), 3) := dk_167 255 208 (dk_at dksX0_bySilence_4 13 rfl rfl)
theorem dX0_bySilence_108 : decode cX0_bySilence 108 = .ok (.lload 5, 2) := dk_22 5 (dk_at dksX0_bySilence_4 16 rfl rfl)
theorem dX0_bySilence_110 : decode cX0_bySilence 110 = .ok (.lload 10, 2) := dk_22 10 (dk_at dksX0_bySilence_4 18 rfl rfl)
theorem dX0_bySilence_112 : decode cX0_bySilence 112 = .ok (.iload_n 2, 1) := dk_28 (dk_at dksX0_bySilence_4 20 rfl rfl)
theorem dX0_bySilence_113 : decode cX0_bySilence 113 = .ok (.bipush (-4), 2) := dk_16 252 (dk_at dksX0_bySilence_4 21 rfl rfl)
theorem dX0_bySilence_115 : decode cX0_bySilence 115 = .ok (.if_icmp .ne 13, 3) := dk_160 0 13 (dk_at dksX0_bySilence_5 0 rfl rfl)
theorem dX0_bySilence_118 : decode cX0_bySilence 118 = .ok (.aload_n 0, 1) := dk_42 (dk_at dksX0_bySilence_5 3 rfl rfl)
theorem dX0_bySilence_119 : decode cX0_bySilence 119 = .ok (.getfield 161, 3) := dk_180 0 161 (dk_at dksX0_bySilence_5 4 rfl rfl)
theorem dX0_bySilence_122 : decode cX0_bySilence 122 = .ok (.getfield 154, 3) := dk_180 0 154 (dk_at dksX0_bySilence_5 7 rfl rfl)
theorem dX0_bySilence_125 : decode cX0_bySilence 125 = .ok (.goto 19, 3) := dk_167 0 19 (dk_at dksX0_bySilence_5 10 rfl rfl)
theorem dX0_bySilence_128 : decode cX0_bySilence 128 = .ok (.aload_n 0, 1) := dk_42 (dk_at dksX0_bySilence_5 13 rfl rfl)
theorem dX0_bySilence_129 : decode cX0_bySilence 129 = .ok (.getfield 161, 3) := dk_180 0 161 (dk_at dksX0_bySilence_5 14 rfl rfl)
theorem dX0_bySilence_132 : decode cX0_bySilence 132 = .ok (.iload_n 2, 1) := dk_28 (dk_at dksX0_bySilence_5 17 rfl rfl)
theorem dX0_bySilence_133 : decode cX0_bySilence 133 = .ok (.invokevirtual 125, 3) := dk_182 0 125 (dk_at dksX0_bySilence_5 18 rfl rfl)
theorem dX0_bySilence_136 : decode cX0_bySilence 136 = .ok (.ifCond .eq 7, 3) := dk_153 0 7 (dk_at dksX0_bySilence_5 21 rfl rfl)
theorem dX0_bySilence_139 : decode cX0_bySilence 139 = .ok (.iconst 0, 1) := dk_3 (dk_at dksX0_bySilence_6 0 rfl rfl)
theorem dX0_bySilence_140 : decode cX0_bySilence 140 = .ok (.goto 4, 3) := dk_167 0 4 (dk_at dksX0_bySilence_6 1 rfl rfl)
theorem dX0_bySilence_143 : decode cX0_bySilence 143 = .ok (.iconst 1, 1) := dk_4 (dk_at dksX0_bySilence_6 4 rfl rfl)
theorem dX0_bySilence_144 : decode cX0_bySilence 144 = .ok (.i2l, 1) := dk_133 (dk_at dksX0_bySilence_6 5 rfl rfl)
theorem dX0_bySilence_145 : decode cX0_bySilence 145 = .ok (.lmul, 1) := dk_105 (dk_at dksX0_bySilence_6 6 rfl rfl)
theorem dX0_bySilence_146 : decode cX0_bySilence 146 = .ok (.ladd, 1) := dk_97 (dk_at dksX0_bySilence_6 7 rfl rfl)
theorem dX0_bySilence_147 : decode cX0_bySilence 147 = .ok (.lstore 5, 2) := dk_55 5 (dk_at dksX0_bySilence_6 8 rfl rfl)
theorem dX0_bySilence_149 : decode cX0_bySilence 149 = .ok (.iinc 9 1, 3) := dk_132 9 1 (dk_at dksX0_bySilence_6 10 rfl rfl)
theorem dX0_bySilence_152 : decode cX0_bySilence 152 = .ok (.goto (-120), 3) := dk_167 255 136 (dk_at dksX0_bySilence_6 13 rfl rfl)
theorem dX0_bySilence_155 : decode cX0_bySilence 155 = .ok (.lload 5, 2) := dk_22 5 (dk_at dksX0_bySilence_6 16 rfl rfl)
theorem dX0_bySilence_157 : decode cX0_bySilence 157 = .ok (.lload 7, 2) := dk_22 7 (dk_at dksX0_bySilence_6 18 rfl rfl)
theorem dX0_bySilence_159 : decode cX0_bySilence 159 = .ok (.iload 4, 2) := dk_21 4 (dk_at dksX0_bySilence_6 20 rfl rfl)
theorem dX0_bySilence_161 : decode cX0_bySilence 161 = .ok (.invokestatic 207, 3) := dk_184 0 207 (dk_at dksX0_bySilence_7 0 rfl rfl)
theorem dX0_bySilence_164 : decode cX0_bySilence 164 = .ok (.lreturn, 1) := dk_173 (dk_at dksX0_bySilence_7 3 rfl rfl)
abbrev cX0_lowest : ByteArray := prog_1_method_37_code
def yX0_lowest : MethodName := ⟨RX0, "lowest", "(JJI)J"⟩
def dkwX0_lowest_0 : List UInt8 := [21, 4, 154, 0, 7, 30, 167, 0, 4, 32, 30, 32, 184, 0, 201, 109, 173]
abbrev dktX0_lowest_0 : List UInt8 := dkwX0_lowest_0 ++ []
theorem dksX0_lowest_0 : cX0_lowest.data.toList.drop 0 = dktX0_lowest_0 := by decide +kernel
theorem dX0_lowest_0 : decode cX0_lowest 0 = .ok (.iload 4, 2) := dk_21 4 (dk_at dksX0_lowest_0 0 rfl rfl)
theorem dX0_lowest_2 : decode cX0_lowest 2 = .ok (.ifCond .ne 7, 3) := dk_154 0 7 (dk_at dksX0_lowest_0 2 rfl rfl)
theorem dX0_lowest_5 : decode cX0_lowest 5 = .ok (.lload_n 0, 1) := dk_30 (dk_at dksX0_lowest_0 5 rfl rfl)
theorem dX0_lowest_6 : decode cX0_lowest 6 = .ok (.goto 4, 3) := dk_167 0 4 (dk_at dksX0_lowest_0 6 rfl rfl)
theorem dX0_lowest_9 : decode cX0_lowest 9 = .ok (.lload_n 2, 1) := dk_32 (dk_at dksX0_lowest_0 9 rfl rfl)
theorem dX0_lowest_10 : decode cX0_lowest 10 = .ok (.lload_n 0, 1) := dk_30 (dk_at dksX0_lowest_0 10 rfl rfl)
theorem dX0_lowest_11 : decode cX0_lowest 11 = .ok (.lload_n 2, 1) := dk_32 (dk_at dksX0_lowest_0 11 rfl rfl)
theorem dX0_lowest_12 : decode cX0_lowest 12 = .ok (.invokestatic 201, 3) := dk_184 0 201 (dk_at dksX0_lowest_0 12 rfl rfl)
theorem dX0_lowest_15 : decode cX0_lowest 15 = .ok (.ldiv, 1) := dk_109 (dk_at dksX0_lowest_0 15 rfl rfl)
theorem dX0_lowest_16 : decode cX0_lowest 16 = .ok (.lreturn, 1) := dk_173 (dk_at dksX0_lowest_0 16 rfl rfl)
abbrev cX0_divisor : ByteArray := prog_1_method_36_code
def yX0_divisor : MethodName := ⟨RX0, "divisor", "(JJ)J"⟩
def dkwX0_divisor_0 : List UInt8 := [32, 9, 148, 154, 0, 7, 30, 167, 0, 10, 32, 30, 32, 113, 184, 0, 201, 173]
abbrev dktX0_divisor_0 : List UInt8 := dkwX0_divisor_0 ++ []
theorem dksX0_divisor_0 : cX0_divisor.data.toList.drop 0 = dktX0_divisor_0 := by decide +kernel
theorem dX0_divisor_0 : decode cX0_divisor 0 = .ok (.lload_n 2, 1) := dk_32 (dk_at dksX0_divisor_0 0 rfl rfl)
theorem dX0_divisor_1 : decode cX0_divisor 1 = .ok (.lconst 0, 1) := dk_9 (dk_at dksX0_divisor_0 1 rfl rfl)
theorem dX0_divisor_2 : decode cX0_divisor 2 = .ok (.lcmp, 1) := dk_148 (dk_at dksX0_divisor_0 2 rfl rfl)
theorem dX0_divisor_3 : decode cX0_divisor 3 = .ok (.ifCond .ne 7, 3) := dk_154 0 7 (dk_at dksX0_divisor_0 3 rfl rfl)
theorem dX0_divisor_6 : decode cX0_divisor 6 = .ok (.lload_n 0, 1) := dk_30 (dk_at dksX0_divisor_0 6 rfl rfl)
theorem dX0_divisor_7 : decode cX0_divisor 7 = .ok (.goto 10, 3) := dk_167 0 10 (dk_at dksX0_divisor_0 7 rfl rfl)
theorem dX0_divisor_10 : decode cX0_divisor 10 = .ok (.lload_n 2, 1) := dk_32 (dk_at dksX0_divisor_0 10 rfl rfl)
theorem dX0_divisor_11 : decode cX0_divisor 11 = .ok (.lload_n 0, 1) := dk_30 (dk_at dksX0_divisor_0 11 rfl rfl)
theorem dX0_divisor_12 : decode cX0_divisor 12 = .ok (.lload_n 2, 1) := dk_32 (dk_at dksX0_divisor_0 12 rfl rfl)
theorem dX0_divisor_13 : decode cX0_divisor 13 = .ok (.lrem, 1) := dk_113 (dk_at dksX0_divisor_0 13 rfl rfl)
theorem dX0_divisor_14 : decode cX0_divisor 14 = .ok (.invokestatic 201, 3) := dk_184 0 201 (dk_at dksX0_divisor_0 14 rfl rfl)
theorem dX0_divisor_17 : decode cX0_divisor 17 = .ok (.lreturn, 1) := dk_173 (dk_at dksX0_divisor_0 17 rfl rfl)
abbrev cX0_mean : ByteArray := prog_1_method_40_code
def yX0_mean : MethodName := ⟨RX0, "mean", "(III)J"⟩
def dkwX0_mean_1 : List UInt8 := [29, 184, 0, 177, 153, 0, 15, 42, 27, 16, 252, 28, 29, 182, 0, 213, 167, 0, 6, 20, 0, 217, 173]
abbrev dktX0_mean_1 : List UInt8 := dkwX0_mean_1 ++ []
def dkwX0_mean_0 : List UInt8 := [27, 133, 9, 20, 0, 205, 184, 0, 5, 153, 0, 34, 28, 133, 9, 20, 0, 211, 184, 0, 5, 153, 0, 22]
abbrev dktX0_mean_0 : List UInt8 := dkwX0_mean_0 ++ dktX0_mean_1
theorem dksX0_mean_0 : cX0_mean.data.toList.drop 0 = dktX0_mean_0 := by decide +kernel
theorem dksX0_mean_1 : cX0_mean.data.toList.drop 24 = dktX0_mean_1 := dk_seg dksX0_mean_0 24 rfl rfl
theorem dX0_mean_0 : decode cX0_mean 0 = .ok (.iload_n 1, 1) := dk_27 (dk_at dksX0_mean_0 0 rfl rfl)
theorem dX0_mean_1 : decode cX0_mean 1 = .ok (.i2l, 1) := dk_133 (dk_at dksX0_mean_0 1 rfl rfl)
theorem dX0_mean_2 : decode cX0_mean 2 = .ok (.lconst 0, 1) := dk_9 (dk_at dksX0_mean_0 2 rfl rfl)
theorem dX0_mean_3 : decode cX0_mean 3 = .ok (.ldc2_w 205, 3) := dk_20 0 205 (dk_at dksX0_mean_0 3 rfl rfl)
theorem dX0_mean_6 : decode cX0_mean 6 = .ok (.invokestatic 5, 3) := dk_184 0 5 (dk_at dksX0_mean_0 6 rfl rfl)
theorem dX0_mean_9 : decode cX0_mean 9 = .ok (.ifCond .eq 34, 3) := dk_153 0 34 (dk_at dksX0_mean_0 9 rfl rfl)
theorem dX0_mean_12 : decode cX0_mean 12 = .ok (.iload_n 2, 1) := dk_28 (dk_at dksX0_mean_0 12 rfl rfl)
theorem dX0_mean_13 : decode cX0_mean 13 = .ok (.i2l, 1) := dk_133 (dk_at dksX0_mean_0 13 rfl rfl)
theorem dX0_mean_14 : decode cX0_mean 14 = .ok (.lconst 0, 1) := dk_9 (dk_at dksX0_mean_0 14 rfl rfl)
theorem dX0_mean_15 : decode cX0_mean 15 = .ok (.ldc2_w 211, 3) := dk_20 0 211 (dk_at dksX0_mean_0 15 rfl rfl)
theorem dX0_mean_18 : decode cX0_mean 18 = .ok (.invokestatic 5, 3) := dk_184 0 5 (dk_at dksX0_mean_0 18 rfl rfl)
theorem dX0_mean_21 : decode cX0_mean 21 = .ok (.ifCond .eq 22, 3) := dk_153 0 22 (dk_at dksX0_mean_0 21 rfl rfl)
theorem dX0_mean_24 : decode cX0_mean 24 = .ok (.iload_n 3, 1) := dk_29 (dk_at dksX0_mean_1 0 rfl rfl)
theorem dX0_mean_25 : decode cX0_mean 25 = .ok (.invokestatic 177, 3) := dk_184 0 177 (dk_at dksX0_mean_1 1 rfl rfl)
theorem dX0_mean_28 : decode cX0_mean 28 = .ok (.ifCond .eq 15, 3) := dk_153 0 15 (dk_at dksX0_mean_1 4 rfl rfl)
theorem dX0_mean_31 : decode cX0_mean 31 = .ok (.aload_n 0, 1) := dk_42 (dk_at dksX0_mean_1 7 rfl rfl)
theorem dX0_mean_32 : decode cX0_mean 32 = .ok (.iload_n 1, 1) := dk_27 (dk_at dksX0_mean_1 8 rfl rfl)
theorem dX0_mean_33 : decode cX0_mean 33 = .ok (.bipush (-4), 2) := dk_16 252 (dk_at dksX0_mean_1 9 rfl rfl)
theorem dX0_mean_35 : decode cX0_mean 35 = .ok (.iload_n 2, 1) := dk_28 (dk_at dksX0_mean_1 11 rfl rfl)
theorem dX0_mean_36 : decode cX0_mean 36 = .ok (.iload_n 3, 1) := dk_29 (dk_at dksX0_mean_1 12 rfl rfl)
theorem dX0_mean_37 : decode cX0_mean 37 = .ok (.invokevirtual 213, 3) := dk_182 0 213 (dk_at dksX0_mean_1 13 rfl rfl)
theorem dX0_mean_40 : decode cX0_mean 40 = .ok (.goto 6, 3) := dk_167 0 6 (dk_at dksX0_mean_1 16 rfl rfl)
theorem dX0_mean_43 : decode cX0_mean 43 = .ok (.ldc2_w 217, 3) := dk_20 0 217 (dk_at dksX0_mean_1 19 rfl rfl)
theorem dX0_mean_46 : decode cX0_mean 46 = .ok (.lreturn, 1) := dk_173 (dk_at dksX0_mean_1 22 rfl rfl)
abbrev cX0_see : ByteArray := prog_1_method_41_code
def yX0_see : MethodName := ⟨RX0, "see", "(IIZ)I"⟩
def dkwX0_see_3 : List UInt8 := [153, 0, 7, 4, 167, 0, 4, 3, 79, 42, 89, 180, 0, 48, 4, 96, 181, 0, 48, 42, 180, 0, 48, 172]
abbrev dktX0_see_3 : List UInt8 := dkwX0_see_3 ++ []
def dkwX0_see_2 : List UInt8 := [180, 0, 219, 42, 180, 0, 48, 50, 4, 28, 79, 42, 180, 0, 219, 42, 180, 0, 48, 50, 5, 29]
abbrev dktX0_see_2 : List UInt8 := dkwX0_see_2 ++ dktX0_see_3
def dkwX0_see_1 : List UInt8 := [180, 0, 48, 16, 6, 160, 0, 6, 16, 253, 172, 42, 180, 0, 219, 42, 180, 0, 48, 50, 3, 27, 79, 42]
abbrev dktX0_see_1 : List UInt8 := dkwX0_see_1 ++ dktX0_see_2
def dkwX0_see_0 : List UInt8 := [27, 133, 9, 20, 0, 150, 184, 0, 5, 153, 0, 11, 42, 28, 182, 0, 122, 154, 0, 5, 2, 172, 42]
abbrev dktX0_see_0 : List UInt8 := dkwX0_see_0 ++ dktX0_see_1
theorem dksX0_see_0 : cX0_see.data.toList.drop 0 = dktX0_see_0 := by decide +kernel
theorem dksX0_see_1 : cX0_see.data.toList.drop 23 = dktX0_see_1 := dk_seg dksX0_see_0 23 rfl rfl
theorem dksX0_see_2 : cX0_see.data.toList.drop 47 = dktX0_see_2 := dk_seg dksX0_see_1 24 rfl rfl
theorem dksX0_see_3 : cX0_see.data.toList.drop 69 = dktX0_see_3 := dk_seg dksX0_see_2 22 rfl rfl
theorem dX0_see_0 : decode cX0_see 0 = .ok (.iload_n 1, 1) := dk_27 (dk_at dksX0_see_0 0 rfl rfl)
theorem dX0_see_1 : decode cX0_see 1 = .ok (.i2l, 1) := dk_133 (dk_at dksX0_see_0 1 rfl rfl)
theorem dX0_see_2 : decode cX0_see 2 = .ok (.lconst 0, 1) := dk_9 (dk_at dksX0_see_0 2 rfl rfl)
theorem dX0_see_3 : decode cX0_see 3 = .ok (.ldc2_w 150, 3) := dk_20 0 150 (dk_at dksX0_see_0 3 rfl rfl)
theorem dX0_see_6 : decode cX0_see 6 = .ok (.invokestatic 5, 3) := dk_184 0 5 (dk_at dksX0_see_0 6 rfl rfl)
theorem dX0_see_9 : decode cX0_see 9 = .ok (.ifCond .eq 11, 3) := dk_153 0 11 (dk_at dksX0_see_0 9 rfl rfl)
theorem dX0_see_12 : decode cX0_see 12 = .ok (.aload_n 0, 1) := dk_42 (dk_at dksX0_see_0 12 rfl rfl)
theorem dX0_see_13 : decode cX0_see 13 = .ok (.iload_n 2, 1) := dk_28 (dk_at dksX0_see_0 13 rfl rfl)
theorem dX0_see_14 : decode cX0_see 14 = .ok (.invokevirtual 122, 3) := dk_182 0 122 (dk_at dksX0_see_0 14 rfl rfl)
theorem dX0_see_17 : decode cX0_see 17 = .ok (.ifCond .ne 5, 3) := dk_154 0 5 (dk_at dksX0_see_0 17 rfl rfl)
theorem dX0_see_20 : decode cX0_see 20 = .ok (.iconst (-1), 1) := dk_2 (dk_at dksX0_see_0 20 rfl rfl)
theorem dX0_see_21 : decode cX0_see 21 = .ok (.ireturn, 1) := dk_172 (dk_at dksX0_see_0 21 rfl rfl)
theorem dX0_see_22 : decode cX0_see 22 = .ok (.aload_n 0, 1) := dk_42 (dk_at dksX0_see_0 22 rfl rfl)
theorem dX0_see_23 : decode cX0_see 23 = .ok (.getfield 48, 3) := dk_180 0 48 (dk_at dksX0_see_1 0 rfl rfl)
theorem dX0_see_26 : decode cX0_see 26 = .ok (.bipush 6, 2) := dk_16 6 (dk_at dksX0_see_1 3 rfl rfl)
theorem dX0_see_28 : decode cX0_see 28 = .ok (.if_icmp .ne 6, 3) := dk_160 0 6 (dk_at dksX0_see_1 5 rfl rfl)
theorem dX0_see_31 : decode cX0_see 31 = .ok (.bipush (-3), 2) := dk_16 253 (dk_at dksX0_see_1 8 rfl rfl)
theorem dX0_see_33 : decode cX0_see 33 = .ok (.ireturn, 1) := dk_172 (dk_at dksX0_see_1 10 rfl rfl)
theorem dX0_see_34 : decode cX0_see 34 = .ok (.aload_n 0, 1) := dk_42 (dk_at dksX0_see_1 11 rfl rfl)
theorem dX0_see_35 : decode cX0_see 35 = .ok (.getfield 219, 3) := dk_180 0 219 (dk_at dksX0_see_1 12 rfl rfl)
theorem dX0_see_38 : decode cX0_see 38 = .ok (.aload_n 0, 1) := dk_42 (dk_at dksX0_see_1 15 rfl rfl)
theorem dX0_see_39 : decode cX0_see 39 = .ok (.getfield 48, 3) := dk_180 0 48 (dk_at dksX0_see_1 16 rfl rfl)
theorem dX0_see_42 : decode cX0_see 42 = .ok (.aaload, 1) := dk_50 (dk_at dksX0_see_1 19 rfl rfl)
theorem dX0_see_43 : decode cX0_see 43 = .ok (.iconst 0, 1) := dk_3 (dk_at dksX0_see_1 20 rfl rfl)
theorem dX0_see_44 : decode cX0_see 44 = .ok (.iload_n 1, 1) := dk_27 (dk_at dksX0_see_1 21 rfl rfl)
theorem dX0_see_45 : decode cX0_see 45 = .ok (.iastore, 1) := dk_79 (dk_at dksX0_see_1 22 rfl rfl)
theorem dX0_see_46 : decode cX0_see 46 = .ok (.aload_n 0, 1) := dk_42 (dk_at dksX0_see_1 23 rfl rfl)
theorem dX0_see_47 : decode cX0_see 47 = .ok (.getfield 219, 3) := dk_180 0 219 (dk_at dksX0_see_2 0 rfl rfl)
theorem dX0_see_50 : decode cX0_see 50 = .ok (.aload_n 0, 1) := dk_42 (dk_at dksX0_see_2 3 rfl rfl)
theorem dX0_see_51 : decode cX0_see 51 = .ok (.getfield 48, 3) := dk_180 0 48 (dk_at dksX0_see_2 4 rfl rfl)
theorem dX0_see_54 : decode cX0_see 54 = .ok (.aaload, 1) := dk_50 (dk_at dksX0_see_2 7 rfl rfl)
theorem dX0_see_55 : decode cX0_see 55 = .ok (.iconst 1, 1) := dk_4 (dk_at dksX0_see_2 8 rfl rfl)
theorem dX0_see_56 : decode cX0_see 56 = .ok (.iload_n 2, 1) := dk_28 (dk_at dksX0_see_2 9 rfl rfl)
theorem dX0_see_57 : decode cX0_see 57 = .ok (.iastore, 1) := dk_79 (dk_at dksX0_see_2 10 rfl rfl)
theorem dX0_see_58 : decode cX0_see 58 = .ok (.aload_n 0, 1) := dk_42 (dk_at dksX0_see_2 11 rfl rfl)
theorem dX0_see_59 : decode cX0_see 59 = .ok (.getfield 219, 3) := dk_180 0 219 (dk_at dksX0_see_2 12 rfl rfl)
theorem dX0_see_62 : decode cX0_see 62 = .ok (.aload_n 0, 1) := dk_42 (dk_at dksX0_see_2 15 rfl rfl)
theorem dX0_see_63 : decode cX0_see 63 = .ok (.getfield 48, 3) := dk_180 0 48 (dk_at dksX0_see_2 16 rfl rfl)
theorem dX0_see_66 : decode cX0_see 66 = .ok (.aaload, 1) := dk_50 (dk_at dksX0_see_2 19 rfl rfl)
theorem dX0_see_67 : decode cX0_see 67 = .ok (.iconst 2, 1) := dk_5 (dk_at dksX0_see_2 20 rfl rfl)
theorem dX0_see_68 : decode cX0_see 68 = .ok (.iload_n 3, 1) := dk_29 (dk_at dksX0_see_2 21 rfl rfl)
theorem dX0_see_69 : decode cX0_see 69 = .ok (.ifCond .eq 7, 3) := dk_153 0 7 (dk_at dksX0_see_3 0 rfl rfl)
theorem dX0_see_72 : decode cX0_see 72 = .ok (.iconst 1, 1) := dk_4 (dk_at dksX0_see_3 3 rfl rfl)
theorem dX0_see_73 : decode cX0_see 73 = .ok (.goto 4, 3) := dk_167 0 4 (dk_at dksX0_see_3 4 rfl rfl)
theorem dX0_see_76 : decode cX0_see 76 = .ok (.iconst 0, 1) := dk_3 (dk_at dksX0_see_3 7 rfl rfl)
theorem dX0_see_77 : decode cX0_see 77 = .ok (.iastore, 1) := dk_79 (dk_at dksX0_see_3 8 rfl rfl)
theorem dX0_see_78 : decode cX0_see 78 = .ok (.aload_n 0, 1) := dk_42 (dk_at dksX0_see_3 9 rfl rfl)
theorem dX0_see_79 : decode cX0_see 79 = .ok (.dup, 1) := dk_89 (dk_at dksX0_see_3 10 rfl rfl)
theorem dX0_see_80 : decode cX0_see 80 = .ok (.getfield 48, 3) := dk_180 0 48 (dk_at dksX0_see_3 11 rfl rfl)
theorem dX0_see_83 : decode cX0_see 83 = .ok (.iconst 1, 1) := dk_4 (dk_at dksX0_see_3 14 rfl rfl)
theorem dX0_see_84 : decode cX0_see 84 = .ok (.iadd, 1) := dk_96 (dk_at dksX0_see_3 15 rfl rfl)
theorem dX0_see_85 : decode cX0_see 85 = .ok (.putfield 48, 3) := dk_181 0 48 (dk_at dksX0_see_3 16 rfl rfl)
theorem dX0_see_88 : decode cX0_see 88 = .ok (.aload_n 0, 1) := dk_42 (dk_at dksX0_see_3 19 rfl rfl)
theorem dX0_see_89 : decode cX0_see 89 = .ok (.getfield 48, 3) := dk_180 0 48 (dk_at dksX0_see_3 20 rfl rfl)
theorem dX0_see_92 : decode cX0_see 92 = .ok (.ireturn, 1) := dk_172 (dk_at dksX0_see_3 23 rfl rfl)
abbrev cX0_forget : ByteArray := prog_1_method_42_code
def yX0_forget : MethodName := ⟨RX0, "forget", "(I)I"⟩
def dkwX0_forget_1 : List UInt8 := [181, 0, 48, 28, 172]
abbrev dktX0_forget_1 : List UInt8 := dkwX0_forget_1 ++ []
def dkwX0_forget_0 : List UInt8 := [27, 133, 9, 42, 180, 0, 48, 133, 184, 0, 5, 154, 0, 5, 2, 172, 42, 180, 0, 48, 61, 42, 27]
abbrev dktX0_forget_0 : List UInt8 := dkwX0_forget_0 ++ dktX0_forget_1
theorem dksX0_forget_0 : cX0_forget.data.toList.drop 0 = dktX0_forget_0 := by decide +kernel
theorem dksX0_forget_1 : cX0_forget.data.toList.drop 23 = dktX0_forget_1 := dk_seg dksX0_forget_0 23 rfl rfl
theorem dX0_forget_0 : decode cX0_forget 0 = .ok (.iload_n 1, 1) := dk_27 (dk_at dksX0_forget_0 0 rfl rfl)
theorem dX0_forget_1 : decode cX0_forget 1 = .ok (.i2l, 1) := dk_133 (dk_at dksX0_forget_0 1 rfl rfl)
theorem dX0_forget_2 : decode cX0_forget 2 = .ok (.lconst 0, 1) := dk_9 (dk_at dksX0_forget_0 2 rfl rfl)
theorem dX0_forget_3 : decode cX0_forget 3 = .ok (.aload_n 0, 1) := dk_42 (dk_at dksX0_forget_0 3 rfl rfl)
theorem dX0_forget_4 : decode cX0_forget 4 = .ok (.getfield 48, 3) := dk_180 0 48 (dk_at dksX0_forget_0 4 rfl rfl)
theorem dX0_forget_7 : decode cX0_forget 7 = .ok (.i2l, 1) := dk_133 (dk_at dksX0_forget_0 7 rfl rfl)
theorem dX0_forget_8 : decode cX0_forget 8 = .ok (.invokestatic 5, 3) := dk_184 0 5 (dk_at dksX0_forget_0 8 rfl rfl)
theorem dX0_forget_11 : decode cX0_forget 11 = .ok (.ifCond .ne 5, 3) := dk_154 0 5 (dk_at dksX0_forget_0 11 rfl rfl)
theorem dX0_forget_14 : decode cX0_forget 14 = .ok (.iconst (-1), 1) := dk_2 (dk_at dksX0_forget_0 14 rfl rfl)
theorem dX0_forget_15 : decode cX0_forget 15 = .ok (.ireturn, 1) := dk_172 (dk_at dksX0_forget_0 15 rfl rfl)
theorem dX0_forget_16 : decode cX0_forget 16 = .ok (.aload_n 0, 1) := dk_42 (dk_at dksX0_forget_0 16 rfl rfl)
theorem dX0_forget_17 : decode cX0_forget 17 = .ok (.getfield 48, 3) := dk_180 0 48 (dk_at dksX0_forget_0 17 rfl rfl)
theorem dX0_forget_20 : decode cX0_forget 20 = .ok (.istore_n 2, 1) := dk_61 (dk_at dksX0_forget_0 20 rfl rfl)
theorem dX0_forget_21 : decode cX0_forget 21 = .ok (.aload_n 0, 1) := dk_42 (dk_at dksX0_forget_0 21 rfl rfl)
theorem dX0_forget_22 : decode cX0_forget 22 = .ok (.iload_n 1, 1) := dk_27 (dk_at dksX0_forget_0 22 rfl rfl)
theorem dX0_forget_23 : decode cX0_forget 23 = .ok (.putfield 48, 3) := dk_181 0 48 (dk_at dksX0_forget_1 0 rfl rfl)
theorem dX0_forget_26 : decode cX0_forget 26 = .ok (.iload_n 2, 1) := dk_28 (dk_at dksX0_forget_1 3 rfl rfl)
theorem dX0_forget_27 : decode cX0_forget 27 = .ok (.ireturn, 1) := dk_172 (dk_at dksX0_forget_1 4 rfl rfl)
abbrev cX0_kinds : ByteArray := prog_1_method_44_code
def yX0_kinds : MethodName := ⟨RX0, "kinds", "(I)I"⟩
def dkwX0_kinds_2 : List UInt8 := [153, 0, 9, 4, 29, 120, 167, 0, 4, 3, 128, 61, 132, 3, 1, 167, 255, 218, 28, 172]
abbrev dktX0_kinds_2 : List UInt8 := dkwX0_kinds_2 ++ []
def dkwX0_kinds_1 : List UInt8 := [62, 29, 7, 162, 0, 39, 42, 180, 0, 180, 180, 0, 116, 27, 50, 3, 29, 79, 28, 42, 3, 182, 0, 225]
abbrev dktX0_kinds_1 : List UInt8 := dkwX0_kinds_1 ++ dktX0_kinds_2
def dkwX0_kinds_0 : List UInt8 := [42, 27, 182, 0, 113, 154, 0, 5, 2, 172, 3, 61, 42, 180, 0, 180, 42, 180, 0, 35, 182, 0, 42, 3]
abbrev dktX0_kinds_0 : List UInt8 := dkwX0_kinds_0 ++ dktX0_kinds_1
theorem dksX0_kinds_0 : cX0_kinds.data.toList.drop 0 = dktX0_kinds_0 := by decide +kernel
theorem dksX0_kinds_1 : cX0_kinds.data.toList.drop 24 = dktX0_kinds_1 := dk_seg dksX0_kinds_0 24 rfl rfl
theorem dksX0_kinds_2 : cX0_kinds.data.toList.drop 48 = dktX0_kinds_2 := dk_seg dksX0_kinds_1 24 rfl rfl
theorem dX0_kinds_0 : decode cX0_kinds 0 = .ok (.aload_n 0, 1) := dk_42 (dk_at dksX0_kinds_0 0 rfl rfl)
theorem dX0_kinds_1 : decode cX0_kinds 1 = .ok (.iload_n 1, 1) := dk_27 (dk_at dksX0_kinds_0 1 rfl rfl)
theorem dX0_kinds_2 : decode cX0_kinds 2 = .ok (.invokevirtual 113, 3) := dk_182 0 113 (dk_at dksX0_kinds_0 2 rfl rfl)
theorem dX0_kinds_5 : decode cX0_kinds 5 = .ok (.ifCond .ne 5, 3) := dk_154 0 5 (dk_at dksX0_kinds_0 5 rfl rfl)
theorem dX0_kinds_8 : decode cX0_kinds 8 = .ok (.iconst (-1), 1) := dk_2 (dk_at dksX0_kinds_0 8 rfl rfl)
theorem dX0_kinds_9 : decode cX0_kinds 9 = .ok (.ireturn, 1) := dk_172 (dk_at dksX0_kinds_0 9 rfl rfl)
theorem dX0_kinds_10 : decode cX0_kinds 10 = .ok (.iconst 0, 1) := dk_3 (dk_at dksX0_kinds_0 10 rfl rfl)
theorem dX0_kinds_11 : decode cX0_kinds 11 = .ok (.istore_n 2, 1) := dk_61 (dk_at dksX0_kinds_0 11 rfl rfl)
theorem dX0_kinds_12 : decode cX0_kinds 12 = .ok (.aload_n 0, 1) := dk_42 (dk_at dksX0_kinds_0 12 rfl rfl)
theorem dX0_kinds_13 : decode cX0_kinds 13 = .ok (.getfield 180, 3) := dk_180 0 180 (dk_at dksX0_kinds_0 13 rfl rfl)
theorem dX0_kinds_16 : decode cX0_kinds 16 = .ok (.aload_n 0, 1) := dk_42 (dk_at dksX0_kinds_0 16 rfl rfl)
theorem dX0_kinds_17 : decode cX0_kinds 17 = .ok (.getfield 35, 3) := dk_180 0 35 (dk_at dksX0_kinds_0 17 rfl rfl)
theorem dX0_kinds_20 : decode cX0_kinds 20 = .ok (.invokevirtual 42, 3) := dk_182 0 42 (dk_at dksX0_kinds_0 20 rfl rfl)
theorem dX0_kinds_23 : decode cX0_kinds 23 = .ok (.iconst 0, 1) := dk_3 (dk_at dksX0_kinds_0 23 rfl rfl)
theorem dX0_kinds_24 : decode cX0_kinds 24 = .ok (.istore_n 3, 1) := dk_62 (dk_at dksX0_kinds_1 0 rfl rfl)
theorem dX0_kinds_25 : decode cX0_kinds 25 = .ok (.iload_n 3, 1) := dk_29 (dk_at dksX0_kinds_1 1 rfl rfl)
theorem dX0_kinds_26 : decode cX0_kinds 26 = .ok (.iconst 4, 1) := dk_7 (dk_at dksX0_kinds_1 2 rfl rfl)
theorem dX0_kinds_27 : decode cX0_kinds 27 = .ok (.if_icmp .ge 39, 3) := dk_162 0 39 (dk_at dksX0_kinds_1 3 rfl rfl)
theorem dX0_kinds_30 : decode cX0_kinds 30 = .ok (.aload_n 0, 1) := dk_42 (dk_at dksX0_kinds_1 6 rfl rfl)
theorem dX0_kinds_31 : decode cX0_kinds 31 = .ok (.getfield 180, 3) := dk_180 0 180 (dk_at dksX0_kinds_1 7 rfl rfl)
theorem dX0_kinds_34 : decode cX0_kinds 34 = .ok (.getfield 116, 3) := dk_180 0 116 (dk_at dksX0_kinds_1 10 rfl rfl)
theorem dX0_kinds_37 : decode cX0_kinds 37 = .ok (.iload_n 1, 1) := dk_27 (dk_at dksX0_kinds_1 13 rfl rfl)
theorem dX0_kinds_38 : decode cX0_kinds 38 = .ok (.aaload, 1) := dk_50 (dk_at dksX0_kinds_1 14 rfl rfl)
theorem dX0_kinds_39 : decode cX0_kinds 39 = .ok (.iconst 0, 1) := dk_3 (dk_at dksX0_kinds_1 15 rfl rfl)
theorem dX0_kinds_40 : decode cX0_kinds 40 = .ok (.iload_n 3, 1) := dk_29 (dk_at dksX0_kinds_1 16 rfl rfl)
theorem dX0_kinds_41 : decode cX0_kinds 41 = .ok (.iastore, 1) := dk_79 (dk_at dksX0_kinds_1 17 rfl rfl)
theorem dX0_kinds_42 : decode cX0_kinds 42 = .ok (.iload_n 2, 1) := dk_28 (dk_at dksX0_kinds_1 18 rfl rfl)
theorem dX0_kinds_43 : decode cX0_kinds 43 = .ok (.aload_n 0, 1) := dk_42 (dk_at dksX0_kinds_1 19 rfl rfl)
theorem dX0_kinds_44 : decode cX0_kinds 44 = .ok (.iconst 0, 1) := dk_3 (dk_at dksX0_kinds_1 20 rfl rfl)
theorem dX0_kinds_45 : decode cX0_kinds 45 = .ok (.invokevirtual 225, 3) := dk_182 0 225 (dk_at dksX0_kinds_1 21 rfl rfl)
theorem dX0_kinds_48 : decode cX0_kinds 48 = .ok (.ifCond .eq 9, 3) := dk_153 0 9 (dk_at dksX0_kinds_2 0 rfl rfl)
theorem dX0_kinds_51 : decode cX0_kinds 51 = .ok (.iconst 1, 1) := dk_4 (dk_at dksX0_kinds_2 3 rfl rfl)
theorem dX0_kinds_52 : decode cX0_kinds 52 = .ok (.iload_n 3, 1) := dk_29 (dk_at dksX0_kinds_2 4 rfl rfl)
theorem dX0_kinds_53 : decode cX0_kinds 53 = .ok (.ishl, 1) := dk_120 (dk_at dksX0_kinds_2 5 rfl rfl)
theorem dX0_kinds_54 : decode cX0_kinds 54 = .ok (.goto 4, 3) := dk_167 0 4 (dk_at dksX0_kinds_2 6 rfl rfl)
theorem dX0_kinds_57 : decode cX0_kinds 57 = .ok (.iconst 0, 1) := dk_3 (dk_at dksX0_kinds_2 9 rfl rfl)
theorem dX0_kinds_58 : decode cX0_kinds 58 = .ok (.ior, 1) := dk_128 (dk_at dksX0_kinds_2 10 rfl rfl)
theorem dX0_kinds_59 : decode cX0_kinds 59 = .ok (.istore_n 2, 1) := dk_61 (dk_at dksX0_kinds_2 11 rfl rfl)
theorem dX0_kinds_60 : decode cX0_kinds 60 = .ok (.iinc 3 1, 3) := dk_132 3 1 (dk_at dksX0_kinds_2 12 rfl rfl)
theorem dX0_kinds_63 : decode cX0_kinds 63 = .ok (.goto (-38), 3) := dk_167 255 218 (dk_at dksX0_kinds_2 15 rfl rfl)
theorem dX0_kinds_66 : decode cX0_kinds 66 = .ok (.iload_n 2, 1) := dk_28 (dk_at dksX0_kinds_2 18 rfl rfl)
theorem dX0_kinds_67 : decode cX0_kinds 67 = .ok (.ireturn, 1) := dk_172 (dk_at dksX0_kinds_2 19 rfl rfl)
abbrev cX0_isAsSeen : ByteArray := prog_1_method_43_code
def yX0_isAsSeen : MethodName := ⟨RX0, "isAsSeen", "(I)Z"⟩
def dkwX0_isAsSeen_5 : List UInt8 := [180, 0, 161, 3, 182, 0, 157, 132, 3, 1, 167, 255, 146, 28, 172]
abbrev dktX0_isAsSeen_5 : List UInt8 := dkwX0_isAsSeen_5 ++ []
def dkwX0_isAsSeen_4 : List UInt8 := [160, 0, 7, 4, 167, 0, 4, 3, 160, 0, 7, 4, 167, 0, 4, 3, 61, 132, 4, 1, 167, 255, 184, 42]
abbrev dktX0_isAsSeen_4 : List UInt8 := dkwX0_isAsSeen_4 ++ dktX0_isAsSeen_5
def dkwX0_isAsSeen_3 : List UInt8 := [42, 180, 0, 219, 21, 4, 50, 4, 46, 182, 0, 125, 42, 180, 0, 219, 21, 4, 50, 5, 46, 4]
abbrev dktX0_isAsSeen_3 : List UInt8 := dkwX0_isAsSeen_3 ++ dktX0_isAsSeen_4
def dkwX0_isAsSeen_2 : List UInt8 := [162, 0, 69, 28, 153, 0, 57, 42, 180, 0, 219, 21, 4, 50, 3, 46, 29, 160, 0, 40, 42, 180, 0, 161]
abbrev dktX0_isAsSeen_2 : List UInt8 := dkwX0_isAsSeen_2 ++ dktX0_isAsSeen_3
def dkwX0_isAsSeen_1 : List UInt8 := [180, 0, 222, 27, 50, 29, 42, 180, 0, 161, 182, 0, 86, 79, 3, 54, 4, 21, 4, 42, 180, 0, 48]
abbrev dktX0_isAsSeen_1 : List UInt8 := dkwX0_isAsSeen_1 ++ dktX0_isAsSeen_2
def dkwX0_isAsSeen_0 : List UInt8 := [42, 180, 0, 161, 42, 180, 0, 180, 182, 0, 42, 4, 61, 3, 62, 29, 16, 20, 163, 0, 110, 42]
abbrev dktX0_isAsSeen_0 : List UInt8 := dkwX0_isAsSeen_0 ++ dktX0_isAsSeen_1
theorem dksX0_isAsSeen_0 : cX0_isAsSeen.data.toList.drop 0 = dktX0_isAsSeen_0 := by decide +kernel
theorem dksX0_isAsSeen_1 : cX0_isAsSeen.data.toList.drop 22 = dktX0_isAsSeen_1 := dk_seg dksX0_isAsSeen_0 22 rfl rfl
theorem dksX0_isAsSeen_2 : cX0_isAsSeen.data.toList.drop 45 = dktX0_isAsSeen_2 := dk_seg dksX0_isAsSeen_1 23 rfl rfl
theorem dksX0_isAsSeen_3 : cX0_isAsSeen.data.toList.drop 69 = dktX0_isAsSeen_3 := dk_seg dksX0_isAsSeen_2 24 rfl rfl
theorem dksX0_isAsSeen_4 : cX0_isAsSeen.data.toList.drop 91 = dktX0_isAsSeen_4 := dk_seg dksX0_isAsSeen_3 22 rfl rfl
theorem dksX0_isAsSeen_5 : cX0_isAsSeen.data.toList.drop 115 = dktX0_isAsSeen_5 := dk_seg dksX0_isAsSeen_4 24 rfl rfl
theorem dX0_isAsSeen_0 : decode cX0_isAsSeen 0 = .ok (.aload_n 0, 1) := dk_42 (dk_at dksX0_isAsSeen_0 0 rfl rfl)
theorem dX0_isAsSeen_1 : decode cX0_isAsSeen 1 = .ok (.getfield 161, 3) := dk_180 0 161 (dk_at dksX0_isAsSeen_0 1 rfl rfl)
theorem dX0_isAsSeen_4 : decode cX0_isAsSeen 4 = .ok (.aload_n 0, 1) := dk_42 (dk_at dksX0_isAsSeen_0 4 rfl rfl)
theorem dX0_isAsSeen_5 : decode cX0_isAsSeen 5 = .ok (.getfield 180, 3) := dk_180 0 180 (dk_at dksX0_isAsSeen_0 5 rfl rfl)
theorem dX0_isAsSeen_8 : decode cX0_isAsSeen 8 = .ok (.invokevirtual 42, 3) := dk_182 0 42 (dk_at dksX0_isAsSeen_0 8 rfl rfl)
theorem dX0_isAsSeen_11 : decode cX0_isAsSeen 11 = .ok (.iconst 1, 1) := dk_4 (dk_at dksX0_isAsSeen_0 11 rfl rfl)
theorem dX0_isAsSeen_12 : decode cX0_isAsSeen 12 = .ok (.istore_n 2, 1) := dk_61 (dk_at dksX0_isAsSeen_0 12 rfl rfl)
theorem dX0_isAsSeen_13 : decode cX0_isAsSeen 13 = .ok (.iconst 0, 1) := dk_3 (dk_at dksX0_isAsSeen_0 13 rfl rfl)
theorem dX0_isAsSeen_14 : decode cX0_isAsSeen 14 = .ok (.istore_n 3, 1) := dk_62 (dk_at dksX0_isAsSeen_0 14 rfl rfl)
theorem dX0_isAsSeen_15 : decode cX0_isAsSeen 15 = .ok (.iload_n 3, 1) := dk_29 (dk_at dksX0_isAsSeen_0 15 rfl rfl)
theorem dX0_isAsSeen_16 : decode cX0_isAsSeen 16 = .ok (.bipush 20, 2) := dk_16 20 (dk_at dksX0_isAsSeen_0 16 rfl rfl)
theorem dX0_isAsSeen_18 : decode cX0_isAsSeen 18 = .ok (.if_icmp .gt 110, 3) := dk_163 0 110 (dk_at dksX0_isAsSeen_0 18 rfl rfl)
theorem dX0_isAsSeen_21 : decode cX0_isAsSeen 21 = .ok (.aload_n 0, 1) := dk_42 (dk_at dksX0_isAsSeen_0 21 rfl rfl)
theorem dX0_isAsSeen_22 : decode cX0_isAsSeen 22 = .ok (.getfield 222, 3) := dk_180 0 222 (dk_at dksX0_isAsSeen_1 0 rfl rfl)
theorem dX0_isAsSeen_25 : decode cX0_isAsSeen 25 = .ok (.iload_n 1, 1) := dk_27 (dk_at dksX0_isAsSeen_1 3 rfl rfl)
theorem dX0_isAsSeen_26 : decode cX0_isAsSeen 26 = .ok (.aaload, 1) := dk_50 (dk_at dksX0_isAsSeen_1 4 rfl rfl)
theorem dX0_isAsSeen_27 : decode cX0_isAsSeen 27 = .ok (.iload_n 3, 1) := dk_29 (dk_at dksX0_isAsSeen_1 5 rfl rfl)
theorem dX0_isAsSeen_28 : decode cX0_isAsSeen 28 = .ok (.aload_n 0, 1) := dk_42 (dk_at dksX0_isAsSeen_1 6 rfl rfl)
theorem dX0_isAsSeen_29 : decode cX0_isAsSeen 29 = .ok (.getfield 161, 3) := dk_180 0 161 (dk_at dksX0_isAsSeen_1 7 rfl rfl)
theorem dX0_isAsSeen_32 : decode cX0_isAsSeen 32 = .ok (.invokevirtual 86, 3) := dk_182 0 86 (dk_at dksX0_isAsSeen_1 10 rfl rfl)
theorem dX0_isAsSeen_35 : decode cX0_isAsSeen 35 = .ok (.iastore, 1) := dk_79 (dk_at dksX0_isAsSeen_1 13 rfl rfl)
theorem dX0_isAsSeen_36 : decode cX0_isAsSeen 36 = .ok (.iconst 0, 1) := dk_3 (dk_at dksX0_isAsSeen_1 14 rfl rfl)
theorem dX0_isAsSeen_37 : decode cX0_isAsSeen 37 = .ok (.istore 4, 2) := dk_54 4 (dk_at dksX0_isAsSeen_1 15 rfl rfl)
theorem dX0_isAsSeen_39 : decode cX0_isAsSeen 39 = .ok (.iload 4, 2) := dk_21 4 (dk_at dksX0_isAsSeen_1 17 rfl rfl)
theorem dX0_isAsSeen_41 : decode cX0_isAsSeen 41 = .ok (.aload_n 0, 1) := dk_42 (dk_at dksX0_isAsSeen_1 19 rfl rfl)
theorem dX0_isAsSeen_42 : decode cX0_isAsSeen 42 = .ok (.getfield 48, 3) := dk_180 0 48 (dk_at dksX0_isAsSeen_1 20 rfl rfl)
theorem dX0_isAsSeen_45 : decode cX0_isAsSeen 45 = .ok (.if_icmp .ge 69, 3) := dk_162 0 69 (dk_at dksX0_isAsSeen_2 0 rfl rfl)
theorem dX0_isAsSeen_48 : decode cX0_isAsSeen 48 = .ok (.iload_n 2, 1) := dk_28 (dk_at dksX0_isAsSeen_2 3 rfl rfl)
theorem dX0_isAsSeen_49 : decode cX0_isAsSeen 49 = .ok (.ifCond .eq 57, 3) := dk_153 0 57 (dk_at dksX0_isAsSeen_2 4 rfl rfl)
theorem dX0_isAsSeen_52 : decode cX0_isAsSeen 52 = .ok (.aload_n 0, 1) := dk_42 (dk_at dksX0_isAsSeen_2 7 rfl rfl)
theorem dX0_isAsSeen_53 : decode cX0_isAsSeen 53 = .ok (.getfield 219, 3) := dk_180 0 219 (dk_at dksX0_isAsSeen_2 8 rfl rfl)
theorem dX0_isAsSeen_56 : decode cX0_isAsSeen 56 = .ok (.iload 4, 2) := dk_21 4 (dk_at dksX0_isAsSeen_2 11 rfl rfl)
theorem dX0_isAsSeen_58 : decode cX0_isAsSeen 58 = .ok (.aaload, 1) := dk_50 (dk_at dksX0_isAsSeen_2 13 rfl rfl)
theorem dX0_isAsSeen_59 : decode cX0_isAsSeen 59 = .ok (.iconst 0, 1) := dk_3 (dk_at dksX0_isAsSeen_2 14 rfl rfl)
theorem dX0_isAsSeen_60 : decode cX0_isAsSeen 60 = .ok (.iaload, 1) := dk_46 (dk_at dksX0_isAsSeen_2 15 rfl rfl)
theorem dX0_isAsSeen_61 : decode cX0_isAsSeen 61 = .ok (.iload_n 3, 1) := dk_29 (dk_at dksX0_isAsSeen_2 16 rfl rfl)
theorem dX0_isAsSeen_62 : decode cX0_isAsSeen 62 = .ok (.if_icmp .ne 40, 3) := dk_160 0 40 (dk_at dksX0_isAsSeen_2 17 rfl rfl)
theorem dX0_isAsSeen_65 : decode cX0_isAsSeen 65 = .ok (.aload_n 0, 1) := dk_42 (dk_at dksX0_isAsSeen_2 20 rfl rfl)
theorem dX0_isAsSeen_66 : decode cX0_isAsSeen 66 = .ok (.getfield 161, 3) := dk_180 0 161 (dk_at dksX0_isAsSeen_2 21 rfl rfl)
theorem dX0_isAsSeen_69 : decode cX0_isAsSeen 69 = .ok (.aload_n 0, 1) := dk_42 (dk_at dksX0_isAsSeen_3 0 rfl rfl)
theorem dX0_isAsSeen_70 : decode cX0_isAsSeen 70 = .ok (.getfield 219, 3) := dk_180 0 219 (dk_at dksX0_isAsSeen_3 1 rfl rfl)
theorem dX0_isAsSeen_73 : decode cX0_isAsSeen 73 = .ok (.iload 4, 2) := dk_21 4 (dk_at dksX0_isAsSeen_3 4 rfl rfl)
theorem dX0_isAsSeen_75 : decode cX0_isAsSeen 75 = .ok (.aaload, 1) := dk_50 (dk_at dksX0_isAsSeen_3 6 rfl rfl)
theorem dX0_isAsSeen_76 : decode cX0_isAsSeen 76 = .ok (.iconst 1, 1) := dk_4 (dk_at dksX0_isAsSeen_3 7 rfl rfl)
theorem dX0_isAsSeen_77 : decode cX0_isAsSeen 77 = .ok (.iaload, 1) := dk_46 (dk_at dksX0_isAsSeen_3 8 rfl rfl)
theorem dX0_isAsSeen_78 : decode cX0_isAsSeen 78 = .ok (.invokevirtual 125, 3) := dk_182 0 125 (dk_at dksX0_isAsSeen_3 9 rfl rfl)
theorem dX0_isAsSeen_81 : decode cX0_isAsSeen 81 = .ok (.aload_n 0, 1) := dk_42 (dk_at dksX0_isAsSeen_3 12 rfl rfl)
theorem dX0_isAsSeen_82 : decode cX0_isAsSeen 82 = .ok (.getfield 219, 3) := dk_180 0 219 (dk_at dksX0_isAsSeen_3 13 rfl rfl)
theorem dX0_isAsSeen_85 : decode cX0_isAsSeen 85 = .ok (.iload 4, 2) := dk_21 4 (dk_at dksX0_isAsSeen_3 16 rfl rfl)
theorem dX0_isAsSeen_87 : decode cX0_isAsSeen 87 = .ok (.aaload, 1) := dk_50 (dk_at dksX0_isAsSeen_3 18 rfl rfl)
theorem dX0_isAsSeen_88 : decode cX0_isAsSeen 88 = .ok (.iconst 2, 1) := dk_5 (dk_at dksX0_isAsSeen_3 19 rfl rfl)
theorem dX0_isAsSeen_89 : decode cX0_isAsSeen 89 = .ok (.iaload, 1) := dk_46 (dk_at dksX0_isAsSeen_3 20 rfl rfl)
theorem dX0_isAsSeen_90 : decode cX0_isAsSeen 90 = .ok (.iconst 1, 1) := dk_4 (dk_at dksX0_isAsSeen_3 21 rfl rfl)
theorem dX0_isAsSeen_91 : decode cX0_isAsSeen 91 = .ok (.if_icmp .ne 7, 3) := dk_160 0 7 (dk_at dksX0_isAsSeen_4 0 rfl rfl)
theorem dX0_isAsSeen_94 : decode cX0_isAsSeen 94 = .ok (.iconst 1, 1) := dk_4 (dk_at dksX0_isAsSeen_4 3 rfl rfl)
theorem dX0_isAsSeen_95 : decode cX0_isAsSeen 95 = .ok (.goto 4, 3) := dk_167 0 4 (dk_at dksX0_isAsSeen_4 4 rfl rfl)
theorem dX0_isAsSeen_98 : decode cX0_isAsSeen 98 = .ok (.iconst 0, 1) := dk_3 (dk_at dksX0_isAsSeen_4 7 rfl rfl)
theorem dX0_isAsSeen_99 : decode cX0_isAsSeen 99 = .ok (.if_icmp .ne 7, 3) := dk_160 0 7 (dk_at dksX0_isAsSeen_4 8 rfl rfl)
theorem dX0_isAsSeen_102 : decode cX0_isAsSeen 102 = .ok (.iconst 1, 1) := dk_4 (dk_at dksX0_isAsSeen_4 11 rfl rfl)
theorem dX0_isAsSeen_103 : decode cX0_isAsSeen 103 = .ok (.goto 4, 3) := dk_167 0 4 (dk_at dksX0_isAsSeen_4 12 rfl rfl)
theorem dX0_isAsSeen_106 : decode cX0_isAsSeen 106 = .ok (.iconst 0, 1) := dk_3 (dk_at dksX0_isAsSeen_4 15 rfl rfl)
theorem dX0_isAsSeen_107 : decode cX0_isAsSeen 107 = .ok (.istore_n 2, 1) := dk_61 (dk_at dksX0_isAsSeen_4 16 rfl rfl)
theorem dX0_isAsSeen_108 : decode cX0_isAsSeen 108 = .ok (.iinc 4 1, 3) := dk_132 4 1 (dk_at dksX0_isAsSeen_4 17 rfl rfl)
theorem dX0_isAsSeen_111 : decode cX0_isAsSeen 111 = .ok (.goto (-72), 3) := dk_167 255 184 (dk_at dksX0_isAsSeen_4 20 rfl rfl)
theorem dX0_isAsSeen_114 : decode cX0_isAsSeen 114 = .ok (.aload_n 0, 1) := dk_42 (dk_at dksX0_isAsSeen_4 23 rfl rfl)
theorem dX0_isAsSeen_115 : decode cX0_isAsSeen 115 = .ok (.getfield 161, 3) := dk_180 0 161 (dk_at dksX0_isAsSeen_5 0 rfl rfl)
theorem dX0_isAsSeen_118 : decode cX0_isAsSeen 118 = .ok (.iconst 0, 1) := dk_3 (dk_at dksX0_isAsSeen_5 3 rfl rfl)
theorem dX0_isAsSeen_119 : decode cX0_isAsSeen 119 = .ok (.invokevirtual 157, 3) := dk_182 0 157 (dk_at dksX0_isAsSeen_5 4 rfl rfl)
theorem dX0_isAsSeen_122 : decode cX0_isAsSeen 122 = .ok (.iinc 3 1, 3) := dk_132 3 1 (dk_at dksX0_isAsSeen_5 7 rfl rfl)
theorem dX0_isAsSeen_125 : decode cX0_isAsSeen 125 = .ok (.goto (-110), 3) := dk_167 255 146 (dk_at dksX0_isAsSeen_5 10 rfl rfl)
theorem dX0_isAsSeen_128 : decode cX0_isAsSeen 128 = .ok (.iload_n 2, 1) := dk_28 (dk_at dksX0_isAsSeen_5 13 rfl rfl)
theorem dX0_isAsSeen_129 : decode cX0_isAsSeen 129 = .ok (.ireturn, 1) := dk_172 (dk_at dksX0_isAsSeen_5 14 rfl rfl)
abbrev cX0_squares : ByteArray := prog_1_method_46_code
def yX0_squares : MethodName := ⟨RX0, "squares", "(I)I"⟩
def dkwX0_squares_0 : List UInt8 := [42, 27, 182, 0, 113, 153, 0, 11, 42, 27, 182, 0, 228, 167, 0, 4, 2, 172]
abbrev dktX0_squares_0 : List UInt8 := dkwX0_squares_0 ++ []
theorem dksX0_squares_0 : cX0_squares.data.toList.drop 0 = dktX0_squares_0 := by decide +kernel
theorem dX0_squares_0 : decode cX0_squares 0 = .ok (.aload_n 0, 1) := dk_42 (dk_at dksX0_squares_0 0 rfl rfl)
theorem dX0_squares_1 : decode cX0_squares 1 = .ok (.iload_n 1, 1) := dk_27 (dk_at dksX0_squares_0 1 rfl rfl)
theorem dX0_squares_2 : decode cX0_squares 2 = .ok (.invokevirtual 113, 3) := dk_182 0 113 (dk_at dksX0_squares_0 2 rfl rfl)
theorem dX0_squares_5 : decode cX0_squares 5 = .ok (.ifCond .eq 11, 3) := dk_153 0 11 (dk_at dksX0_squares_0 5 rfl rfl)
theorem dX0_squares_8 : decode cX0_squares 8 = .ok (.aload_n 0, 1) := dk_42 (dk_at dksX0_squares_0 8 rfl rfl)
theorem dX0_squares_9 : decode cX0_squares 9 = .ok (.iload_n 1, 1) := dk_27 (dk_at dksX0_squares_0 9 rfl rfl)
theorem dX0_squares_10 : decode cX0_squares 10 = .ok (.invokevirtual 228, 3) := dk_182 0 228 (dk_at dksX0_squares_0 10 rfl rfl)
theorem dX0_squares_13 : decode cX0_squares 13 = .ok (.goto 4, 3) := dk_167 0 4 (dk_at dksX0_squares_0 13 rfl rfl)
theorem dX0_squares_16 : decode cX0_squares 16 = .ok (.iconst (-1), 1) := dk_2 (dk_at dksX0_squares_0 16 rfl rfl)
theorem dX0_squares_17 : decode cX0_squares 17 = .ok (.ireturn, 1) := dk_172 (dk_at dksX0_squares_0 17 rfl rfl)
abbrev cX0_squaresOf : ByteArray := prog_1_method_45_code
def yX0_squaresOf : MethodName := ⟨RX0, "squaresOf", "(I)I"⟩
def dkwX0_squaresOf_2 : List UInt8 := [167, 0, 4, 3, 128, 61, 132, 3, 1, 167, 255, 217, 28, 172]
abbrev dktX0_squaresOf_2 : List UInt8 := dkwX0_squaresOf_2 ++ []
def dkwX0_squaresOf_1 : List UInt8 := [180, 0, 180, 180, 0, 116, 27, 50, 4, 29, 79, 28, 42, 29, 182, 0, 225, 153, 0, 9, 4, 29, 120]
abbrev dktX0_squaresOf_1 : List UInt8 := dkwX0_squaresOf_1 ++ dktX0_squaresOf_2
def dkwX0_squaresOf_0 : List UInt8 := [3, 61, 42, 180, 0, 180, 42, 180, 0, 35, 182, 0, 42, 3, 62, 29, 16, 6, 162, 0, 39, 42]
abbrev dktX0_squaresOf_0 : List UInt8 := dkwX0_squaresOf_0 ++ dktX0_squaresOf_1
theorem dksX0_squaresOf_0 : cX0_squaresOf.data.toList.drop 0 = dktX0_squaresOf_0 := by decide +kernel
theorem dksX0_squaresOf_1 : cX0_squaresOf.data.toList.drop 22 = dktX0_squaresOf_1 := dk_seg dksX0_squaresOf_0 22 rfl rfl
theorem dksX0_squaresOf_2 : cX0_squaresOf.data.toList.drop 45 = dktX0_squaresOf_2 := dk_seg dksX0_squaresOf_1 23 rfl rfl
theorem dX0_squaresOf_0 : decode cX0_squaresOf 0 = .ok (.iconst 0, 1) := dk_3 (dk_at dksX0_squaresOf_0 0 rfl rfl)
theorem dX0_squaresOf_1 : decode cX0_squaresOf 1 = .ok (.istore_n 2, 1) := dk_61 (dk_at dksX0_squaresOf_0 1 rfl rfl)
theorem dX0_squaresOf_2 : decode cX0_squaresOf 2 = .ok (.aload_n 0, 1) := dk_42 (dk_at dksX0_squaresOf_0 2 rfl rfl)
theorem dX0_squaresOf_3 : decode cX0_squaresOf 3 = .ok (.getfield 180, 3) := dk_180 0 180 (dk_at dksX0_squaresOf_0 3 rfl rfl)
theorem dX0_squaresOf_6 : decode cX0_squaresOf 6 = .ok (.aload_n 0, 1) := dk_42 (dk_at dksX0_squaresOf_0 6 rfl rfl)
theorem dX0_squaresOf_7 : decode cX0_squaresOf 7 = .ok (.getfield 35, 3) := dk_180 0 35 (dk_at dksX0_squaresOf_0 7 rfl rfl)
theorem dX0_squaresOf_10 : decode cX0_squaresOf 10 = .ok (.invokevirtual 42, 3) := dk_182 0 42 (dk_at dksX0_squaresOf_0 10 rfl rfl)
theorem dX0_squaresOf_13 : decode cX0_squaresOf 13 = .ok (.iconst 0, 1) := dk_3 (dk_at dksX0_squaresOf_0 13 rfl rfl)
theorem dX0_squaresOf_14 : decode cX0_squaresOf 14 = .ok (.istore_n 3, 1) := dk_62 (dk_at dksX0_squaresOf_0 14 rfl rfl)
theorem dX0_squaresOf_15 : decode cX0_squaresOf 15 = .ok (.iload_n 3, 1) := dk_29 (dk_at dksX0_squaresOf_0 15 rfl rfl)
theorem dX0_squaresOf_16 : decode cX0_squaresOf 16 = .ok (.bipush 6, 2) := dk_16 6 (dk_at dksX0_squaresOf_0 16 rfl rfl)
theorem dX0_squaresOf_18 : decode cX0_squaresOf 18 = .ok (.if_icmp .ge 39, 3) := dk_162 0 39 (dk_at dksX0_squaresOf_0 18 rfl rfl)
theorem dX0_squaresOf_21 : decode cX0_squaresOf 21 = .ok (.aload_n 0, 1) := dk_42 (dk_at dksX0_squaresOf_0 21 rfl rfl)
theorem dX0_squaresOf_22 : decode cX0_squaresOf 22 = .ok (.getfield 180, 3) := dk_180 0 180 (dk_at dksX0_squaresOf_1 0 rfl rfl)
theorem dX0_squaresOf_25 : decode cX0_squaresOf 25 = .ok (.getfield 116, 3) := dk_180 0 116 (dk_at dksX0_squaresOf_1 3 rfl rfl)
theorem dX0_squaresOf_28 : decode cX0_squaresOf 28 = .ok (.iload_n 1, 1) := dk_27 (dk_at dksX0_squaresOf_1 6 rfl rfl)
theorem dX0_squaresOf_29 : decode cX0_squaresOf 29 = .ok (.aaload, 1) := dk_50 (dk_at dksX0_squaresOf_1 7 rfl rfl)
theorem dX0_squaresOf_30 : decode cX0_squaresOf 30 = .ok (.iconst 1, 1) := dk_4 (dk_at dksX0_squaresOf_1 8 rfl rfl)
theorem dX0_squaresOf_31 : decode cX0_squaresOf 31 = .ok (.iload_n 3, 1) := dk_29 (dk_at dksX0_squaresOf_1 9 rfl rfl)
theorem dX0_squaresOf_32 : decode cX0_squaresOf 32 = .ok (.iastore, 1) := dk_79 (dk_at dksX0_squaresOf_1 10 rfl rfl)
theorem dX0_squaresOf_33 : decode cX0_squaresOf 33 = .ok (.iload_n 2, 1) := dk_28 (dk_at dksX0_squaresOf_1 11 rfl rfl)
theorem dX0_squaresOf_34 : decode cX0_squaresOf 34 = .ok (.aload_n 0, 1) := dk_42 (dk_at dksX0_squaresOf_1 12 rfl rfl)
theorem dX0_squaresOf_35 : decode cX0_squaresOf 35 = .ok (.iload_n 3, 1) := dk_29 (dk_at dksX0_squaresOf_1 13 rfl rfl)
theorem dX0_squaresOf_36 : decode cX0_squaresOf 36 = .ok (.invokevirtual 225, 3) := dk_182 0 225 (dk_at dksX0_squaresOf_1 14 rfl rfl)
theorem dX0_squaresOf_39 : decode cX0_squaresOf 39 = .ok (.ifCond .eq 9, 3) := dk_153 0 9 (dk_at dksX0_squaresOf_1 17 rfl rfl)
theorem dX0_squaresOf_42 : decode cX0_squaresOf 42 = .ok (.iconst 1, 1) := dk_4 (dk_at dksX0_squaresOf_1 20 rfl rfl)
theorem dX0_squaresOf_43 : decode cX0_squaresOf 43 = .ok (.iload_n 3, 1) := dk_29 (dk_at dksX0_squaresOf_1 21 rfl rfl)
theorem dX0_squaresOf_44 : decode cX0_squaresOf 44 = .ok (.ishl, 1) := dk_120 (dk_at dksX0_squaresOf_1 22 rfl rfl)
theorem dX0_squaresOf_45 : decode cX0_squaresOf 45 = .ok (.goto 4, 3) := dk_167 0 4 (dk_at dksX0_squaresOf_2 0 rfl rfl)
theorem dX0_squaresOf_48 : decode cX0_squaresOf 48 = .ok (.iconst 0, 1) := dk_3 (dk_at dksX0_squaresOf_2 3 rfl rfl)
theorem dX0_squaresOf_49 : decode cX0_squaresOf 49 = .ok (.ior, 1) := dk_128 (dk_at dksX0_squaresOf_2 4 rfl rfl)
theorem dX0_squaresOf_50 : decode cX0_squaresOf 50 = .ok (.istore_n 2, 1) := dk_61 (dk_at dksX0_squaresOf_2 5 rfl rfl)
theorem dX0_squaresOf_51 : decode cX0_squaresOf 51 = .ok (.iinc 3 1, 3) := dk_132 3 1 (dk_at dksX0_squaresOf_2 6 rfl rfl)
theorem dX0_squaresOf_54 : decode cX0_squaresOf 54 = .ok (.goto (-39), 3) := dk_167 255 217 (dk_at dksX0_squaresOf_2 9 rfl rfl)
theorem dX0_squaresOf_57 : decode cX0_squaresOf 57 = .ok (.iload_n 2, 1) := dk_28 (dk_at dksX0_squaresOf_2 12 rfl rfl)
theorem dX0_squaresOf_58 : decode cX0_squaresOf 58 = .ok (.ireturn, 1) := dk_172 (dk_at dksX0_squaresOf_2 13 rfl rfl)
abbrev cX0_ask : ByteArray := prog_1_method_47_code
def yX0_ask : MethodName := ⟨RX0, "ask", "(II)I"⟩
def dkwX0_ask_7 : List UInt8 := [21, 5, 16, 252, 159, 0, 7, 28, 154, 0, 8, 21, 5, 167, 0, 7, 42, 180, 0, 188, 172]
abbrev dktX0_ask_7 : List UInt8 := dkwX0_ask_7 ++ []
def dkwX0_ask_6 : List UInt8 := [104, 21, 7, 96, 167, 0, 5, 21, 5, 54, 5, 132, 7, 1, 167, 255, 153, 132, 6, 1, 167, 255, 137]
abbrev dktX0_ask_6 : List UInt8 := dkwX0_ask_6 ++ dktX0_ask_7
def dkwX0_ask_5 : List UInt8 := [167, 255, 209, 42, 21, 8, 21, 4, 21, 8, 100, 184, 0, 183, 182, 0, 198, 153, 0, 14, 16, 10, 21, 6]
abbrev dktX0_ask_5 : List UInt8 := dkwX0_ask_5 ++ dktX0_ask_6
def dkwX0_ask_4 : List UInt8 := [50, 21, 6, 46, 21, 7, 184, 0, 131, 153, 0, 7, 4, 167, 0, 4, 3, 96, 54, 8, 132, 9, 1]
abbrev dktX0_ask_4 : List UInt8 := dkwX0_ask_4 ++ dktX0_ask_5
def dkwX0_ask_3 : List UInt8 := [21, 9, 16, 6, 162, 0, 46, 21, 8, 29, 21, 9, 184, 0, 131, 153, 0, 25, 42, 180, 0, 222, 21, 9]
abbrev dktX0_ask_3 : List UInt8 := dkwX0_ask_3 ++ dktX0_ask_4
def dkwX0_ask_2 : List UInt8 := [163, 0, 118, 3, 54, 7, 21, 7, 42, 180, 0, 35, 180, 0, 78, 162, 0, 97, 3, 54, 8, 3, 54, 9]
abbrev dktX0_ask_2 : List UInt8 := dkwX0_ask_2 ++ dktX0_ask_3
def dkwX0_ask_1 : List UInt8 := [184, 0, 231, 54, 4, 42, 21, 4, 181, 0, 188, 16, 252, 54, 5, 3, 54, 6, 21, 6, 16, 20]
abbrev dktX0_ask_1 : List UInt8 := dkwX0_ask_1 ++ dktX0_ask_2
def dkwX0_ask_0 : List UInt8 := [42, 27, 182, 0, 113, 153, 0, 10, 28, 184, 0, 177, 154, 0, 5, 2, 172, 42, 27, 182, 0, 228, 62, 29]
abbrev dktX0_ask_0 : List UInt8 := dkwX0_ask_0 ++ dktX0_ask_1
theorem dksX0_ask_0 : cX0_ask.data.toList.drop 0 = dktX0_ask_0 := by decide +kernel
theorem dksX0_ask_1 : cX0_ask.data.toList.drop 24 = dktX0_ask_1 := dk_seg dksX0_ask_0 24 rfl rfl
theorem dksX0_ask_2 : cX0_ask.data.toList.drop 46 = dktX0_ask_2 := dk_seg dksX0_ask_1 22 rfl rfl
theorem dksX0_ask_3 : cX0_ask.data.toList.drop 70 = dktX0_ask_3 := dk_seg dksX0_ask_2 24 rfl rfl
theorem dksX0_ask_4 : cX0_ask.data.toList.drop 94 = dktX0_ask_4 := dk_seg dksX0_ask_3 24 rfl rfl
theorem dksX0_ask_5 : cX0_ask.data.toList.drop 117 = dktX0_ask_5 := dk_seg dksX0_ask_4 23 rfl rfl
theorem dksX0_ask_6 : cX0_ask.data.toList.drop 141 = dktX0_ask_6 := dk_seg dksX0_ask_5 24 rfl rfl
theorem dksX0_ask_7 : cX0_ask.data.toList.drop 164 = dktX0_ask_7 := dk_seg dksX0_ask_6 23 rfl rfl
theorem dX0_ask_0 : decode cX0_ask 0 = .ok (.aload_n 0, 1) := dk_42 (dk_at dksX0_ask_0 0 rfl rfl)
theorem dX0_ask_1 : decode cX0_ask 1 = .ok (.iload_n 1, 1) := dk_27 (dk_at dksX0_ask_0 1 rfl rfl)
theorem dX0_ask_2 : decode cX0_ask 2 = .ok (.invokevirtual 113, 3) := dk_182 0 113 (dk_at dksX0_ask_0 2 rfl rfl)
theorem dX0_ask_5 : decode cX0_ask 5 = .ok (.ifCond .eq 10, 3) := dk_153 0 10 (dk_at dksX0_ask_0 5 rfl rfl)
theorem dX0_ask_8 : decode cX0_ask 8 = .ok (.iload_n 2, 1) := dk_28 (dk_at dksX0_ask_0 8 rfl rfl)
theorem dX0_ask_9 : decode cX0_ask 9 = .ok (.invokestatic 177, 3) := dk_184 0 177 (dk_at dksX0_ask_0 9 rfl rfl)
theorem dX0_ask_12 : decode cX0_ask 12 = .ok (.ifCond .ne 5, 3) := dk_154 0 5 (dk_at dksX0_ask_0 12 rfl rfl)
theorem dX0_ask_15 : decode cX0_ask 15 = .ok (.iconst (-1), 1) := dk_2 (dk_at dksX0_ask_0 15 rfl rfl)
theorem dX0_ask_16 : decode cX0_ask 16 = .ok (.ireturn, 1) := dk_172 (dk_at dksX0_ask_0 16 rfl rfl)
theorem dX0_ask_17 : decode cX0_ask 17 = .ok (.aload_n 0, 1) := dk_42 (dk_at dksX0_ask_0 17 rfl rfl)
theorem dX0_ask_18 : decode cX0_ask 18 = .ok (.iload_n 1, 1) := dk_27 (dk_at dksX0_ask_0 18 rfl rfl)
theorem dX0_ask_19 : decode cX0_ask 19 = .ok (.invokevirtual 228, 3) := dk_182 0 228 (dk_at dksX0_ask_0 19 rfl rfl)
theorem dX0_ask_22 : decode cX0_ask 22 = .ok (.istore_n 3, 1) := dk_62 (dk_at dksX0_ask_0 22 rfl rfl)
theorem dX0_ask_23 : decode cX0_ask 23 = .ok (.iload_n 3, 1) := dk_29 (dk_at dksX0_ask_0 23 rfl rfl)
theorem dX0_ask_24 : decode cX0_ask 24 = .ok (.invokestatic 231, 3) := dk_184 0 231 (dk_at dksX0_ask_1 0 rfl rfl)
theorem dX0_ask_27 : decode cX0_ask 27 = .ok (.istore 4, 2) := dk_54 4 (dk_at dksX0_ask_1 3 rfl rfl)
theorem dX0_ask_29 : decode cX0_ask 29 = .ok (.aload_n 0, 1) := dk_42 (dk_at dksX0_ask_1 5 rfl rfl)
theorem dX0_ask_30 : decode cX0_ask 30 = .ok (.iload 4, 2) := dk_21 4 (dk_at dksX0_ask_1 6 rfl rfl)
theorem dX0_ask_32 : decode cX0_ask 32 = .ok (.putfield 188, 3) := dk_181 0 188 (dk_at dksX0_ask_1 8 rfl rfl)
theorem dX0_ask_35 : decode cX0_ask 35 = .ok (.bipush (-4), 2) := dk_16 252 (dk_at dksX0_ask_1 11 rfl rfl)
theorem dX0_ask_37 : decode cX0_ask 37 = .ok (.istore 5, 2) := dk_54 5 (dk_at dksX0_ask_1 13 rfl rfl)
theorem dX0_ask_39 : decode cX0_ask 39 = .ok (.iconst 0, 1) := dk_3 (dk_at dksX0_ask_1 15 rfl rfl)
theorem dX0_ask_40 : decode cX0_ask 40 = .ok (.istore 6, 2) := dk_54 6 (dk_at dksX0_ask_1 16 rfl rfl)
theorem dX0_ask_42 : decode cX0_ask 42 = .ok (.iload 6, 2) := dk_21 6 (dk_at dksX0_ask_1 18 rfl rfl)
theorem dX0_ask_44 : decode cX0_ask 44 = .ok (.bipush 20, 2) := dk_16 20 (dk_at dksX0_ask_1 20 rfl rfl)
theorem dX0_ask_46 : decode cX0_ask 46 = .ok (.if_icmp .gt 118, 3) := dk_163 0 118 (dk_at dksX0_ask_2 0 rfl rfl)
theorem dX0_ask_49 : decode cX0_ask 49 = .ok (.iconst 0, 1) := dk_3 (dk_at dksX0_ask_2 3 rfl rfl)
theorem dX0_ask_50 : decode cX0_ask 50 = .ok (.istore 7, 2) := dk_54 7 (dk_at dksX0_ask_2 4 rfl rfl)
theorem dX0_ask_52 : decode cX0_ask 52 = .ok (.iload 7, 2) := dk_21 7 (dk_at dksX0_ask_2 6 rfl rfl)
theorem dX0_ask_54 : decode cX0_ask 54 = .ok (.aload_n 0, 1) := dk_42 (dk_at dksX0_ask_2 8 rfl rfl)
theorem dX0_ask_55 : decode cX0_ask 55 = .ok (.getfield 35, 3) := dk_180 0 35 (dk_at dksX0_ask_2 9 rfl rfl)
theorem dX0_ask_58 : decode cX0_ask 58 = .ok (.getfield 78, 3) := dk_180 0 78 (dk_at dksX0_ask_2 12 rfl rfl)
theorem dX0_ask_61 : decode cX0_ask 61 = .ok (.if_icmp .ge 97, 3) := dk_162 0 97 (dk_at dksX0_ask_2 15 rfl rfl)
theorem dX0_ask_64 : decode cX0_ask 64 = .ok (.iconst 0, 1) := dk_3 (dk_at dksX0_ask_2 18 rfl rfl)
theorem dX0_ask_65 : decode cX0_ask 65 = .ok (.istore 8, 2) := dk_54 8 (dk_at dksX0_ask_2 19 rfl rfl)
theorem dX0_ask_67 : decode cX0_ask 67 = .ok (.iconst 0, 1) := dk_3 (dk_at dksX0_ask_2 21 rfl rfl)
theorem dX0_ask_68 : decode cX0_ask 68 = .ok (.istore 9, 2) := dk_54 9 (dk_at dksX0_ask_2 22 rfl rfl)
theorem dX0_ask_70 : decode cX0_ask 70 = .ok (.iload 9, 2) := dk_21 9 (dk_at dksX0_ask_3 0 rfl rfl)
theorem dX0_ask_72 : decode cX0_ask 72 = .ok (.bipush 6, 2) := dk_16 6 (dk_at dksX0_ask_3 2 rfl rfl)
theorem dX0_ask_74 : decode cX0_ask 74 = .ok (.if_icmp .ge 46, 3) := dk_162 0 46 (dk_at dksX0_ask_3 4 rfl rfl)
theorem dX0_ask_77 : decode cX0_ask 77 = .ok (.iload 8, 2) := dk_21 8 (dk_at dksX0_ask_3 7 rfl rfl)
theorem dX0_ask_79 : decode cX0_ask 79 = .ok (.iload_n 3, 1) := dk_29 (dk_at dksX0_ask_3 9 rfl rfl)
theorem dX0_ask_80 : decode cX0_ask 80 = .ok (.iload 9, 2) := dk_21 9 (dk_at dksX0_ask_3 10 rfl rfl)
theorem dX0_ask_82 : decode cX0_ask 82 = .ok (.invokestatic 131, 3) := dk_184 0 131 (dk_at dksX0_ask_3 12 rfl rfl)
theorem dX0_ask_85 : decode cX0_ask 85 = .ok (.ifCond .eq 25, 3) := dk_153 0 25 (dk_at dksX0_ask_3 15 rfl rfl)
theorem dX0_ask_88 : decode cX0_ask 88 = .ok (.aload_n 0, 1) := dk_42 (dk_at dksX0_ask_3 18 rfl rfl)
theorem dX0_ask_89 : decode cX0_ask 89 = .ok (.getfield 222, 3) := dk_180 0 222 (dk_at dksX0_ask_3 19 rfl rfl)
theorem dX0_ask_92 : decode cX0_ask 92 = .ok (.iload 9, 2) := dk_21 9 (dk_at dksX0_ask_3 22 rfl rfl)
theorem dX0_ask_94 : decode cX0_ask 94 = .ok (.aaload, 1) := dk_50 (dk_at dksX0_ask_4 0 rfl rfl)
theorem dX0_ask_95 : decode cX0_ask 95 = .ok (.iload 6, 2) := dk_21 6 (dk_at dksX0_ask_4 1 rfl rfl)
theorem dX0_ask_97 : decode cX0_ask 97 = .ok (.iaload, 1) := dk_46 (dk_at dksX0_ask_4 3 rfl rfl)
theorem dX0_ask_98 : decode cX0_ask 98 = .ok (.iload 7, 2) := dk_21 7 (dk_at dksX0_ask_4 4 rfl rfl)
theorem dX0_ask_100 : decode cX0_ask 100 = .ok (.invokestatic 131, 3) := dk_184 0 131 (dk_at dksX0_ask_4 6 rfl rfl)
theorem dX0_ask_103 : decode cX0_ask 103 = .ok (.ifCond .eq 7, 3) := dk_153 0 7 (dk_at dksX0_ask_4 9 rfl rfl)
theorem dX0_ask_106 : decode cX0_ask 106 = .ok (.iconst 1, 1) := dk_4 (dk_at dksX0_ask_4 12 rfl rfl)
theorem dX0_ask_107 : decode cX0_ask 107 = .ok (.goto 4, 3) := dk_167 0 4 (dk_at dksX0_ask_4 13 rfl rfl)
theorem dX0_ask_110 : decode cX0_ask 110 = .ok (.iconst 0, 1) := dk_3 (dk_at dksX0_ask_4 16 rfl rfl)
theorem dX0_ask_111 : decode cX0_ask 111 = .ok (.iadd, 1) := dk_96 (dk_at dksX0_ask_4 17 rfl rfl)
theorem dX0_ask_112 : decode cX0_ask 112 = .ok (.istore 8, 2) := dk_54 8 (dk_at dksX0_ask_4 18 rfl rfl)
theorem dX0_ask_114 : decode cX0_ask 114 = .ok (.iinc 9 1, 3) := dk_132 9 1 (dk_at dksX0_ask_4 20 rfl rfl)
theorem dX0_ask_117 : decode cX0_ask 117 = .ok (.goto (-47), 3) := dk_167 255 209 (dk_at dksX0_ask_5 0 rfl rfl)
theorem dX0_ask_120 : decode cX0_ask 120 = .ok (.aload_n 0, 1) := dk_42 (dk_at dksX0_ask_5 3 rfl rfl)
theorem dX0_ask_121 : decode cX0_ask 121 = .ok (.iload 8, 2) := dk_21 8 (dk_at dksX0_ask_5 4 rfl rfl)
theorem dX0_ask_123 : decode cX0_ask 123 = .ok (.iload 4, 2) := dk_21 4 (dk_at dksX0_ask_5 6 rfl rfl)
theorem dX0_ask_125 : decode cX0_ask 125 = .ok (.iload 8, 2) := dk_21 8 (dk_at dksX0_ask_5 8 rfl rfl)
theorem dX0_ask_127 : decode cX0_ask 127 = .ok (.isub, 1) := dk_100 (dk_at dksX0_ask_5 10 rfl rfl)
theorem dX0_ask_128 : decode cX0_ask 128 = .ok (.invokestatic 183, 3) := dk_184 0 183 (dk_at dksX0_ask_5 11 rfl rfl)
theorem dX0_ask_131 : decode cX0_ask 131 = .ok (.invokevirtual 198, 3) := dk_182 0 198 (dk_at dksX0_ask_5 14 rfl rfl)
theorem dX0_ask_134 : decode cX0_ask 134 = .ok (.ifCond .eq 14, 3) := dk_153 0 14 (dk_at dksX0_ask_5 17 rfl rfl)
theorem dX0_ask_137 : decode cX0_ask 137 = .ok (.bipush 10, 2) := dk_16 10 (dk_at dksX0_ask_5 20 rfl rfl)
theorem dX0_ask_139 : decode cX0_ask 139 = .ok (.iload 6, 2) := dk_21 6 (dk_at dksX0_ask_5 22 rfl rfl)
theorem dX0_ask_141 : decode cX0_ask 141 = .ok (.imul, 1) := dk_104 (dk_at dksX0_ask_6 0 rfl rfl)
theorem dX0_ask_142 : decode cX0_ask 142 = .ok (.iload 7, 2) := dk_21 7 (dk_at dksX0_ask_6 1 rfl rfl)
theorem dX0_ask_144 : decode cX0_ask 144 = .ok (.iadd, 1) := dk_96 (dk_at dksX0_ask_6 3 rfl rfl)
theorem dX0_ask_145 : decode cX0_ask 145 = .ok (.goto 5, 3) := dk_167 0 5 (dk_at dksX0_ask_6 4 rfl rfl)
theorem dX0_ask_148 : decode cX0_ask 148 = .ok (.iload 5, 2) := dk_21 5 (dk_at dksX0_ask_6 7 rfl rfl)
theorem dX0_ask_150 : decode cX0_ask 150 = .ok (.istore 5, 2) := dk_54 5 (dk_at dksX0_ask_6 9 rfl rfl)
theorem dX0_ask_152 : decode cX0_ask 152 = .ok (.iinc 7 1, 3) := dk_132 7 1 (dk_at dksX0_ask_6 11 rfl rfl)
theorem dX0_ask_155 : decode cX0_ask 155 = .ok (.goto (-103), 3) := dk_167 255 153 (dk_at dksX0_ask_6 14 rfl rfl)
theorem dX0_ask_158 : decode cX0_ask 158 = .ok (.iinc 6 1, 3) := dk_132 6 1 (dk_at dksX0_ask_6 17 rfl rfl)
theorem dX0_ask_161 : decode cX0_ask 161 = .ok (.goto (-119), 3) := dk_167 255 137 (dk_at dksX0_ask_6 20 rfl rfl)
theorem dX0_ask_164 : decode cX0_ask 164 = .ok (.iload 5, 2) := dk_21 5 (dk_at dksX0_ask_7 0 rfl rfl)
theorem dX0_ask_166 : decode cX0_ask 166 = .ok (.bipush (-4), 2) := dk_16 252 (dk_at dksX0_ask_7 2 rfl rfl)
theorem dX0_ask_168 : decode cX0_ask 168 = .ok (.if_icmp .eq 7, 3) := dk_159 0 7 (dk_at dksX0_ask_7 4 rfl rfl)
theorem dX0_ask_171 : decode cX0_ask 171 = .ok (.iload_n 2, 1) := dk_28 (dk_at dksX0_ask_7 7 rfl rfl)
theorem dX0_ask_172 : decode cX0_ask 172 = .ok (.ifCond .ne 8, 3) := dk_154 0 8 (dk_at dksX0_ask_7 8 rfl rfl)
theorem dX0_ask_175 : decode cX0_ask 175 = .ok (.iload 5, 2) := dk_21 5 (dk_at dksX0_ask_7 11 rfl rfl)
theorem dX0_ask_177 : decode cX0_ask 177 = .ok (.goto 7, 3) := dk_167 0 7 (dk_at dksX0_ask_7 13 rfl rfl)
theorem dX0_ask_180 : decode cX0_ask 180 = .ok (.aload_n 0, 1) := dk_42 (dk_at dksX0_ask_7 16 rfl rfl)
theorem dX0_ask_181 : decode cX0_ask 181 = .ok (.getfield 188, 3) := dk_180 0 188 (dk_at dksX0_ask_7 17 rfl rfl)
theorem dX0_ask_184 : decode cX0_ask 184 = .ok (.ireturn, 1) := dk_172 (dk_at dksX0_ask_7 20 rfl rfl)
abbrev cX0_drift : ByteArray := prog_1_method_48_code
def yX0_drift : MethodName := ⟨RX0, "drift", "(III)I"⟩
def dkwX0_drift_6 : List UInt8 := [182, 0, 93, 172]
abbrev dktX0_drift_6 : List UInt8 := dkwX0_drift_6 ++ []
def dkwX0_drift_5 : List UInt8 := [132, 5, 1, 167, 255, 189, 29, 154, 0, 13, 42, 180, 0, 161, 180, 0, 154, 167, 0, 10, 42, 180, 0, 161]
abbrev dktX0_drift_5 : List UInt8 := dkwX0_drift_5 ++ dktX0_drift_6
def dkwX0_drift_4 : List UInt8 := [180, 0, 78, 112, 50, 4, 21, 6, 16, 8, 108, 16, 6, 112, 79, 42, 180, 0, 161, 3, 182, 0, 157]
abbrev dktX0_drift_4 : List UInt8 := dkwX0_drift_4 ++ dktX0_drift_5
def dkwX0_drift_3 : List UInt8 := [21, 4, 16, 16, 122, 17, 127, 255, 126, 54, 6, 42, 180, 0, 161, 180, 0, 128, 21, 6, 42, 180, 0, 161]
abbrev dktX0_drift_3 : List UInt8 := dkwX0_drift_3 ++ dktX0_drift_4
def dkwX0_drift_2 : List UInt8 := [182, 0, 42, 3, 54, 5, 21, 5, 28, 162, 0, 67, 21, 4, 18, 236, 104, 17, 48, 57, 96, 54, 4]
abbrev dktX0_drift_2 : List UInt8 := dkwX0_drift_2 ++ dktX0_drift_3
def dkwX0_drift_1 : List UInt8 := [180, 0, 35, 180, 0, 78, 154, 0, 6, 16, 254, 172, 27, 54, 4, 42, 180, 0, 161, 42, 180, 0, 35]
abbrev dktX0_drift_1 : List UInt8 := dkwX0_drift_1 ++ dktX0_drift_2
def dkwX0_drift_0 : List UInt8 := [28, 133, 10, 20, 0, 81, 184, 0, 5, 153, 0, 10, 29, 184, 0, 177, 154, 0, 5, 2, 172, 42]
abbrev dktX0_drift_0 : List UInt8 := dkwX0_drift_0 ++ dktX0_drift_1
theorem dksX0_drift_0 : cX0_drift.data.toList.drop 0 = dktX0_drift_0 := by decide +kernel
theorem dksX0_drift_1 : cX0_drift.data.toList.drop 22 = dktX0_drift_1 := dk_seg dksX0_drift_0 22 rfl rfl
theorem dksX0_drift_2 : cX0_drift.data.toList.drop 45 = dktX0_drift_2 := dk_seg dksX0_drift_1 23 rfl rfl
theorem dksX0_drift_3 : cX0_drift.data.toList.drop 68 = dktX0_drift_3 := dk_seg dksX0_drift_2 23 rfl rfl
theorem dksX0_drift_4 : cX0_drift.data.toList.drop 92 = dktX0_drift_4 := dk_seg dksX0_drift_3 24 rfl rfl
theorem dksX0_drift_5 : cX0_drift.data.toList.drop 115 = dktX0_drift_5 := dk_seg dksX0_drift_4 23 rfl rfl
theorem dksX0_drift_6 : cX0_drift.data.toList.drop 139 = dktX0_drift_6 := dk_seg dksX0_drift_5 24 rfl rfl
theorem dX0_drift_0 : decode cX0_drift 0 = .ok (.iload_n 2, 1) := dk_28 (dk_at dksX0_drift_0 0 rfl rfl)
theorem dX0_drift_1 : decode cX0_drift 1 = .ok (.i2l, 1) := dk_133 (dk_at dksX0_drift_0 1 rfl rfl)
theorem dX0_drift_2 : decode cX0_drift 2 = .ok (.lconst 1, 1) := dk_10 (dk_at dksX0_drift_0 2 rfl rfl)
theorem dX0_drift_3 : decode cX0_drift 3 = .ok (.ldc2_w 81, 3) := dk_20 0 81 (dk_at dksX0_drift_0 3 rfl rfl)
theorem dX0_drift_6 : decode cX0_drift 6 = .ok (.invokestatic 5, 3) := dk_184 0 5 (dk_at dksX0_drift_0 6 rfl rfl)
theorem dX0_drift_9 : decode cX0_drift 9 = .ok (.ifCond .eq 10, 3) := dk_153 0 10 (dk_at dksX0_drift_0 9 rfl rfl)
theorem dX0_drift_12 : decode cX0_drift 12 = .ok (.iload_n 3, 1) := dk_29 (dk_at dksX0_drift_0 12 rfl rfl)
theorem dX0_drift_13 : decode cX0_drift 13 = .ok (.invokestatic 177, 3) := dk_184 0 177 (dk_at dksX0_drift_0 13 rfl rfl)
theorem dX0_drift_16 : decode cX0_drift 16 = .ok (.ifCond .ne 5, 3) := dk_154 0 5 (dk_at dksX0_drift_0 16 rfl rfl)
theorem dX0_drift_19 : decode cX0_drift 19 = .ok (.iconst (-1), 1) := dk_2 (dk_at dksX0_drift_0 19 rfl rfl)
theorem dX0_drift_20 : decode cX0_drift 20 = .ok (.ireturn, 1) := dk_172 (dk_at dksX0_drift_0 20 rfl rfl)
theorem dX0_drift_21 : decode cX0_drift 21 = .ok (.aload_n 0, 1) := dk_42 (dk_at dksX0_drift_0 21 rfl rfl)
theorem dX0_drift_22 : decode cX0_drift 22 = .ok (.getfield 35, 3) := dk_180 0 35 (dk_at dksX0_drift_1 0 rfl rfl)
theorem dX0_drift_25 : decode cX0_drift 25 = .ok (.getfield 78, 3) := dk_180 0 78 (dk_at dksX0_drift_1 3 rfl rfl)
theorem dX0_drift_28 : decode cX0_drift 28 = .ok (.ifCond .ne 6, 3) := dk_154 0 6 (dk_at dksX0_drift_1 6 rfl rfl)
theorem dX0_drift_31 : decode cX0_drift 31 = .ok (.bipush (-2), 2) := dk_16 254 (dk_at dksX0_drift_1 9 rfl rfl)
theorem dX0_drift_33 : decode cX0_drift 33 = .ok (.ireturn, 1) := dk_172 (dk_at dksX0_drift_1 11 rfl rfl)
theorem dX0_drift_34 : decode cX0_drift 34 = .ok (.iload_n 1, 1) := dk_27 (dk_at dksX0_drift_1 12 rfl rfl)
theorem dX0_drift_35 : decode cX0_drift 35 = .ok (.istore 4, 2) := dk_54 4 (dk_at dksX0_drift_1 13 rfl rfl)
theorem dX0_drift_37 : decode cX0_drift 37 = .ok (.aload_n 0, 1) := dk_42 (dk_at dksX0_drift_1 15 rfl rfl)
theorem dX0_drift_38 : decode cX0_drift 38 = .ok (.getfield 161, 3) := dk_180 0 161 (dk_at dksX0_drift_1 16 rfl rfl)
theorem dX0_drift_41 : decode cX0_drift 41 = .ok (.aload_n 0, 1) := dk_42 (dk_at dksX0_drift_1 19 rfl rfl)
theorem dX0_drift_42 : decode cX0_drift 42 = .ok (.getfield 35, 3) := dk_180 0 35 (dk_at dksX0_drift_1 20 rfl rfl)
theorem dX0_drift_45 : decode cX0_drift 45 = .ok (.invokevirtual 42, 3) := dk_182 0 42 (dk_at dksX0_drift_2 0 rfl rfl)
theorem dX0_drift_48 : decode cX0_drift 48 = .ok (.iconst 0, 1) := dk_3 (dk_at dksX0_drift_2 3 rfl rfl)
theorem dX0_drift_49 : decode cX0_drift 49 = .ok (.istore 5, 2) := dk_54 5 (dk_at dksX0_drift_2 4 rfl rfl)
theorem dX0_drift_51 : decode cX0_drift 51 = .ok (.iload 5, 2) := dk_21 5 (dk_at dksX0_drift_2 6 rfl rfl)
theorem dX0_drift_53 : decode cX0_drift 53 = .ok (.iload_n 2, 1) := dk_28 (dk_at dksX0_drift_2 8 rfl rfl)
theorem dX0_drift_54 : decode cX0_drift 54 = .ok (.if_icmp .ge 67, 3) := dk_162 0 67 (dk_at dksX0_drift_2 9 rfl rfl)
theorem dX0_drift_57 : decode cX0_drift 57 = .ok (.iload 4, 2) := dk_21 4 (dk_at dksX0_drift_2 12 rfl rfl)
theorem dX0_drift_59 : decode cX0_drift 59 = .ok (.ldc 236, 2) := dk_18 236 (dk_at dksX0_drift_2 14 rfl rfl)
theorem dX0_drift_61 : decode cX0_drift 61 = .ok (.imul, 1) := dk_104 (dk_at dksX0_drift_2 16 rfl rfl)
theorem dX0_drift_62 : decode cX0_drift 62 = .ok (.sipush 12345, 3) := dk_17 48 57 (dk_at dksX0_drift_2 17 rfl rfl)
theorem dX0_drift_65 : decode cX0_drift 65 = .ok (.iadd, 1) := dk_96 (dk_at dksX0_drift_2 20 rfl rfl)
theorem dX0_drift_66 : decode cX0_drift 66 = .ok (.istore 4, 2) := dk_54 4 (dk_at dksX0_drift_2 21 rfl rfl)
theorem dX0_drift_68 : decode cX0_drift 68 = .ok (.iload 4, 2) := dk_21 4 (dk_at dksX0_drift_3 0 rfl rfl)
theorem dX0_drift_70 : decode cX0_drift 70 = .ok (.bipush 16, 2) := dk_16 16 (dk_at dksX0_drift_3 2 rfl rfl)
theorem dX0_drift_72 : decode cX0_drift 72 = .ok (.ishr, 1) := dk_122 (dk_at dksX0_drift_3 4 rfl rfl)
theorem dX0_drift_73 : decode cX0_drift 73 = .ok (.sipush 32767, 3) := dk_17 127 255 (dk_at dksX0_drift_3 5 rfl rfl)
theorem dX0_drift_76 : decode cX0_drift 76 = .ok (.iand, 1) := dk_126 (dk_at dksX0_drift_3 8 rfl rfl)
theorem dX0_drift_77 : decode cX0_drift 77 = .ok (.istore 6, 2) := dk_54 6 (dk_at dksX0_drift_3 9 rfl rfl)
theorem dX0_drift_79 : decode cX0_drift 79 = .ok (.aload_n 0, 1) := dk_42 (dk_at dksX0_drift_3 11 rfl rfl)
theorem dX0_drift_80 : decode cX0_drift 80 = .ok (.getfield 161, 3) := dk_180 0 161 (dk_at dksX0_drift_3 12 rfl rfl)
theorem dX0_drift_83 : decode cX0_drift 83 = .ok (.getfield 128, 3) := dk_180 0 128 (dk_at dksX0_drift_3 15 rfl rfl)
theorem dX0_drift_86 : decode cX0_drift 86 = .ok (.iload 6, 2) := dk_21 6 (dk_at dksX0_drift_3 18 rfl rfl)
theorem dX0_drift_88 : decode cX0_drift 88 = .ok (.aload_n 0, 1) := dk_42 (dk_at dksX0_drift_3 20 rfl rfl)
theorem dX0_drift_89 : decode cX0_drift 89 = .ok (.getfield 161, 3) := dk_180 0 161 (dk_at dksX0_drift_3 21 rfl rfl)
theorem dX0_drift_92 : decode cX0_drift 92 = .ok (.getfield 78, 3) := dk_180 0 78 (dk_at dksX0_drift_4 0 rfl rfl)
theorem dX0_drift_95 : decode cX0_drift 95 = .ok (.irem, 1) := dk_112 (dk_at dksX0_drift_4 3 rfl rfl)
theorem dX0_drift_96 : decode cX0_drift 96 = .ok (.aaload, 1) := dk_50 (dk_at dksX0_drift_4 4 rfl rfl)
theorem dX0_drift_97 : decode cX0_drift 97 = .ok (.iconst 1, 1) := dk_4 (dk_at dksX0_drift_4 5 rfl rfl)
theorem dX0_drift_98 : decode cX0_drift 98 = .ok (.iload 6, 2) := dk_21 6 (dk_at dksX0_drift_4 6 rfl rfl)
theorem dX0_drift_100 : decode cX0_drift 100 = .ok (.bipush 8, 2) := dk_16 8 (dk_at dksX0_drift_4 8 rfl rfl)
theorem dX0_drift_102 : decode cX0_drift 102 = .ok (.idiv, 1) := dk_108 (dk_at dksX0_drift_4 10 rfl rfl)
theorem dX0_drift_103 : decode cX0_drift 103 = .ok (.bipush 6, 2) := dk_16 6 (dk_at dksX0_drift_4 11 rfl rfl)
theorem dX0_drift_105 : decode cX0_drift 105 = .ok (.irem, 1) := dk_112 (dk_at dksX0_drift_4 13 rfl rfl)
theorem dX0_drift_106 : decode cX0_drift 106 = .ok (.iastore, 1) := dk_79 (dk_at dksX0_drift_4 14 rfl rfl)
theorem dX0_drift_107 : decode cX0_drift 107 = .ok (.aload_n 0, 1) := dk_42 (dk_at dksX0_drift_4 15 rfl rfl)
theorem dX0_drift_108 : decode cX0_drift 108 = .ok (.getfield 161, 3) := dk_180 0 161 (dk_at dksX0_drift_4 16 rfl rfl)
theorem dX0_drift_111 : decode cX0_drift 111 = .ok (.iconst 0, 1) := dk_3 (dk_at dksX0_drift_4 19 rfl rfl)
theorem dX0_drift_112 : decode cX0_drift 112 = .ok (.invokevirtual 157, 3) := dk_182 0 157 (dk_at dksX0_drift_4 20 rfl rfl)
theorem dX0_drift_115 : decode cX0_drift 115 = .ok (.iinc 5 1, 3) := dk_132 5 1 (dk_at dksX0_drift_5 0 rfl rfl)
theorem dX0_drift_118 : decode cX0_drift 118 = .ok (.goto (-67), 3) := dk_167 255 189 (dk_at dksX0_drift_5 3 rfl rfl)
theorem dX0_drift_121 : decode cX0_drift 121 = .ok (.iload_n 3, 1) := dk_29 (dk_at dksX0_drift_5 6 rfl rfl)
theorem dX0_drift_122 : decode cX0_drift 122 = .ok (.ifCond .ne 13, 3) := dk_154 0 13 (dk_at dksX0_drift_5 7 rfl rfl)
theorem dX0_drift_125 : decode cX0_drift 125 = .ok (.aload_n 0, 1) := dk_42 (dk_at dksX0_drift_5 10 rfl rfl)
theorem dX0_drift_126 : decode cX0_drift 126 = .ok (.getfield 161, 3) := dk_180 0 161 (dk_at dksX0_drift_5 11 rfl rfl)
theorem dX0_drift_129 : decode cX0_drift 129 = .ok (.getfield 154, 3) := dk_180 0 154 (dk_at dksX0_drift_5 14 rfl rfl)
theorem dX0_drift_132 : decode cX0_drift 132 = .ok (.goto 10, 3) := dk_167 0 10 (dk_at dksX0_drift_5 17 rfl rfl)
theorem dX0_drift_135 : decode cX0_drift 135 = .ok (.aload_n 0, 1) := dk_42 (dk_at dksX0_drift_5 20 rfl rfl)
theorem dX0_drift_136 : decode cX0_drift 136 = .ok (.getfield 161, 3) := dk_180 0 161 (dk_at dksX0_drift_5 21 rfl rfl)
theorem dX0_drift_139 : decode cX0_drift 139 = .ok (.invokevirtual 93, 3) := dk_182 0 93 (dk_at dksX0_drift_6 0 rfl rfl)
theorem dX0_drift_142 : decode cX0_drift 142 = .ok (.ireturn, 1) := dk_172 (dk_at dksX0_drift_6 3 rfl rfl)
abbrev cX0_keep : ByteArray := prog_1_method_50_code
def yX0_keep : MethodName := ⟨RX0, "keep", "(I)I"⟩
def dkwX0_keep_2 : List UInt8 := [181, 0, 55, 28, 172]
abbrev dktX0_keep_2 : List UInt8 := dkwX0_keep_2 ++ []
def dkwX0_keep_1 : List UInt8 := [4, 167, 0, 4, 3, 61, 42, 180, 0, 51, 27, 50, 182, 0, 237, 42, 180, 0, 51, 27, 50, 4]
abbrev dktX0_keep_1 : List UInt8 := dkwX0_keep_1 ++ dktX0_keep_2
def dkwX0_keep_0 : List UInt8 := [27, 133, 9, 10, 184, 0, 5, 154, 0, 5, 2, 172, 42, 180, 0, 51, 27, 50, 180, 0, 55, 153, 0, 7]
abbrev dktX0_keep_0 : List UInt8 := dkwX0_keep_0 ++ dktX0_keep_1
theorem dksX0_keep_0 : cX0_keep.data.toList.drop 0 = dktX0_keep_0 := by decide +kernel
theorem dksX0_keep_1 : cX0_keep.data.toList.drop 24 = dktX0_keep_1 := dk_seg dksX0_keep_0 24 rfl rfl
theorem dksX0_keep_2 : cX0_keep.data.toList.drop 46 = dktX0_keep_2 := dk_seg dksX0_keep_1 22 rfl rfl
theorem dX0_keep_0 : decode cX0_keep 0 = .ok (.iload_n 1, 1) := dk_27 (dk_at dksX0_keep_0 0 rfl rfl)
theorem dX0_keep_1 : decode cX0_keep 1 = .ok (.i2l, 1) := dk_133 (dk_at dksX0_keep_0 1 rfl rfl)
theorem dX0_keep_2 : decode cX0_keep 2 = .ok (.lconst 0, 1) := dk_9 (dk_at dksX0_keep_0 2 rfl rfl)
theorem dX0_keep_3 : decode cX0_keep 3 = .ok (.lconst 1, 1) := dk_10 (dk_at dksX0_keep_0 3 rfl rfl)
theorem dX0_keep_4 : decode cX0_keep 4 = .ok (.invokestatic 5, 3) := dk_184 0 5 (dk_at dksX0_keep_0 4 rfl rfl)
theorem dX0_keep_7 : decode cX0_keep 7 = .ok (.ifCond .ne 5, 3) := dk_154 0 5 (dk_at dksX0_keep_0 7 rfl rfl)
theorem dX0_keep_10 : decode cX0_keep 10 = .ok (.iconst (-1), 1) := dk_2 (dk_at dksX0_keep_0 10 rfl rfl)
theorem dX0_keep_11 : decode cX0_keep 11 = .ok (.ireturn, 1) := dk_172 (dk_at dksX0_keep_0 11 rfl rfl)
theorem dX0_keep_12 : decode cX0_keep 12 = .ok (.aload_n 0, 1) := dk_42 (dk_at dksX0_keep_0 12 rfl rfl)
theorem dX0_keep_13 : decode cX0_keep 13 = .ok (.getfield 51, 3) := dk_180 0 51 (dk_at dksX0_keep_0 13 rfl rfl)
theorem dX0_keep_16 : decode cX0_keep 16 = .ok (.iload_n 1, 1) := dk_27 (dk_at dksX0_keep_0 16 rfl rfl)
theorem dX0_keep_17 : decode cX0_keep 17 = .ok (.aaload, 1) := dk_50 (dk_at dksX0_keep_0 17 rfl rfl)
theorem dX0_keep_18 : decode cX0_keep 18 = .ok (.getfield 55, 3) := dk_180 0 55 (dk_at dksX0_keep_0 18 rfl rfl)
theorem dX0_keep_21 : decode cX0_keep 21 = .ok (.ifCond .eq 7, 3) := dk_153 0 7 (dk_at dksX0_keep_0 21 rfl rfl)
theorem dX0_keep_24 : decode cX0_keep 24 = .ok (.iconst 1, 1) := dk_4 (dk_at dksX0_keep_1 0 rfl rfl)
theorem dX0_keep_25 : decode cX0_keep 25 = .ok (.goto 4, 3) := dk_167 0 4 (dk_at dksX0_keep_1 1 rfl rfl)
theorem dX0_keep_28 : decode cX0_keep 28 = .ok (.iconst 0, 1) := dk_3 (dk_at dksX0_keep_1 4 rfl rfl)
theorem dX0_keep_29 : decode cX0_keep 29 = .ok (.istore_n 2, 1) := dk_61 (dk_at dksX0_keep_1 5 rfl rfl)
theorem dX0_keep_30 : decode cX0_keep 30 = .ok (.aload_n 0, 1) := dk_42 (dk_at dksX0_keep_1 6 rfl rfl)
theorem dX0_keep_31 : decode cX0_keep 31 = .ok (.getfield 51, 3) := dk_180 0 51 (dk_at dksX0_keep_1 7 rfl rfl)
theorem dX0_keep_34 : decode cX0_keep 34 = .ok (.iload_n 1, 1) := dk_27 (dk_at dksX0_keep_1 10 rfl rfl)
theorem dX0_keep_35 : decode cX0_keep 35 = .ok (.aaload, 1) := dk_50 (dk_at dksX0_keep_1 11 rfl rfl)
theorem dX0_keep_36 : decode cX0_keep 36 = .ok (.invokevirtual 237, 3) := dk_182 0 237 (dk_at dksX0_keep_1 12 rfl rfl)
theorem dX0_keep_39 : decode cX0_keep 39 = .ok (.aload_n 0, 1) := dk_42 (dk_at dksX0_keep_1 15 rfl rfl)
theorem dX0_keep_40 : decode cX0_keep 40 = .ok (.getfield 51, 3) := dk_180 0 51 (dk_at dksX0_keep_1 16 rfl rfl)
theorem dX0_keep_43 : decode cX0_keep 43 = .ok (.iload_n 1, 1) := dk_27 (dk_at dksX0_keep_1 19 rfl rfl)
theorem dX0_keep_44 : decode cX0_keep 44 = .ok (.aaload, 1) := dk_50 (dk_at dksX0_keep_1 20 rfl rfl)
theorem dX0_keep_45 : decode cX0_keep 45 = .ok (.iconst 1, 1) := dk_4 (dk_at dksX0_keep_1 21 rfl rfl)
theorem dX0_keep_46 : decode cX0_keep 46 = .ok (.putfield 55, 3) := dk_181 0 55 (dk_at dksX0_keep_2 0 rfl rfl)
theorem dX0_keep_49 : decode cX0_keep 49 = .ok (.iload_n 2, 1) := dk_28 (dk_at dksX0_keep_2 3 rfl rfl)
theorem dX0_keep_50 : decode cX0_keep 50 = .ok (.ireturn, 1) := dk_172 (dk_at dksX0_keep_2 4 rfl rfl)
abbrev cX0_copies : ByteArray := prog_1_method_49_code
def yX0_copies : MethodName := ⟨RX0, "copies", "([[I[[I)V"⟩
def dkwX0_copies_1 : List UInt8 := [132, 2, 1, 167, 255, 232, 177]
abbrev dktX0_copies_1 : List UInt8 := dkwX0_copies_1 ++ []
def dkwX0_copies_0 : List UInt8 := [3, 61, 28, 42, 190, 162, 0, 24, 42, 28, 50, 3, 43, 28, 50, 3, 42, 28, 50, 190, 184, 0, 19]
abbrev dktX0_copies_0 : List UInt8 := dkwX0_copies_0 ++ dktX0_copies_1
theorem dksX0_copies_0 : cX0_copies.data.toList.drop 0 = dktX0_copies_0 := by decide +kernel
theorem dksX0_copies_1 : cX0_copies.data.toList.drop 23 = dktX0_copies_1 := dk_seg dksX0_copies_0 23 rfl rfl
theorem dX0_copies_0 : decode cX0_copies 0 = .ok (.iconst 0, 1) := dk_3 (dk_at dksX0_copies_0 0 rfl rfl)
theorem dX0_copies_1 : decode cX0_copies 1 = .ok (.istore_n 2, 1) := dk_61 (dk_at dksX0_copies_0 1 rfl rfl)
theorem dX0_copies_2 : decode cX0_copies 2 = .ok (.iload_n 2, 1) := dk_28 (dk_at dksX0_copies_0 2 rfl rfl)
theorem dX0_copies_3 : decode cX0_copies 3 = .ok (.aload_n 0, 1) := dk_42 (dk_at dksX0_copies_0 3 rfl rfl)
theorem dX0_copies_4 : decode cX0_copies 4 = .ok (.arraylength, 1) := dk_190 (dk_at dksX0_copies_0 4 rfl rfl)
theorem dX0_copies_5 : decode cX0_copies 5 = .ok (.if_icmp .ge 24, 3) := dk_162 0 24 (dk_at dksX0_copies_0 5 rfl rfl)
theorem dX0_copies_8 : decode cX0_copies 8 = .ok (.aload_n 0, 1) := dk_42 (dk_at dksX0_copies_0 8 rfl rfl)
theorem dX0_copies_9 : decode cX0_copies 9 = .ok (.iload_n 2, 1) := dk_28 (dk_at dksX0_copies_0 9 rfl rfl)
theorem dX0_copies_10 : decode cX0_copies 10 = .ok (.aaload, 1) := dk_50 (dk_at dksX0_copies_0 10 rfl rfl)
theorem dX0_copies_11 : decode cX0_copies 11 = .ok (.iconst 0, 1) := dk_3 (dk_at dksX0_copies_0 11 rfl rfl)
theorem dX0_copies_12 : decode cX0_copies 12 = .ok (.aload_n 1, 1) := dk_43 (dk_at dksX0_copies_0 12 rfl rfl)
theorem dX0_copies_13 : decode cX0_copies 13 = .ok (.iload_n 2, 1) := dk_28 (dk_at dksX0_copies_0 13 rfl rfl)
theorem dX0_copies_14 : decode cX0_copies 14 = .ok (.aaload, 1) := dk_50 (dk_at dksX0_copies_0 14 rfl rfl)
theorem dX0_copies_15 : decode cX0_copies 15 = .ok (.iconst 0, 1) := dk_3 (dk_at dksX0_copies_0 15 rfl rfl)
theorem dX0_copies_16 : decode cX0_copies 16 = .ok (.aload_n 0, 1) := dk_42 (dk_at dksX0_copies_0 16 rfl rfl)
theorem dX0_copies_17 : decode cX0_copies 17 = .ok (.iload_n 2, 1) := dk_28 (dk_at dksX0_copies_0 17 rfl rfl)
theorem dX0_copies_18 : decode cX0_copies 18 = .ok (.aaload, 1) := dk_50 (dk_at dksX0_copies_0 18 rfl rfl)
theorem dX0_copies_19 : decode cX0_copies 19 = .ok (.arraylength, 1) := dk_190 (dk_at dksX0_copies_0 19 rfl rfl)
theorem dX0_copies_20 : decode cX0_copies 20 = .ok (.invokestatic 19, 3) := dk_184 0 19 (dk_at dksX0_copies_0 20 rfl rfl)
theorem dX0_copies_23 : decode cX0_copies 23 = .ok (.iinc 2 1, 3) := dk_132 2 1 (dk_at dksX0_copies_1 0 rfl rfl)
theorem dX0_copies_26 : decode cX0_copies 26 = .ok (.goto (-24), 3) := dk_167 255 232 (dk_at dksX0_copies_1 3 rfl rfl)
theorem dX0_copies_29 : decode cX0_copies 29 = .ok (.return_, 1) := dk_177 (dk_at dksX0_copies_1 6 rfl rfl)
abbrev cX0_back : ByteArray := prog_1_method_51_code
def yX0_back : MethodName := ⟨RX0, "back", "(I)I"⟩
def dkwX0_back_1 : List UInt8 := [16, 254, 172, 42, 180, 0, 51, 27, 50, 182, 0, 239, 42, 180, 0, 35, 180, 0, 83, 172]
abbrev dktX0_back_1 : List UInt8 := dkwX0_back_1 ++ []
def dkwX0_back_0 : List UInt8 := [27, 133, 9, 10, 184, 0, 5, 154, 0, 5, 2, 172, 42, 180, 0, 51, 27, 50, 180, 0, 55, 154, 0, 6]
abbrev dktX0_back_0 : List UInt8 := dkwX0_back_0 ++ dktX0_back_1
theorem dksX0_back_0 : cX0_back.data.toList.drop 0 = dktX0_back_0 := by decide +kernel
theorem dksX0_back_1 : cX0_back.data.toList.drop 24 = dktX0_back_1 := dk_seg dksX0_back_0 24 rfl rfl
theorem dX0_back_0 : decode cX0_back 0 = .ok (.iload_n 1, 1) := dk_27 (dk_at dksX0_back_0 0 rfl rfl)
theorem dX0_back_1 : decode cX0_back 1 = .ok (.i2l, 1) := dk_133 (dk_at dksX0_back_0 1 rfl rfl)
theorem dX0_back_2 : decode cX0_back 2 = .ok (.lconst 0, 1) := dk_9 (dk_at dksX0_back_0 2 rfl rfl)
theorem dX0_back_3 : decode cX0_back 3 = .ok (.lconst 1, 1) := dk_10 (dk_at dksX0_back_0 3 rfl rfl)
theorem dX0_back_4 : decode cX0_back 4 = .ok (.invokestatic 5, 3) := dk_184 0 5 (dk_at dksX0_back_0 4 rfl rfl)
theorem dX0_back_7 : decode cX0_back 7 = .ok (.ifCond .ne 5, 3) := dk_154 0 5 (dk_at dksX0_back_0 7 rfl rfl)
theorem dX0_back_10 : decode cX0_back 10 = .ok (.iconst (-1), 1) := dk_2 (dk_at dksX0_back_0 10 rfl rfl)
theorem dX0_back_11 : decode cX0_back 11 = .ok (.ireturn, 1) := dk_172 (dk_at dksX0_back_0 11 rfl rfl)
theorem dX0_back_12 : decode cX0_back 12 = .ok (.aload_n 0, 1) := dk_42 (dk_at dksX0_back_0 12 rfl rfl)
theorem dX0_back_13 : decode cX0_back 13 = .ok (.getfield 51, 3) := dk_180 0 51 (dk_at dksX0_back_0 13 rfl rfl)
theorem dX0_back_16 : decode cX0_back 16 = .ok (.iload_n 1, 1) := dk_27 (dk_at dksX0_back_0 16 rfl rfl)
theorem dX0_back_17 : decode cX0_back 17 = .ok (.aaload, 1) := dk_50 (dk_at dksX0_back_0 17 rfl rfl)
theorem dX0_back_18 : decode cX0_back 18 = .ok (.getfield 55, 3) := dk_180 0 55 (dk_at dksX0_back_0 18 rfl rfl)
theorem dX0_back_21 : decode cX0_back 21 = .ok (.ifCond .ne 6, 3) := dk_154 0 6 (dk_at dksX0_back_0 21 rfl rfl)
theorem dX0_back_24 : decode cX0_back 24 = .ok (.bipush (-2), 2) := dk_16 254 (dk_at dksX0_back_1 0 rfl rfl)
theorem dX0_back_26 : decode cX0_back 26 = .ok (.ireturn, 1) := dk_172 (dk_at dksX0_back_1 2 rfl rfl)
theorem dX0_back_27 : decode cX0_back 27 = .ok (.aload_n 0, 1) := dk_42 (dk_at dksX0_back_1 3 rfl rfl)
theorem dX0_back_28 : decode cX0_back 28 = .ok (.getfield 51, 3) := dk_180 0 51 (dk_at dksX0_back_1 4 rfl rfl)
theorem dX0_back_31 : decode cX0_back 31 = .ok (.iload_n 1, 1) := dk_27 (dk_at dksX0_back_1 7 rfl rfl)
theorem dX0_back_32 : decode cX0_back 32 = .ok (.aaload, 1) := dk_50 (dk_at dksX0_back_1 8 rfl rfl)
theorem dX0_back_33 : decode cX0_back 33 = .ok (.invokevirtual 239, 3) := dk_182 0 239 (dk_at dksX0_back_1 9 rfl rfl)
theorem dX0_back_36 : decode cX0_back 36 = .ok (.aload_n 0, 1) := dk_42 (dk_at dksX0_back_1 12 rfl rfl)
theorem dX0_back_37 : decode cX0_back 37 = .ok (.getfield 35, 3) := dk_180 0 35 (dk_at dksX0_back_1 13 rfl rfl)
theorem dX0_back_40 : decode cX0_back 40 = .ok (.getfield 83, 3) := dk_180 0 83 (dk_at dksX0_back_1 16 rfl rfl)
theorem dX0_back_43 : decode cX0_back 43 = .ok (.ireturn, 1) := dk_172 (dk_at dksX0_back_1 19 rfl rfl)
abbrev cX0_init : ByteArray := prog_1_method_52_code
def yX0_init : MethodName := ⟨RX0, "<init>", "()V"⟩
def dkwX0_init_6 : List UInt8 := [183, 1, 0, 83, 89, 6, 187, 0, 254, 89, 183, 1, 0, 83, 181, 1, 1, 177]
abbrev dktX0_init_6 : List UInt8 := dkwX0_init_6 ++ []
def dkwX0_init_5 : List UInt8 := [187, 0, 254, 89, 183, 1, 0, 83, 89, 4, 187, 0, 254, 89, 183, 1, 0, 83, 89, 5, 187, 0, 254, 89]
abbrev dktX0_init_5 : List UInt8 := dkwX0_init_5 ++ dktX0_init_6
def dkwX0_init_4 : List UInt8 := [83, 181, 0, 51, 42, 187, 0, 43, 89, 183, 0, 246, 181, 0, 251, 42, 7, 189, 0, 254, 89, 3]
abbrev dktX0_init_4 : List UInt8 := dkwX0_init_4 ++ dktX0_init_5
def dkwX0_init_3 : List UInt8 := [189, 0, 56, 89, 3, 187, 0, 56, 89, 42, 183, 0, 248, 83, 89, 4, 187, 0, 56, 89, 42, 183, 0, 248]
abbrev dktX0_init_3 : List UInt8 := dkwX0_init_3 ++ dktX0_init_4
def dkwX0_init_2 : List UInt8 := [16, 6, 6, 197, 0, 247, 2, 181, 0, 219, 42, 16, 6, 16, 21, 197, 0, 247, 2, 181, 0, 222, 42, 5]
abbrev dktX0_init_2 : List UInt8 := dkwX0_init_2 ++ dktX0_init_3
def dkwX0_init_1 : List UInt8 := [42, 187, 0, 43, 89, 183, 0, 246, 181, 0, 161, 42, 187, 0, 43, 89, 183, 0, 246, 181, 0, 180, 42]
abbrev dktX0_init_1 : List UInt8 := dkwX0_init_1 ++ dktX0_init_2
def dkwX0_init_0 : List UInt8 := [42, 183, 0, 242, 42, 17, 0, 160, 188, 8, 181, 0, 15, 42, 187, 0, 43, 89, 183, 0, 246, 181, 0, 35]
abbrev dktX0_init_0 : List UInt8 := dkwX0_init_0 ++ dktX0_init_1
theorem dksX0_init_0 : cX0_init.data.toList.drop 0 = dktX0_init_0 := by decide +kernel
theorem dksX0_init_1 : cX0_init.data.toList.drop 24 = dktX0_init_1 := dk_seg dksX0_init_0 24 rfl rfl
theorem dksX0_init_2 : cX0_init.data.toList.drop 47 = dktX0_init_2 := dk_seg dksX0_init_1 23 rfl rfl
theorem dksX0_init_3 : cX0_init.data.toList.drop 71 = dktX0_init_3 := dk_seg dksX0_init_2 24 rfl rfl
theorem dksX0_init_4 : cX0_init.data.toList.drop 95 = dktX0_init_4 := dk_seg dksX0_init_3 24 rfl rfl
theorem dksX0_init_5 : cX0_init.data.toList.drop 117 = dktX0_init_5 := dk_seg dksX0_init_4 22 rfl rfl
theorem dksX0_init_6 : cX0_init.data.toList.drop 141 = dktX0_init_6 := dk_seg dksX0_init_5 24 rfl rfl
theorem dX0_init_0 : decode cX0_init 0 = .ok (.aload_n 0, 1) := dk_42 (dk_at dksX0_init_0 0 rfl rfl)
theorem dX0_init_1 : decode cX0_init 1 = .ok (.invokespecial 242, 3) := dk_183 0 242 (dk_at dksX0_init_0 1 rfl rfl)
theorem dX0_init_4 : decode cX0_init 4 = .ok (.aload_n 0, 1) := dk_42 (dk_at dksX0_init_0 4 rfl rfl)
theorem dX0_init_5 : decode cX0_init 5 = .ok (.sipush 160, 3) := dk_17 0 160 (dk_at dksX0_init_0 5 rfl rfl)
theorem dX0_init_8 : decode cX0_init 8 = .ok (.newarray .byte, 2) := dk_188_8 (dk_at dksX0_init_0 8 rfl rfl)
theorem dX0_init_10 : decode cX0_init 10 = .ok (.putfield 15, 3) := dk_181 0 15 (dk_at dksX0_init_0 10 rfl rfl)
theorem dX0_init_13 : decode cX0_init 13 = .ok (.aload_n 0, 1) := dk_42 (dk_at dksX0_init_0 13 rfl rfl)
theorem dX0_init_14 : decode cX0_init 14 = .ok (.new 43, 3) := dk_187 0 43 (dk_at dksX0_init_0 14 rfl rfl)
theorem dX0_init_17 : decode cX0_init 17 = .ok (.dup, 1) := dk_89 (dk_at dksX0_init_0 17 rfl rfl)
theorem dX0_init_18 : decode cX0_init 18 = .ok (.invokespecial 246, 3) := dk_183 0 246 (dk_at dksX0_init_0 18 rfl rfl)
theorem dX0_init_21 : decode cX0_init 21 = .ok (.putfield 35, 3) := dk_181 0 35 (dk_at dksX0_init_0 21 rfl rfl)
theorem dX0_init_24 : decode cX0_init 24 = .ok (.aload_n 0, 1) := dk_42 (dk_at dksX0_init_1 0 rfl rfl)
theorem dX0_init_25 : decode cX0_init 25 = .ok (.new 43, 3) := dk_187 0 43 (dk_at dksX0_init_1 1 rfl rfl)
theorem dX0_init_28 : decode cX0_init 28 = .ok (.dup, 1) := dk_89 (dk_at dksX0_init_1 4 rfl rfl)
theorem dX0_init_29 : decode cX0_init 29 = .ok (.invokespecial 246, 3) := dk_183 0 246 (dk_at dksX0_init_1 5 rfl rfl)
theorem dX0_init_32 : decode cX0_init 32 = .ok (.putfield 161, 3) := dk_181 0 161 (dk_at dksX0_init_1 8 rfl rfl)
theorem dX0_init_35 : decode cX0_init 35 = .ok (.aload_n 0, 1) := dk_42 (dk_at dksX0_init_1 11 rfl rfl)
theorem dX0_init_36 : decode cX0_init 36 = .ok (.new 43, 3) := dk_187 0 43 (dk_at dksX0_init_1 12 rfl rfl)
theorem dX0_init_39 : decode cX0_init 39 = .ok (.dup, 1) := dk_89 (dk_at dksX0_init_1 15 rfl rfl)
theorem dX0_init_40 : decode cX0_init 40 = .ok (.invokespecial 246, 3) := dk_183 0 246 (dk_at dksX0_init_1 16 rfl rfl)
theorem dX0_init_43 : decode cX0_init 43 = .ok (.putfield 180, 3) := dk_181 0 180 (dk_at dksX0_init_1 19 rfl rfl)
theorem dX0_init_46 : decode cX0_init 46 = .ok (.aload_n 0, 1) := dk_42 (dk_at dksX0_init_1 22 rfl rfl)
theorem dX0_init_47 : decode cX0_init 47 = .ok (.bipush 6, 2) := dk_16 6 (dk_at dksX0_init_2 0 rfl rfl)
theorem dX0_init_49 : decode cX0_init 49 = .ok (.iconst 3, 1) := dk_6 (dk_at dksX0_init_2 2 rfl rfl)
theorem dX0_init_50 : decode cX0_init 50 = .ok (.multianewarray 247 2, 4) := by decide +kernel
theorem dX0_init_54 : decode cX0_init 54 = .ok (.putfield 219, 3) := dk_181 0 219 (dk_at dksX0_init_2 7 rfl rfl)
theorem dX0_init_57 : decode cX0_init 57 = .ok (.aload_n 0, 1) := dk_42 (dk_at dksX0_init_2 10 rfl rfl)
theorem dX0_init_58 : decode cX0_init 58 = .ok (.bipush 6, 2) := dk_16 6 (dk_at dksX0_init_2 11 rfl rfl)
theorem dX0_init_60 : decode cX0_init 60 = .ok (.bipush 21, 2) := dk_16 21 (dk_at dksX0_init_2 13 rfl rfl)
theorem dX0_init_62 : decode cX0_init 62 = .ok (.multianewarray 247 2, 4) := by decide +kernel
theorem dX0_init_66 : decode cX0_init 66 = .ok (.putfield 222, 3) := dk_181 0 222 (dk_at dksX0_init_2 19 rfl rfl)
theorem dX0_init_69 : decode cX0_init 69 = .ok (.aload_n 0, 1) := dk_42 (dk_at dksX0_init_2 22 rfl rfl)
theorem dX0_init_70 : decode cX0_init 70 = .ok (.iconst 2, 1) := dk_5 (dk_at dksX0_init_2 23 rfl rfl)
theorem dX0_init_71 : decode cX0_init 71 = .ok (.anewarray 56, 3) := dk_189 0 56 (dk_at dksX0_init_3 0 rfl rfl)
theorem dX0_init_74 : decode cX0_init 74 = .ok (.dup, 1) := dk_89 (dk_at dksX0_init_3 3 rfl rfl)
theorem dX0_init_75 : decode cX0_init 75 = .ok (.iconst 0, 1) := dk_3 (dk_at dksX0_init_3 4 rfl rfl)
theorem dX0_init_76 : decode cX0_init 76 = .ok (.new 56, 3) := dk_187 0 56 (dk_at dksX0_init_3 5 rfl rfl)
theorem dX0_init_79 : decode cX0_init 79 = .ok (.dup, 1) := dk_89 (dk_at dksX0_init_3 8 rfl rfl)
theorem dX0_init_80 : decode cX0_init 80 = .ok (.aload_n 0, 1) := dk_42 (dk_at dksX0_init_3 9 rfl rfl)
theorem dX0_init_81 : decode cX0_init 81 = .ok (.invokespecial 248, 3) := dk_183 0 248 (dk_at dksX0_init_3 10 rfl rfl)
theorem dX0_init_84 : decode cX0_init 84 = .ok (.aastore, 1) := dk_83 (dk_at dksX0_init_3 13 rfl rfl)
theorem dX0_init_85 : decode cX0_init 85 = .ok (.dup, 1) := dk_89 (dk_at dksX0_init_3 14 rfl rfl)
theorem dX0_init_86 : decode cX0_init 86 = .ok (.iconst 1, 1) := dk_4 (dk_at dksX0_init_3 15 rfl rfl)
theorem dX0_init_87 : decode cX0_init 87 = .ok (.new 56, 3) := dk_187 0 56 (dk_at dksX0_init_3 16 rfl rfl)
theorem dX0_init_90 : decode cX0_init 90 = .ok (.dup, 1) := dk_89 (dk_at dksX0_init_3 19 rfl rfl)
theorem dX0_init_91 : decode cX0_init 91 = .ok (.aload_n 0, 1) := dk_42 (dk_at dksX0_init_3 20 rfl rfl)
theorem dX0_init_92 : decode cX0_init 92 = .ok (.invokespecial 248, 3) := dk_183 0 248 (dk_at dksX0_init_3 21 rfl rfl)
theorem dX0_init_95 : decode cX0_init 95 = .ok (.aastore, 1) := dk_83 (dk_at dksX0_init_4 0 rfl rfl)
theorem dX0_init_96 : decode cX0_init 96 = .ok (.putfield 51, 3) := dk_181 0 51 (dk_at dksX0_init_4 1 rfl rfl)
theorem dX0_init_99 : decode cX0_init 99 = .ok (.aload_n 0, 1) := dk_42 (dk_at dksX0_init_4 4 rfl rfl)
theorem dX0_init_100 : decode cX0_init 100 = .ok (.new 43, 3) := dk_187 0 43 (dk_at dksX0_init_4 5 rfl rfl)
theorem dX0_init_103 : decode cX0_init 103 = .ok (.dup, 1) := dk_89 (dk_at dksX0_init_4 8 rfl rfl)
theorem dX0_init_104 : decode cX0_init 104 = .ok (.invokespecial 246, 3) := dk_183 0 246 (dk_at dksX0_init_4 9 rfl rfl)
theorem dX0_init_107 : decode cX0_init 107 = .ok (.putfield 251, 3) := dk_181 0 251 (dk_at dksX0_init_4 12 rfl rfl)
theorem dX0_init_110 : decode cX0_init 110 = .ok (.aload_n 0, 1) := dk_42 (dk_at dksX0_init_4 15 rfl rfl)
theorem dX0_init_111 : decode cX0_init 111 = .ok (.iconst 4, 1) := dk_7 (dk_at dksX0_init_4 16 rfl rfl)
theorem dX0_init_112 : decode cX0_init 112 = .ok (.anewarray 254, 3) := dk_189 0 254 (dk_at dksX0_init_4 17 rfl rfl)
theorem dX0_init_115 : decode cX0_init 115 = .ok (.dup, 1) := dk_89 (dk_at dksX0_init_4 20 rfl rfl)
theorem dX0_init_116 : decode cX0_init 116 = .ok (.iconst 0, 1) := dk_3 (dk_at dksX0_init_4 21 rfl rfl)
theorem dX0_init_117 : decode cX0_init 117 = .ok (.new 254, 3) := dk_187 0 254 (dk_at dksX0_init_5 0 rfl rfl)
theorem dX0_init_120 : decode cX0_init 120 = .ok (.dup, 1) := dk_89 (dk_at dksX0_init_5 3 rfl rfl)
theorem dX0_init_121 : decode cX0_init 121 = .ok (.invokespecial 256, 3) := dk_183 1 0 (dk_at dksX0_init_5 4 rfl rfl)
theorem dX0_init_124 : decode cX0_init 124 = .ok (.aastore, 1) := dk_83 (dk_at dksX0_init_5 7 rfl rfl)
theorem dX0_init_125 : decode cX0_init 125 = .ok (.dup, 1) := dk_89 (dk_at dksX0_init_5 8 rfl rfl)
theorem dX0_init_126 : decode cX0_init 126 = .ok (.iconst 1, 1) := dk_4 (dk_at dksX0_init_5 9 rfl rfl)
theorem dX0_init_127 : decode cX0_init 127 = .ok (.new 254, 3) := dk_187 0 254 (dk_at dksX0_init_5 10 rfl rfl)
theorem dX0_init_130 : decode cX0_init 130 = .ok (.dup, 1) := dk_89 (dk_at dksX0_init_5 13 rfl rfl)
theorem dX0_init_131 : decode cX0_init 131 = .ok (.invokespecial 256, 3) := dk_183 1 0 (dk_at dksX0_init_5 14 rfl rfl)
theorem dX0_init_134 : decode cX0_init 134 = .ok (.aastore, 1) := dk_83 (dk_at dksX0_init_5 17 rfl rfl)
theorem dX0_init_135 : decode cX0_init 135 = .ok (.dup, 1) := dk_89 (dk_at dksX0_init_5 18 rfl rfl)
theorem dX0_init_136 : decode cX0_init 136 = .ok (.iconst 2, 1) := dk_5 (dk_at dksX0_init_5 19 rfl rfl)
theorem dX0_init_137 : decode cX0_init 137 = .ok (.new 254, 3) := dk_187 0 254 (dk_at dksX0_init_5 20 rfl rfl)
theorem dX0_init_140 : decode cX0_init 140 = .ok (.dup, 1) := dk_89 (dk_at dksX0_init_5 23 rfl rfl)
theorem dX0_init_141 : decode cX0_init 141 = .ok (.invokespecial 256, 3) := dk_183 1 0 (dk_at dksX0_init_6 0 rfl rfl)
theorem dX0_init_144 : decode cX0_init 144 = .ok (.aastore, 1) := dk_83 (dk_at dksX0_init_6 3 rfl rfl)
theorem dX0_init_145 : decode cX0_init 145 = .ok (.dup, 1) := dk_89 (dk_at dksX0_init_6 4 rfl rfl)
theorem dX0_init_146 : decode cX0_init 146 = .ok (.iconst 3, 1) := dk_6 (dk_at dksX0_init_6 5 rfl rfl)
theorem dX0_init_147 : decode cX0_init 147 = .ok (.new 254, 3) := dk_187 0 254 (dk_at dksX0_init_6 6 rfl rfl)
theorem dX0_init_150 : decode cX0_init 150 = .ok (.dup, 1) := dk_89 (dk_at dksX0_init_6 9 rfl rfl)
theorem dX0_init_151 : decode cX0_init 151 = .ok (.invokespecial 256, 3) := dk_183 1 0 (dk_at dksX0_init_6 10 rfl rfl)
theorem dX0_init_154 : decode cX0_init 154 = .ok (.aastore, 1) := dk_83 (dk_at dksX0_init_6 13 rfl rfl)
theorem dX0_init_155 : decode cX0_init 155 = .ok (.putfield 257, 3) := dk_181 1 1 (dk_at dksX0_init_6 14 rfl rfl)
theorem dX0_init_158 : decode cX0_init 158 = .ok (.return_, 1) := dk_177 (dk_at dksX0_init_6 17 rfl rfl)
abbrev cX0_sheet : ByteArray := prog_1_method_54_code
def yX0_sheet : MethodName := ⟨RX0, "sheet", "(III)I"⟩
def dkwX0_sheet_2 : List UInt8 := [180, 1, 1, 27, 50, 29, 181, 1, 15, 4, 172, 58, 4, 16, 242, 172]
abbrev dktX0_sheet_2 : List UInt8 := dkwX0_sheet_2 ++ []
def dkwX0_sheet_1 : List UInt8 := [29, 16, 40, 164, 0, 5, 2, 172, 42, 180, 1, 1, 27, 50, 28, 29, 184, 1, 7, 181, 1, 11, 42]
abbrev dktX0_sheet_1 : List UInt8 := dkwX0_sheet_1 ++ dktX0_sheet_2
def dkwX0_sheet_0 : List UInt8 := [27, 133, 9, 20, 0, 100, 184, 0, 5, 153, 0, 21, 28, 133, 9, 20, 1, 5, 184, 0, 5, 153, 0, 9]
abbrev dktX0_sheet_0 : List UInt8 := dkwX0_sheet_0 ++ dktX0_sheet_1
theorem dksX0_sheet_0 : cX0_sheet.data.toList.drop 0 = dktX0_sheet_0 := by decide +kernel
theorem dksX0_sheet_1 : cX0_sheet.data.toList.drop 24 = dktX0_sheet_1 := dk_seg dksX0_sheet_0 24 rfl rfl
theorem dksX0_sheet_2 : cX0_sheet.data.toList.drop 47 = dktX0_sheet_2 := dk_seg dksX0_sheet_1 23 rfl rfl
theorem dX0_sheet_0 : decode cX0_sheet 0 = .ok (.iload_n 1, 1) := dk_27 (dk_at dksX0_sheet_0 0 rfl rfl)
theorem dX0_sheet_1 : decode cX0_sheet 1 = .ok (.i2l, 1) := dk_133 (dk_at dksX0_sheet_0 1 rfl rfl)
theorem dX0_sheet_2 : decode cX0_sheet 2 = .ok (.lconst 0, 1) := dk_9 (dk_at dksX0_sheet_0 2 rfl rfl)
theorem dX0_sheet_3 : decode cX0_sheet 3 = .ok (.ldc2_w 100, 3) := dk_20 0 100 (dk_at dksX0_sheet_0 3 rfl rfl)
theorem dX0_sheet_6 : decode cX0_sheet 6 = .ok (.invokestatic 5, 3) := dk_184 0 5 (dk_at dksX0_sheet_0 6 rfl rfl)
theorem dX0_sheet_9 : decode cX0_sheet 9 = .ok (.ifCond .eq 21, 3) := dk_153 0 21 (dk_at dksX0_sheet_0 9 rfl rfl)
theorem dX0_sheet_12 : decode cX0_sheet 12 = .ok (.iload_n 2, 1) := dk_28 (dk_at dksX0_sheet_0 12 rfl rfl)
theorem dX0_sheet_13 : decode cX0_sheet 13 = .ok (.i2l, 1) := dk_133 (dk_at dksX0_sheet_0 13 rfl rfl)
theorem dX0_sheet_14 : decode cX0_sheet 14 = .ok (.lconst 0, 1) := dk_9 (dk_at dksX0_sheet_0 14 rfl rfl)
theorem dX0_sheet_15 : decode cX0_sheet 15 = .ok (.ldc2_w 261, 3) := dk_20 1 5 (dk_at dksX0_sheet_0 15 rfl rfl)
theorem dX0_sheet_18 : decode cX0_sheet 18 = .ok (.invokestatic 5, 3) := dk_184 0 5 (dk_at dksX0_sheet_0 18 rfl rfl)
theorem dX0_sheet_21 : decode cX0_sheet 21 = .ok (.ifCond .eq 9, 3) := dk_153 0 9 (dk_at dksX0_sheet_0 21 rfl rfl)
theorem dX0_sheet_24 : decode cX0_sheet 24 = .ok (.iload_n 3, 1) := dk_29 (dk_at dksX0_sheet_1 0 rfl rfl)
theorem dX0_sheet_25 : decode cX0_sheet 25 = .ok (.bipush 40, 2) := dk_16 40 (dk_at dksX0_sheet_1 1 rfl rfl)
theorem dX0_sheet_27 : decode cX0_sheet 27 = .ok (.if_icmp .le 5, 3) := dk_164 0 5 (dk_at dksX0_sheet_1 3 rfl rfl)
theorem dX0_sheet_30 : decode cX0_sheet 30 = .ok (.iconst (-1), 1) := dk_2 (dk_at dksX0_sheet_1 6 rfl rfl)
theorem dX0_sheet_31 : decode cX0_sheet 31 = .ok (.ireturn, 1) := dk_172 (dk_at dksX0_sheet_1 7 rfl rfl)
theorem dX0_sheet_32 : decode cX0_sheet 32 = .ok (.aload_n 0, 1) := dk_42 (dk_at dksX0_sheet_1 8 rfl rfl)
theorem dX0_sheet_33 : decode cX0_sheet 33 = .ok (.getfield 257, 3) := dk_180 1 1 (dk_at dksX0_sheet_1 9 rfl rfl)
theorem dX0_sheet_36 : decode cX0_sheet 36 = .ok (.iload_n 1, 1) := dk_27 (dk_at dksX0_sheet_1 12 rfl rfl)
theorem dX0_sheet_37 : decode cX0_sheet 37 = .ok (.aaload, 1) := dk_50 (dk_at dksX0_sheet_1 13 rfl rfl)
theorem dX0_sheet_38 : decode cX0_sheet 38 = .ok (.iload_n 2, 1) := dk_28 (dk_at dksX0_sheet_1 14 rfl rfl)
theorem dX0_sheet_39 : decode cX0_sheet 39 = .ok (.iload_n 3, 1) := dk_29 (dk_at dksX0_sheet_1 15 rfl rfl)
theorem dX0_sheet_40 : decode cX0_sheet 40 = .ok (.invokestatic 263, 3) := dk_184 1 7 (dk_at dksX0_sheet_1 16 rfl rfl)
theorem dX0_sheet_43 : decode cX0_sheet 43 = .ok (.putfield 267, 3) := dk_181 1 11 (dk_at dksX0_sheet_1 19 rfl rfl)
theorem dX0_sheet_46 : decode cX0_sheet 46 = .ok (.aload_n 0, 1) := dk_42 (dk_at dksX0_sheet_1 22 rfl rfl)
theorem dX0_sheet_47 : decode cX0_sheet 47 = .ok (.getfield 257, 3) := dk_180 1 1 (dk_at dksX0_sheet_2 0 rfl rfl)
theorem dX0_sheet_50 : decode cX0_sheet 50 = .ok (.iload_n 1, 1) := dk_27 (dk_at dksX0_sheet_2 3 rfl rfl)
theorem dX0_sheet_51 : decode cX0_sheet 51 = .ok (.aaload, 1) := dk_50 (dk_at dksX0_sheet_2 4 rfl rfl)
theorem dX0_sheet_52 : decode cX0_sheet 52 = .ok (.iload_n 3, 1) := dk_29 (dk_at dksX0_sheet_2 5 rfl rfl)
theorem dX0_sheet_53 : decode cX0_sheet 53 = .ok (.putfield 271, 3) := dk_181 1 15 (dk_at dksX0_sheet_2 6 rfl rfl)
theorem dX0_sheet_56 : decode cX0_sheet 56 = .ok (.iconst 1, 1) := dk_4 (dk_at dksX0_sheet_2 9 rfl rfl)
theorem dX0_sheet_57 : decode cX0_sheet 57 = .ok (.ireturn, 1) := dk_172 (dk_at dksX0_sheet_2 10 rfl rfl)
theorem dX0_sheet_58 : decode cX0_sheet 58 = .ok (.astore 4, 2) := dk_58 4 (dk_at dksX0_sheet_2 11 rfl rfl)
theorem dX0_sheet_60 : decode cX0_sheet 60 = .ok (.bipush (-14), 2) := dk_16 242 (dk_at dksX0_sheet_2 13 rfl rfl)
theorem dX0_sheet_62 : decode cX0_sheet 62 = .ok (.ireturn, 1) := dk_172 (dk_at dksX0_sheet_2 15 rfl rfl)
abbrev cX0_newRow : ByteArray := prog_1_method_53_code
def yX0_newRow : MethodName := ⟨RX0, "newRow", "(II)Ljava/lang/Object;"⟩
def dkwX0_newRow_2 : List UInt8 := [27, 188, 8, 176, 27, 188, 9, 176, 27, 188, 10, 176]
abbrev dktX0_newRow_2 : List UInt8 := dkwX0_newRow_2 ++ []
def dkwX0_newRow_1 : List UInt8 := [171, 0, 0, 0, 0, 0, 35, 0, 0, 0, 2, 0, 0, 0, 0, 0, 0, 0, 27, 0, 0, 0, 1, 0, 0, 0, 31]
abbrev dktX0_newRow_1 : List UInt8 := dkwX0_newRow_1 ++ dktX0_newRow_2
def dkwX0_newRow_0 : List UInt8 := [26]
abbrev dktX0_newRow_0 : List UInt8 := dkwX0_newRow_0 ++ dktX0_newRow_1
theorem dksX0_newRow_0 : cX0_newRow.data.toList.drop 0 = dktX0_newRow_0 := by decide +kernel
theorem dksX0_newRow_1 : cX0_newRow.data.toList.drop 1 = dktX0_newRow_1 := dk_seg dksX0_newRow_0 1 rfl rfl
theorem dksX0_newRow_2 : cX0_newRow.data.toList.drop 28 = dktX0_newRow_2 := dk_seg dksX0_newRow_1 27 rfl rfl
theorem dX0_newRow_0 : decode cX0_newRow 0 = .ok (.iload_n 0, 1) := dk_26 (dk_at dksX0_newRow_0 0 rfl rfl)
theorem dX0_newRow_1 : decode cX0_newRow 1 = .ok (.lookupswitch 35 #[(0, 27), (1, 31)], 27) := by decide +kernel
theorem dX0_newRow_28 : decode cX0_newRow 28 = .ok (.iload_n 1, 1) := dk_27 (dk_at dksX0_newRow_2 0 rfl rfl)
theorem dX0_newRow_29 : decode cX0_newRow 29 = .ok (.newarray .byte, 2) := dk_188_8 (dk_at dksX0_newRow_2 1 rfl rfl)
theorem dX0_newRow_31 : decode cX0_newRow 31 = .ok (.areturn, 1) := dk_176 (dk_at dksX0_newRow_2 3 rfl rfl)
theorem dX0_newRow_32 : decode cX0_newRow 32 = .ok (.iload_n 1, 1) := dk_27 (dk_at dksX0_newRow_2 4 rfl rfl)
theorem dX0_newRow_33 : decode cX0_newRow 33 = .ok (.newarray .short, 2) := dk_188_9 (dk_at dksX0_newRow_2 5 rfl rfl)
theorem dX0_newRow_35 : decode cX0_newRow 35 = .ok (.areturn, 1) := dk_176 (dk_at dksX0_newRow_2 7 rfl rfl)
theorem dX0_newRow_36 : decode cX0_newRow 36 = .ok (.iload_n 1, 1) := dk_27 (dk_at dksX0_newRow_2 8 rfl rfl)
theorem dX0_newRow_37 : decode cX0_newRow 37 = .ok (.newarray .int, 2) := dk_188_10 (dk_at dksX0_newRow_2 9 rfl rfl)
theorem dX0_newRow_39 : decode cX0_newRow 39 = .ok (.areturn, 1) := dk_176 (dk_at dksX0_newRow_2 11 rfl rfl)
abbrev cX0_lay : ByteArray := prog_1_method_55_code
def yX0_lay : MethodName := ⟨RX0, "lay", "(III)I"⟩
def dkwX0_lay_3 : List UInt8 := [29, 79, 4, 172, 58, 5, 16, 245, 172, 58, 5, 16, 244, 172]
abbrev dktX0_lay_3 : List UInt8 := dkwX0_lay_3 ++ []
def dkwX0_lay_2 : List UInt8 := [193, 1, 21, 153, 0, 15, 25, 4, 192, 1, 21, 28, 29, 147, 86, 167, 0, 11, 25, 4, 192, 1, 23, 28]
abbrev dktX0_lay_2 : List UInt8 := dkwX0_lay_2 ++ dktX0_lay_3
def dkwX0_lay_1 : List UInt8 := [58, 4, 25, 4, 193, 1, 20, 153, 0, 15, 25, 4, 192, 1, 20, 28, 29, 145, 84, 167, 0, 31, 25, 4]
abbrev dktX0_lay_1 : List UInt8 := dkwX0_lay_1 ++ dktX0_lay_2
def dkwX0_lay_0 : List UInt8 := [27, 133, 9, 20, 0, 100, 184, 0, 5, 154, 0, 5, 2, 172, 42, 180, 1, 1, 27, 50, 180, 1, 11]
abbrev dktX0_lay_0 : List UInt8 := dkwX0_lay_0 ++ dktX0_lay_1
theorem dksX0_lay_0 : cX0_lay.data.toList.drop 0 = dktX0_lay_0 := by decide +kernel
theorem dksX0_lay_1 : cX0_lay.data.toList.drop 23 = dktX0_lay_1 := dk_seg dksX0_lay_0 23 rfl rfl
theorem dksX0_lay_2 : cX0_lay.data.toList.drop 47 = dktX0_lay_2 := dk_seg dksX0_lay_1 24 rfl rfl
theorem dksX0_lay_3 : cX0_lay.data.toList.drop 71 = dktX0_lay_3 := dk_seg dksX0_lay_2 24 rfl rfl
theorem dX0_lay_0 : decode cX0_lay 0 = .ok (.iload_n 1, 1) := dk_27 (dk_at dksX0_lay_0 0 rfl rfl)
theorem dX0_lay_1 : decode cX0_lay 1 = .ok (.i2l, 1) := dk_133 (dk_at dksX0_lay_0 1 rfl rfl)
theorem dX0_lay_2 : decode cX0_lay 2 = .ok (.lconst 0, 1) := dk_9 (dk_at dksX0_lay_0 2 rfl rfl)
theorem dX0_lay_3 : decode cX0_lay 3 = .ok (.ldc2_w 100, 3) := dk_20 0 100 (dk_at dksX0_lay_0 3 rfl rfl)
theorem dX0_lay_6 : decode cX0_lay 6 = .ok (.invokestatic 5, 3) := dk_184 0 5 (dk_at dksX0_lay_0 6 rfl rfl)
theorem dX0_lay_9 : decode cX0_lay 9 = .ok (.ifCond .ne 5, 3) := dk_154 0 5 (dk_at dksX0_lay_0 9 rfl rfl)
theorem dX0_lay_12 : decode cX0_lay 12 = .ok (.iconst (-1), 1) := dk_2 (dk_at dksX0_lay_0 12 rfl rfl)
theorem dX0_lay_13 : decode cX0_lay 13 = .ok (.ireturn, 1) := dk_172 (dk_at dksX0_lay_0 13 rfl rfl)
theorem dX0_lay_14 : decode cX0_lay 14 = .ok (.aload_n 0, 1) := dk_42 (dk_at dksX0_lay_0 14 rfl rfl)
theorem dX0_lay_15 : decode cX0_lay 15 = .ok (.getfield 257, 3) := dk_180 1 1 (dk_at dksX0_lay_0 15 rfl rfl)
theorem dX0_lay_18 : decode cX0_lay 18 = .ok (.iload_n 1, 1) := dk_27 (dk_at dksX0_lay_0 18 rfl rfl)
theorem dX0_lay_19 : decode cX0_lay 19 = .ok (.aaload, 1) := dk_50 (dk_at dksX0_lay_0 19 rfl rfl)
theorem dX0_lay_20 : decode cX0_lay 20 = .ok (.getfield 267, 3) := dk_180 1 11 (dk_at dksX0_lay_0 20 rfl rfl)
theorem dX0_lay_23 : decode cX0_lay 23 = .ok (.astore 4, 2) := dk_58 4 (dk_at dksX0_lay_1 0 rfl rfl)
theorem dX0_lay_25 : decode cX0_lay 25 = .ok (.aload 4, 2) := dk_25 4 (dk_at dksX0_lay_1 2 rfl rfl)
theorem dX0_lay_27 : decode cX0_lay 27 = .ok (.instanceof 276, 3) := dk_193 1 20 (dk_at dksX0_lay_1 4 rfl rfl)
theorem dX0_lay_30 : decode cX0_lay 30 = .ok (.ifCond .eq 15, 3) := dk_153 0 15 (dk_at dksX0_lay_1 7 rfl rfl)
theorem dX0_lay_33 : decode cX0_lay 33 = .ok (.aload 4, 2) := dk_25 4 (dk_at dksX0_lay_1 10 rfl rfl)
theorem dX0_lay_35 : decode cX0_lay 35 = .ok (.checkcast 276, 3) := dk_192 1 20 (dk_at dksX0_lay_1 12 rfl rfl)
theorem dX0_lay_38 : decode cX0_lay 38 = .ok (.iload_n 2, 1) := dk_28 (dk_at dksX0_lay_1 15 rfl rfl)
theorem dX0_lay_39 : decode cX0_lay 39 = .ok (.iload_n 3, 1) := dk_29 (dk_at dksX0_lay_1 16 rfl rfl)
theorem dX0_lay_40 : decode cX0_lay 40 = .ok (.i2b, 1) := dk_145 (dk_at dksX0_lay_1 17 rfl rfl)
theorem dX0_lay_41 : decode cX0_lay 41 = .ok (.bastore, 1) := dk_84 (dk_at dksX0_lay_1 18 rfl rfl)
theorem dX0_lay_42 : decode cX0_lay 42 = .ok (.goto 31, 3) := dk_167 0 31 (dk_at dksX0_lay_1 19 rfl rfl)
theorem dX0_lay_45 : decode cX0_lay 45 = .ok (.aload 4, 2) := dk_25 4 (dk_at dksX0_lay_1 22 rfl rfl)
theorem dX0_lay_47 : decode cX0_lay 47 = .ok (.instanceof 277, 3) := dk_193 1 21 (dk_at dksX0_lay_2 0 rfl rfl)
theorem dX0_lay_50 : decode cX0_lay 50 = .ok (.ifCond .eq 15, 3) := dk_153 0 15 (dk_at dksX0_lay_2 3 rfl rfl)
theorem dX0_lay_53 : decode cX0_lay 53 = .ok (.aload 4, 2) := dk_25 4 (dk_at dksX0_lay_2 6 rfl rfl)
theorem dX0_lay_55 : decode cX0_lay 55 = .ok (.checkcast 277, 3) := dk_192 1 21 (dk_at dksX0_lay_2 8 rfl rfl)
theorem dX0_lay_58 : decode cX0_lay 58 = .ok (.iload_n 2, 1) := dk_28 (dk_at dksX0_lay_2 11 rfl rfl)
theorem dX0_lay_59 : decode cX0_lay 59 = .ok (.iload_n 3, 1) := dk_29 (dk_at dksX0_lay_2 12 rfl rfl)
theorem dX0_lay_60 : decode cX0_lay 60 = .ok (.i2s, 1) := dk_147 (dk_at dksX0_lay_2 13 rfl rfl)
theorem dX0_lay_61 : decode cX0_lay 61 = .ok (.sastore, 1) := dk_86 (dk_at dksX0_lay_2 14 rfl rfl)
theorem dX0_lay_62 : decode cX0_lay 62 = .ok (.goto 11, 3) := dk_167 0 11 (dk_at dksX0_lay_2 15 rfl rfl)
theorem dX0_lay_65 : decode cX0_lay 65 = .ok (.aload 4, 2) := dk_25 4 (dk_at dksX0_lay_2 18 rfl rfl)
theorem dX0_lay_67 : decode cX0_lay 67 = .ok (.checkcast 279, 3) := dk_192 1 23 (dk_at dksX0_lay_2 20 rfl rfl)
theorem dX0_lay_70 : decode cX0_lay 70 = .ok (.iload_n 2, 1) := dk_28 (dk_at dksX0_lay_2 23 rfl rfl)
theorem dX0_lay_71 : decode cX0_lay 71 = .ok (.iload_n 3, 1) := dk_29 (dk_at dksX0_lay_3 0 rfl rfl)
theorem dX0_lay_72 : decode cX0_lay 72 = .ok (.iastore, 1) := dk_79 (dk_at dksX0_lay_3 1 rfl rfl)
theorem dX0_lay_73 : decode cX0_lay 73 = .ok (.iconst 1, 1) := dk_4 (dk_at dksX0_lay_3 2 rfl rfl)
theorem dX0_lay_74 : decode cX0_lay 74 = .ok (.ireturn, 1) := dk_172 (dk_at dksX0_lay_3 3 rfl rfl)
theorem dX0_lay_75 : decode cX0_lay 75 = .ok (.astore 5, 2) := dk_58 5 (dk_at dksX0_lay_3 4 rfl rfl)
theorem dX0_lay_77 : decode cX0_lay 77 = .ok (.bipush (-11), 2) := dk_16 245 (dk_at dksX0_lay_3 6 rfl rfl)
theorem dX0_lay_79 : decode cX0_lay 79 = .ok (.ireturn, 1) := dk_172 (dk_at dksX0_lay_3 8 rfl rfl)
theorem dX0_lay_80 : decode cX0_lay 80 = .ok (.astore 5, 2) := dk_58 5 (dk_at dksX0_lay_3 9 rfl rfl)
theorem dX0_lay_82 : decode cX0_lay 82 = .ok (.bipush (-12), 2) := dk_16 244 (dk_at dksX0_lay_3 11 rfl rfl)
theorem dX0_lay_84 : decode cX0_lay 84 = .ok (.ireturn, 1) := dk_172 (dk_at dksX0_lay_3 13 rfl rfl)
abbrev cX0_read : ByteArray := prog_1_method_58_code
def yX0_read : MethodName := ⟨RX0, "read", "(IIII)I"⟩
def dkwX0_read_4 : List UInt8 := [21, 5, 181, 1, 47, 42, 180, 1, 29, 172]
abbrev dktX0_read_4 : List UInt8 := dkwX0_read_4 ++ []
def dkwX0_read_3 : List UInt8 := [180, 1, 32, 153, 0, 19, 42, 180, 0, 35, 42, 180, 0, 251, 182, 0, 42, 42, 180, 1, 32, 172, 42]
abbrev dktX0_read_3 : List UInt8 := dkwX0_read_3 ++ dktX0_read_4
def dkwX0_read_2 : List UInt8 := [182, 0, 42, 42, 42, 180, 1, 1, 27, 50, 180, 1, 11, 28, 29, 21, 4, 182, 1, 43, 54, 5, 42]
abbrev dktX0_read_2 : List UInt8 := dkwX0_read_2 ++ dktX0_read_3
def dkwX0_read_1 : List UInt8 := [21, 4, 133, 9, 20, 1, 41, 184, 0, 5, 154, 0, 5, 2, 172, 42, 180, 0, 251, 42, 180, 0, 35]
abbrev dktX0_read_1 : List UInt8 := dkwX0_read_1 ++ dktX0_read_2
def dkwX0_read_0 : List UInt8 := [27, 133, 9, 20, 0, 100, 184, 0, 5, 153, 0, 28, 28, 133, 9, 20, 1, 5, 184, 0, 5, 153, 0, 16]
abbrev dktX0_read_0 : List UInt8 := dkwX0_read_0 ++ dktX0_read_1
theorem dksX0_read_0 : cX0_read.data.toList.drop 0 = dktX0_read_0 := by decide +kernel
theorem dksX0_read_1 : cX0_read.data.toList.drop 24 = dktX0_read_1 := dk_seg dksX0_read_0 24 rfl rfl
theorem dksX0_read_2 : cX0_read.data.toList.drop 47 = dktX0_read_2 := dk_seg dksX0_read_1 23 rfl rfl
theorem dksX0_read_3 : cX0_read.data.toList.drop 70 = dktX0_read_3 := dk_seg dksX0_read_2 23 rfl rfl
theorem dksX0_read_4 : cX0_read.data.toList.drop 93 = dktX0_read_4 := dk_seg dksX0_read_3 23 rfl rfl
theorem dX0_read_0 : decode cX0_read 0 = .ok (.iload_n 1, 1) := dk_27 (dk_at dksX0_read_0 0 rfl rfl)
theorem dX0_read_1 : decode cX0_read 1 = .ok (.i2l, 1) := dk_133 (dk_at dksX0_read_0 1 rfl rfl)
theorem dX0_read_2 : decode cX0_read 2 = .ok (.lconst 0, 1) := dk_9 (dk_at dksX0_read_0 2 rfl rfl)
theorem dX0_read_3 : decode cX0_read 3 = .ok (.ldc2_w 100, 3) := dk_20 0 100 (dk_at dksX0_read_0 3 rfl rfl)
theorem dX0_read_6 : decode cX0_read 6 = .ok (.invokestatic 5, 3) := dk_184 0 5 (dk_at dksX0_read_0 6 rfl rfl)
theorem dX0_read_9 : decode cX0_read 9 = .ok (.ifCond .eq 28, 3) := dk_153 0 28 (dk_at dksX0_read_0 9 rfl rfl)
theorem dX0_read_12 : decode cX0_read 12 = .ok (.iload_n 2, 1) := dk_28 (dk_at dksX0_read_0 12 rfl rfl)
theorem dX0_read_13 : decode cX0_read 13 = .ok (.i2l, 1) := dk_133 (dk_at dksX0_read_0 13 rfl rfl)
theorem dX0_read_14 : decode cX0_read 14 = .ok (.lconst 0, 1) := dk_9 (dk_at dksX0_read_0 14 rfl rfl)
theorem dX0_read_15 : decode cX0_read 15 = .ok (.ldc2_w 261, 3) := dk_20 1 5 (dk_at dksX0_read_0 15 rfl rfl)
theorem dX0_read_18 : decode cX0_read 18 = .ok (.invokestatic 5, 3) := dk_184 0 5 (dk_at dksX0_read_0 18 rfl rfl)
theorem dX0_read_21 : decode cX0_read 21 = .ok (.ifCond .eq 16, 3) := dk_153 0 16 (dk_at dksX0_read_0 21 rfl rfl)
theorem dX0_read_24 : decode cX0_read 24 = .ok (.iload 4, 2) := dk_21 4 (dk_at dksX0_read_1 0 rfl rfl)
theorem dX0_read_26 : decode cX0_read 26 = .ok (.i2l, 1) := dk_133 (dk_at dksX0_read_1 2 rfl rfl)
theorem dX0_read_27 : decode cX0_read 27 = .ok (.lconst 0, 1) := dk_9 (dk_at dksX0_read_1 3 rfl rfl)
theorem dX0_read_28 : decode cX0_read 28 = .ok (.ldc2_w 297, 3) := dk_20 1 41 (dk_at dksX0_read_1 4 rfl rfl)
theorem dX0_read_31 : decode cX0_read 31 = .ok (.invokestatic 5, 3) := dk_184 0 5 (dk_at dksX0_read_1 7 rfl rfl)
theorem dX0_read_34 : decode cX0_read 34 = .ok (.ifCond .ne 5, 3) := dk_154 0 5 (dk_at dksX0_read_1 10 rfl rfl)
theorem dX0_read_37 : decode cX0_read 37 = .ok (.iconst (-1), 1) := dk_2 (dk_at dksX0_read_1 13 rfl rfl)
theorem dX0_read_38 : decode cX0_read 38 = .ok (.ireturn, 1) := dk_172 (dk_at dksX0_read_1 14 rfl rfl)
theorem dX0_read_39 : decode cX0_read 39 = .ok (.aload_n 0, 1) := dk_42 (dk_at dksX0_read_1 15 rfl rfl)
theorem dX0_read_40 : decode cX0_read 40 = .ok (.getfield 251, 3) := dk_180 0 251 (dk_at dksX0_read_1 16 rfl rfl)
theorem dX0_read_43 : decode cX0_read 43 = .ok (.aload_n 0, 1) := dk_42 (dk_at dksX0_read_1 19 rfl rfl)
theorem dX0_read_44 : decode cX0_read 44 = .ok (.getfield 35, 3) := dk_180 0 35 (dk_at dksX0_read_1 20 rfl rfl)
theorem dX0_read_47 : decode cX0_read 47 = .ok (.invokevirtual 42, 3) := dk_182 0 42 (dk_at dksX0_read_2 0 rfl rfl)
theorem dX0_read_50 : decode cX0_read 50 = .ok (.aload_n 0, 1) := dk_42 (dk_at dksX0_read_2 3 rfl rfl)
theorem dX0_read_51 : decode cX0_read 51 = .ok (.aload_n 0, 1) := dk_42 (dk_at dksX0_read_2 4 rfl rfl)
theorem dX0_read_52 : decode cX0_read 52 = .ok (.getfield 257, 3) := dk_180 1 1 (dk_at dksX0_read_2 5 rfl rfl)
theorem dX0_read_55 : decode cX0_read 55 = .ok (.iload_n 1, 1) := dk_27 (dk_at dksX0_read_2 8 rfl rfl)
theorem dX0_read_56 : decode cX0_read 56 = .ok (.aaload, 1) := dk_50 (dk_at dksX0_read_2 9 rfl rfl)
theorem dX0_read_57 : decode cX0_read 57 = .ok (.getfield 267, 3) := dk_180 1 11 (dk_at dksX0_read_2 10 rfl rfl)
theorem dX0_read_60 : decode cX0_read 60 = .ok (.iload_n 2, 1) := dk_28 (dk_at dksX0_read_2 13 rfl rfl)
theorem dX0_read_61 : decode cX0_read 61 = .ok (.iload_n 3, 1) := dk_29 (dk_at dksX0_read_2 14 rfl rfl)
theorem dX0_read_62 : decode cX0_read 62 = .ok (.iload 4, 2) := dk_21 4 (dk_at dksX0_read_2 15 rfl rfl)
theorem dX0_read_64 : decode cX0_read 64 = .ok (.invokevirtual 299, 3) := dk_182 1 43 (dk_at dksX0_read_2 17 rfl rfl)
theorem dX0_read_67 : decode cX0_read 67 = .ok (.istore 5, 2) := dk_54 5 (dk_at dksX0_read_2 20 rfl rfl)
theorem dX0_read_69 : decode cX0_read 69 = .ok (.aload_n 0, 1) := dk_42 (dk_at dksX0_read_2 22 rfl rfl)
theorem dX0_read_70 : decode cX0_read 70 = .ok (.getfield 288, 3) := dk_180 1 32 (dk_at dksX0_read_3 0 rfl rfl)
theorem dX0_read_73 : decode cX0_read 73 = .ok (.ifCond .eq 19, 3) := dk_153 0 19 (dk_at dksX0_read_3 3 rfl rfl)
theorem dX0_read_76 : decode cX0_read 76 = .ok (.aload_n 0, 1) := dk_42 (dk_at dksX0_read_3 6 rfl rfl)
theorem dX0_read_77 : decode cX0_read 77 = .ok (.getfield 35, 3) := dk_180 0 35 (dk_at dksX0_read_3 7 rfl rfl)
theorem dX0_read_80 : decode cX0_read 80 = .ok (.aload_n 0, 1) := dk_42 (dk_at dksX0_read_3 10 rfl rfl)
theorem dX0_read_81 : decode cX0_read 81 = .ok (.getfield 251, 3) := dk_180 0 251 (dk_at dksX0_read_3 11 rfl rfl)
theorem dX0_read_84 : decode cX0_read 84 = .ok (.invokevirtual 42, 3) := dk_182 0 42 (dk_at dksX0_read_3 14 rfl rfl)
theorem dX0_read_87 : decode cX0_read 87 = .ok (.aload_n 0, 1) := dk_42 (dk_at dksX0_read_3 17 rfl rfl)
theorem dX0_read_88 : decode cX0_read 88 = .ok (.getfield 288, 3) := dk_180 1 32 (dk_at dksX0_read_3 18 rfl rfl)
theorem dX0_read_91 : decode cX0_read 91 = .ok (.ireturn, 1) := dk_172 (dk_at dksX0_read_3 21 rfl rfl)
theorem dX0_read_92 : decode cX0_read 92 = .ok (.aload_n 0, 1) := dk_42 (dk_at dksX0_read_3 22 rfl rfl)
theorem dX0_read_93 : decode cX0_read 93 = .ok (.iload 5, 2) := dk_21 5 (dk_at dksX0_read_4 0 rfl rfl)
theorem dX0_read_95 : decode cX0_read 95 = .ok (.putfield 303, 3) := dk_181 1 47 (dk_at dksX0_read_4 2 rfl rfl)
theorem dX0_read_98 : decode cX0_read 98 = .ok (.aload_n 0, 1) := dk_42 (dk_at dksX0_read_4 5 rfl rfl)
theorem dX0_read_99 : decode cX0_read 99 = .ok (.getfield 285, 3) := dk_180 1 29 (dk_at dksX0_read_4 6 rfl rfl)
theorem dX0_read_102 : decode cX0_read 102 = .ok (.ireturn, 1) := dk_172 (dk_at dksX0_read_4 9 rfl rfl)
abbrev cX0_takesIn : ByteArray := prog_1_method_57_code
def yX0_takesIn : MethodName := ⟨RX0, "takesIn", "(Ljava/lang/Object;III)I"⟩
def dkwX0_takesIn_6 : List UInt8 := [172]
abbrev dktX0_takesIn_6 : List UInt8 := dkwX0_takesIn_6 ++ []
def dkwX0_takesIn_5 : List UInt8 := [167, 0, 4, 3, 96, 181, 1, 29, 167, 255, 139, 3, 172, 58, 5, 4, 172, 58, 5, 6, 172, 58, 5, 5]
abbrev dktX0_takesIn_5 : List UInt8 := dkwX0_takesIn_5 ++ dktX0_takesIn_6
def dkwX0_takesIn_4 : List UInt8 := [180, 1, 29, 100, 167, 0, 4, 3, 181, 1, 32, 42, 89, 180, 1, 29, 42, 180, 1, 32, 154, 0, 7, 4]
abbrev dktX0_takesIn_4 : List UInt8 := dkwX0_takesIn_4 ++ dktX0_takesIn_5
def dkwX0_takesIn_3 : List UInt8 := [4, 21, 7, 182, 0, 144, 155, 0, 15, 42, 21, 6, 5, 21, 8, 182, 0, 144, 156, 0, 13, 16, 236, 42]
abbrev dktX0_takesIn_3 : List UInt8 := dkwX0_takesIn_3 ++ dktX0_takesIn_4
def dkwX0_takesIn_2 : List UInt8 := [21, 5, 4, 96, 184, 1, 35, 54, 7, 43, 28, 21, 5, 5, 96, 184, 1, 35, 54, 8, 42, 42, 21, 6]
abbrev dktX0_takesIn_2 : List UInt8 := dkwX0_takesIn_2 ++ dktX0_takesIn_3
def dkwX0_takesIn_1 : List UInt8 := [154, 0, 107, 29, 6, 42, 180, 1, 29, 104, 96, 54, 5, 43, 28, 21, 5, 184, 1, 35, 54, 6, 43, 28]
abbrev dktX0_takesIn_1 : List UInt8 := dkwX0_takesIn_1 ++ dktX0_takesIn_2
def dkwX0_takesIn_0 : List UInt8 := [42, 3, 181, 1, 29, 42, 3, 181, 1, 32, 42, 180, 1, 29, 21, 4, 162, 0, 114, 42, 180, 1, 32]
abbrev dktX0_takesIn_0 : List UInt8 := dkwX0_takesIn_0 ++ dktX0_takesIn_1
theorem dksX0_takesIn_0 : cX0_takesIn.data.toList.drop 0 = dktX0_takesIn_0 := by decide +kernel
theorem dksX0_takesIn_1 : cX0_takesIn.data.toList.drop 23 = dktX0_takesIn_1 := dk_seg dksX0_takesIn_0 23 rfl rfl
theorem dksX0_takesIn_2 : cX0_takesIn.data.toList.drop 47 = dktX0_takesIn_2 := dk_seg dksX0_takesIn_1 24 rfl rfl
theorem dksX0_takesIn_3 : cX0_takesIn.data.toList.drop 71 = dktX0_takesIn_3 := dk_seg dksX0_takesIn_2 24 rfl rfl
theorem dksX0_takesIn_4 : cX0_takesIn.data.toList.drop 95 = dktX0_takesIn_4 := dk_seg dksX0_takesIn_3 24 rfl rfl
theorem dksX0_takesIn_5 : cX0_takesIn.data.toList.drop 119 = dktX0_takesIn_5 := dk_seg dksX0_takesIn_4 24 rfl rfl
theorem dksX0_takesIn_6 : cX0_takesIn.data.toList.drop 143 = dktX0_takesIn_6 := dk_seg dksX0_takesIn_5 24 rfl rfl
theorem dX0_takesIn_0 : decode cX0_takesIn 0 = .ok (.aload_n 0, 1) := dk_42 (dk_at dksX0_takesIn_0 0 rfl rfl)
theorem dX0_takesIn_1 : decode cX0_takesIn 1 = .ok (.iconst 0, 1) := dk_3 (dk_at dksX0_takesIn_0 1 rfl rfl)
theorem dX0_takesIn_2 : decode cX0_takesIn 2 = .ok (.putfield 285, 3) := dk_181 1 29 (dk_at dksX0_takesIn_0 2 rfl rfl)
theorem dX0_takesIn_5 : decode cX0_takesIn 5 = .ok (.aload_n 0, 1) := dk_42 (dk_at dksX0_takesIn_0 5 rfl rfl)
theorem dX0_takesIn_6 : decode cX0_takesIn 6 = .ok (.iconst 0, 1) := dk_3 (dk_at dksX0_takesIn_0 6 rfl rfl)
theorem dX0_takesIn_7 : decode cX0_takesIn 7 = .ok (.putfield 288, 3) := dk_181 1 32 (dk_at dksX0_takesIn_0 7 rfl rfl)
theorem dX0_takesIn_10 : decode cX0_takesIn 10 = .ok (.aload_n 0, 1) := dk_42 (dk_at dksX0_takesIn_0 10 rfl rfl)
theorem dX0_takesIn_11 : decode cX0_takesIn 11 = .ok (.getfield 285, 3) := dk_180 1 29 (dk_at dksX0_takesIn_0 11 rfl rfl)
theorem dX0_takesIn_14 : decode cX0_takesIn 14 = .ok (.iload 4, 2) := dk_21 4 (dk_at dksX0_takesIn_0 14 rfl rfl)
theorem dX0_takesIn_16 : decode cX0_takesIn 16 = .ok (.if_icmp .ge 114, 3) := dk_162 0 114 (dk_at dksX0_takesIn_0 16 rfl rfl)
theorem dX0_takesIn_19 : decode cX0_takesIn 19 = .ok (.aload_n 0, 1) := dk_42 (dk_at dksX0_takesIn_0 19 rfl rfl)
theorem dX0_takesIn_20 : decode cX0_takesIn 20 = .ok (.getfield 288, 3) := dk_180 1 32 (dk_at dksX0_takesIn_0 20 rfl rfl)
theorem dX0_takesIn_23 : decode cX0_takesIn 23 = .ok (.ifCond .ne 107, 3) := dk_154 0 107 (dk_at dksX0_takesIn_1 0 rfl rfl)
theorem dX0_takesIn_26 : decode cX0_takesIn 26 = .ok (.iload_n 3, 1) := dk_29 (dk_at dksX0_takesIn_1 3 rfl rfl)
theorem dX0_takesIn_27 : decode cX0_takesIn 27 = .ok (.iconst 3, 1) := dk_6 (dk_at dksX0_takesIn_1 4 rfl rfl)
theorem dX0_takesIn_28 : decode cX0_takesIn 28 = .ok (.aload_n 0, 1) := dk_42 (dk_at dksX0_takesIn_1 5 rfl rfl)
theorem dX0_takesIn_29 : decode cX0_takesIn 29 = .ok (.getfield 285, 3) := dk_180 1 29 (dk_at dksX0_takesIn_1 6 rfl rfl)
theorem dX0_takesIn_32 : decode cX0_takesIn 32 = .ok (.imul, 1) := dk_104 (dk_at dksX0_takesIn_1 9 rfl rfl)
theorem dX0_takesIn_33 : decode cX0_takesIn 33 = .ok (.iadd, 1) := dk_96 (dk_at dksX0_takesIn_1 10 rfl rfl)
theorem dX0_takesIn_34 : decode cX0_takesIn 34 = .ok (.istore 5, 2) := dk_54 5 (dk_at dksX0_takesIn_1 11 rfl rfl)
theorem dX0_takesIn_36 : decode cX0_takesIn 36 = .ok (.aload_n 1, 1) := dk_43 (dk_at dksX0_takesIn_1 13 rfl rfl)
theorem dX0_takesIn_37 : decode cX0_takesIn 37 = .ok (.iload_n 2, 1) := dk_28 (dk_at dksX0_takesIn_1 14 rfl rfl)
theorem dX0_takesIn_38 : decode cX0_takesIn 38 = .ok (.iload 5, 2) := dk_21 5 (dk_at dksX0_takesIn_1 15 rfl rfl)
theorem dX0_takesIn_40 : decode cX0_takesIn 40 = .ok (.invokestatic 291, 3) := dk_184 1 35 (dk_at dksX0_takesIn_1 17 rfl rfl)
theorem dX0_takesIn_43 : decode cX0_takesIn 43 = .ok (.istore 6, 2) := dk_54 6 (dk_at dksX0_takesIn_1 20 rfl rfl)
theorem dX0_takesIn_45 : decode cX0_takesIn 45 = .ok (.aload_n 1, 1) := dk_43 (dk_at dksX0_takesIn_1 22 rfl rfl)
theorem dX0_takesIn_46 : decode cX0_takesIn 46 = .ok (.iload_n 2, 1) := dk_28 (dk_at dksX0_takesIn_1 23 rfl rfl)
theorem dX0_takesIn_47 : decode cX0_takesIn 47 = .ok (.iload 5, 2) := dk_21 5 (dk_at dksX0_takesIn_2 0 rfl rfl)
theorem dX0_takesIn_49 : decode cX0_takesIn 49 = .ok (.iconst 1, 1) := dk_4 (dk_at dksX0_takesIn_2 2 rfl rfl)
theorem dX0_takesIn_50 : decode cX0_takesIn 50 = .ok (.iadd, 1) := dk_96 (dk_at dksX0_takesIn_2 3 rfl rfl)
theorem dX0_takesIn_51 : decode cX0_takesIn 51 = .ok (.invokestatic 291, 3) := dk_184 1 35 (dk_at dksX0_takesIn_2 4 rfl rfl)
theorem dX0_takesIn_54 : decode cX0_takesIn 54 = .ok (.istore 7, 2) := dk_54 7 (dk_at dksX0_takesIn_2 7 rfl rfl)
theorem dX0_takesIn_56 : decode cX0_takesIn 56 = .ok (.aload_n 1, 1) := dk_43 (dk_at dksX0_takesIn_2 9 rfl rfl)
theorem dX0_takesIn_57 : decode cX0_takesIn 57 = .ok (.iload_n 2, 1) := dk_28 (dk_at dksX0_takesIn_2 10 rfl rfl)
theorem dX0_takesIn_58 : decode cX0_takesIn 58 = .ok (.iload 5, 2) := dk_21 5 (dk_at dksX0_takesIn_2 11 rfl rfl)
theorem dX0_takesIn_60 : decode cX0_takesIn 60 = .ok (.iconst 2, 1) := dk_5 (dk_at dksX0_takesIn_2 13 rfl rfl)
theorem dX0_takesIn_61 : decode cX0_takesIn 61 = .ok (.iadd, 1) := dk_96 (dk_at dksX0_takesIn_2 14 rfl rfl)
theorem dX0_takesIn_62 : decode cX0_takesIn 62 = .ok (.invokestatic 291, 3) := dk_184 1 35 (dk_at dksX0_takesIn_2 15 rfl rfl)
theorem dX0_takesIn_65 : decode cX0_takesIn 65 = .ok (.istore 8, 2) := dk_54 8 (dk_at dksX0_takesIn_2 18 rfl rfl)
theorem dX0_takesIn_67 : decode cX0_takesIn 67 = .ok (.aload_n 0, 1) := dk_42 (dk_at dksX0_takesIn_2 20 rfl rfl)
theorem dX0_takesIn_68 : decode cX0_takesIn 68 = .ok (.aload_n 0, 1) := dk_42 (dk_at dksX0_takesIn_2 21 rfl rfl)
theorem dX0_takesIn_69 : decode cX0_takesIn 69 = .ok (.iload 6, 2) := dk_21 6 (dk_at dksX0_takesIn_2 22 rfl rfl)
theorem dX0_takesIn_71 : decode cX0_takesIn 71 = .ok (.iconst 1, 1) := dk_4 (dk_at dksX0_takesIn_3 0 rfl rfl)
theorem dX0_takesIn_72 : decode cX0_takesIn 72 = .ok (.iload 7, 2) := dk_21 7 (dk_at dksX0_takesIn_3 1 rfl rfl)
theorem dX0_takesIn_74 : decode cX0_takesIn 74 = .ok (.invokevirtual 144, 3) := dk_182 0 144 (dk_at dksX0_takesIn_3 3 rfl rfl)
theorem dX0_takesIn_77 : decode cX0_takesIn 77 = .ok (.ifCond .lt 15, 3) := dk_155 0 15 (dk_at dksX0_takesIn_3 6 rfl rfl)
theorem dX0_takesIn_80 : decode cX0_takesIn 80 = .ok (.aload_n 0, 1) := dk_42 (dk_at dksX0_takesIn_3 9 rfl rfl)
theorem dX0_takesIn_81 : decode cX0_takesIn 81 = .ok (.iload 6, 2) := dk_21 6 (dk_at dksX0_takesIn_3 10 rfl rfl)
theorem dX0_takesIn_83 : decode cX0_takesIn 83 = .ok (.iconst 2, 1) := dk_5 (dk_at dksX0_takesIn_3 12 rfl rfl)
theorem dX0_takesIn_84 : decode cX0_takesIn 84 = .ok (.iload 8, 2) := dk_21 8 (dk_at dksX0_takesIn_3 13 rfl rfl)
theorem dX0_takesIn_86 : decode cX0_takesIn 86 = .ok (.invokevirtual 144, 3) := dk_182 0 144 (dk_at dksX0_takesIn_3 15 rfl rfl)
theorem dX0_takesIn_89 : decode cX0_takesIn 89 = .ok (.ifCond .ge 13, 3) := dk_156 0 13 (dk_at dksX0_takesIn_3 18 rfl rfl)
theorem dX0_takesIn_92 : decode cX0_takesIn 92 = .ok (.bipush (-20), 2) := dk_16 236 (dk_at dksX0_takesIn_3 21 rfl rfl)
theorem dX0_takesIn_94 : decode cX0_takesIn 94 = .ok (.aload_n 0, 1) := dk_42 (dk_at dksX0_takesIn_3 23 rfl rfl)
theorem dX0_takesIn_95 : decode cX0_takesIn 95 = .ok (.getfield 285, 3) := dk_180 1 29 (dk_at dksX0_takesIn_4 0 rfl rfl)
theorem dX0_takesIn_98 : decode cX0_takesIn 98 = .ok (.isub, 1) := dk_100 (dk_at dksX0_takesIn_4 3 rfl rfl)
theorem dX0_takesIn_99 : decode cX0_takesIn 99 = .ok (.goto 4, 3) := dk_167 0 4 (dk_at dksX0_takesIn_4 4 rfl rfl)
theorem dX0_takesIn_102 : decode cX0_takesIn 102 = .ok (.iconst 0, 1) := dk_3 (dk_at dksX0_takesIn_4 7 rfl rfl)
theorem dX0_takesIn_103 : decode cX0_takesIn 103 = .ok (.putfield 288, 3) := dk_181 1 32 (dk_at dksX0_takesIn_4 8 rfl rfl)
theorem dX0_takesIn_106 : decode cX0_takesIn 106 = .ok (.aload_n 0, 1) := dk_42 (dk_at dksX0_takesIn_4 11 rfl rfl)
theorem dX0_takesIn_107 : decode cX0_takesIn 107 = .ok (.dup, 1) := dk_89 (dk_at dksX0_takesIn_4 12 rfl rfl)
theorem dX0_takesIn_108 : decode cX0_takesIn 108 = .ok (.getfield 285, 3) := dk_180 1 29 (dk_at dksX0_takesIn_4 13 rfl rfl)
theorem dX0_takesIn_111 : decode cX0_takesIn 111 = .ok (.aload_n 0, 1) := dk_42 (dk_at dksX0_takesIn_4 16 rfl rfl)
theorem dX0_takesIn_112 : decode cX0_takesIn 112 = .ok (.getfield 288, 3) := dk_180 1 32 (dk_at dksX0_takesIn_4 17 rfl rfl)
theorem dX0_takesIn_115 : decode cX0_takesIn 115 = .ok (.ifCond .ne 7, 3) := dk_154 0 7 (dk_at dksX0_takesIn_4 20 rfl rfl)
theorem dX0_takesIn_118 : decode cX0_takesIn 118 = .ok (.iconst 1, 1) := dk_4 (dk_at dksX0_takesIn_4 23 rfl rfl)
theorem dX0_takesIn_119 : decode cX0_takesIn 119 = .ok (.goto 4, 3) := dk_167 0 4 (dk_at dksX0_takesIn_5 0 rfl rfl)
theorem dX0_takesIn_122 : decode cX0_takesIn 122 = .ok (.iconst 0, 1) := dk_3 (dk_at dksX0_takesIn_5 3 rfl rfl)
theorem dX0_takesIn_123 : decode cX0_takesIn 123 = .ok (.iadd, 1) := dk_96 (dk_at dksX0_takesIn_5 4 rfl rfl)
theorem dX0_takesIn_124 : decode cX0_takesIn 124 = .ok (.putfield 285, 3) := dk_181 1 29 (dk_at dksX0_takesIn_5 5 rfl rfl)
theorem dX0_takesIn_127 : decode cX0_takesIn 127 = .ok (.goto (-117), 3) := dk_167 255 139 (dk_at dksX0_takesIn_5 8 rfl rfl)
theorem dX0_takesIn_130 : decode cX0_takesIn 130 = .ok (.iconst 0, 1) := dk_3 (dk_at dksX0_takesIn_5 11 rfl rfl)
theorem dX0_takesIn_131 : decode cX0_takesIn 131 = .ok (.ireturn, 1) := dk_172 (dk_at dksX0_takesIn_5 12 rfl rfl)
theorem dX0_takesIn_132 : decode cX0_takesIn 132 = .ok (.astore 5, 2) := dk_58 5 (dk_at dksX0_takesIn_5 13 rfl rfl)
theorem dX0_takesIn_134 : decode cX0_takesIn 134 = .ok (.iconst 1, 1) := dk_4 (dk_at dksX0_takesIn_5 15 rfl rfl)
theorem dX0_takesIn_135 : decode cX0_takesIn 135 = .ok (.ireturn, 1) := dk_172 (dk_at dksX0_takesIn_5 16 rfl rfl)
theorem dX0_takesIn_136 : decode cX0_takesIn 136 = .ok (.astore 5, 2) := dk_58 5 (dk_at dksX0_takesIn_5 17 rfl rfl)
theorem dX0_takesIn_138 : decode cX0_takesIn 138 = .ok (.iconst 3, 1) := dk_6 (dk_at dksX0_takesIn_5 19 rfl rfl)
theorem dX0_takesIn_139 : decode cX0_takesIn 139 = .ok (.ireturn, 1) := dk_172 (dk_at dksX0_takesIn_5 20 rfl rfl)
theorem dX0_takesIn_140 : decode cX0_takesIn 140 = .ok (.astore 5, 2) := dk_58 5 (dk_at dksX0_takesIn_5 21 rfl rfl)
theorem dX0_takesIn_142 : decode cX0_takesIn 142 = .ok (.iconst 2, 1) := dk_5 (dk_at dksX0_takesIn_5 23 rfl rfl)
theorem dX0_takesIn_143 : decode cX0_takesIn 143 = .ok (.ireturn, 1) := dk_172 (dk_at dksX0_takesIn_6 0 rfl rfl)
abbrev cX0_cell : ByteArray := prog_1_method_56_code
def yX0_cell : MethodName := ⟨RX0, "cell", "(Ljava/lang/Object;II)I"⟩
def dkwX0_cell_1 : List UInt8 := [167, 0, 9, 42, 192, 1, 23, 28, 46, 172]
abbrev dktX0_cell_1 : List UInt8 := dkwX0_cell_1 ++ []
def dkwX0_cell_0 : List UInt8 := [27, 154, 0, 12, 42, 192, 1, 20, 28, 51, 167, 0, 23, 27, 4, 160, 0, 12, 42, 192, 1, 21, 28, 53]
abbrev dktX0_cell_0 : List UInt8 := dkwX0_cell_0 ++ dktX0_cell_1
theorem dksX0_cell_0 : cX0_cell.data.toList.drop 0 = dktX0_cell_0 := by decide +kernel
theorem dksX0_cell_1 : cX0_cell.data.toList.drop 24 = dktX0_cell_1 := dk_seg dksX0_cell_0 24 rfl rfl
theorem dX0_cell_0 : decode cX0_cell 0 = .ok (.iload_n 1, 1) := dk_27 (dk_at dksX0_cell_0 0 rfl rfl)
theorem dX0_cell_1 : decode cX0_cell 1 = .ok (.ifCond .ne 12, 3) := dk_154 0 12 (dk_at dksX0_cell_0 1 rfl rfl)
theorem dX0_cell_4 : decode cX0_cell 4 = .ok (.aload_n 0, 1) := dk_42 (dk_at dksX0_cell_0 4 rfl rfl)
theorem dX0_cell_5 : decode cX0_cell 5 = .ok (.checkcast 276, 3) := dk_192 1 20 (dk_at dksX0_cell_0 5 rfl rfl)
theorem dX0_cell_8 : decode cX0_cell 8 = .ok (.iload_n 2, 1) := dk_28 (dk_at dksX0_cell_0 8 rfl rfl)
theorem dX0_cell_9 : decode cX0_cell 9 = .ok (.baload, 1) := dk_51 (dk_at dksX0_cell_0 9 rfl rfl)
theorem dX0_cell_10 : decode cX0_cell 10 = .ok (.goto 23, 3) := dk_167 0 23 (dk_at dksX0_cell_0 10 rfl rfl)
theorem dX0_cell_13 : decode cX0_cell 13 = .ok (.iload_n 1, 1) := dk_27 (dk_at dksX0_cell_0 13 rfl rfl)
theorem dX0_cell_14 : decode cX0_cell 14 = .ok (.iconst 1, 1) := dk_4 (dk_at dksX0_cell_0 14 rfl rfl)
theorem dX0_cell_15 : decode cX0_cell 15 = .ok (.if_icmp .ne 12, 3) := dk_160 0 12 (dk_at dksX0_cell_0 15 rfl rfl)
theorem dX0_cell_18 : decode cX0_cell 18 = .ok (.aload_n 0, 1) := dk_42 (dk_at dksX0_cell_0 18 rfl rfl)
theorem dX0_cell_19 : decode cX0_cell 19 = .ok (.checkcast 277, 3) := dk_192 1 21 (dk_at dksX0_cell_0 19 rfl rfl)
theorem dX0_cell_22 : decode cX0_cell 22 = .ok (.iload_n 2, 1) := dk_28 (dk_at dksX0_cell_0 22 rfl rfl)
theorem dX0_cell_23 : decode cX0_cell 23 = .ok (.saload, 1) := dk_53 (dk_at dksX0_cell_0 23 rfl rfl)
theorem dX0_cell_24 : decode cX0_cell 24 = .ok (.goto 9, 3) := dk_167 0 9 (dk_at dksX0_cell_1 0 rfl rfl)
theorem dX0_cell_27 : decode cX0_cell 27 = .ok (.aload_n 0, 1) := dk_42 (dk_at dksX0_cell_1 3 rfl rfl)
theorem dX0_cell_28 : decode cX0_cell 28 = .ok (.checkcast 279, 3) := dk_192 1 23 (dk_at dksX0_cell_1 4 rfl rfl)
theorem dX0_cell_31 : decode cX0_cell 31 = .ok (.iload_n 2, 1) := dk_28 (dk_at dksX0_cell_1 7 rfl rfl)
theorem dX0_cell_32 : decode cX0_cell 32 = .ok (.iaload, 1) := dk_46 (dk_at dksX0_cell_1 8 rfl rfl)
theorem dX0_cell_33 : decode cX0_cell 33 = .ok (.ireturn, 1) := dk_172 (dk_at dksX0_cell_1 9 rfl rfl)
abbrev cX0_torn : ByteArray := prog_1_method_59_code
def yX0_torn : MethodName := ⟨RX0, "torn", "()I"⟩
theorem dX0_torn_0 : decode cX0_torn 0 = .ok (.aload_n 0, 1) := by decide +kernel
theorem dX0_torn_1 : decode cX0_torn 1 = .ok (.getfield 303, 3) := by decide +kernel
theorem dX0_torn_4 : decode cX0_torn 4 = .ok (.ireturn, 1) := by decide +kernel
abbrev cX0_count : ByteArray := prog_1_method_60_code
def yX0_count : MethodName := ⟨RX0, "count", "(I)I"⟩
def dkwX0_count_5 : List UInt8 := [180, 1, 15, 172, 42, 180, 0, 35, 182, 1, 50, 172, 42, 180, 0, 35, 182, 1, 53, 172, 2, 172]
abbrev dktX0_count_5 : List UInt8 := dkwX0_count_5 ++ []
def dkwX0_count_4 : List UInt8 := [180, 1, 1, 3, 50, 180, 1, 11, 199, 0, 8, 16, 252, 167, 0, 12, 42, 180, 1, 1, 3, 50]
abbrev dktX0_count_4 : List UInt8 := dkwX0_count_4 ++ dktX0_count_5
def dkwX0_count_3 : List UInt8 := [180, 0, 51, 4, 50, 180, 0, 55, 153, 0, 7, 4, 167, 0, 4, 3, 96, 172, 42, 180, 0, 11, 172, 42]
abbrev dktX0_count_3 : List UInt8 := dkwX0_count_3 ++ dktX0_count_4
def dkwX0_count_2 : List UInt8 := [42, 180, 0, 48, 172, 42, 180, 0, 51, 3, 50, 180, 0, 55, 153, 0, 7, 4, 167, 0, 4, 3, 42]
abbrev dktX0_count_2 : List UInt8 := dkwX0_count_2 ++ dktX0_count_3
def dkwX0_count_1 : List UInt8 := [170, 0, 0, 0, 0, 0, 128, 0, 0, 0, 0, 0, 0, 0, 5, 0, 0, 0, 39, 0, 0, 0, 44, 0, 0, 0, 80, 0, 0, 0, 85, 0, 0, 0, 112, 0, 0, 0, 120]
abbrev dktX0_count_1 : List UInt8 := dkwX0_count_1 ++ dktX0_count_2
def dkwX0_count_0 : List UInt8 := [27]
abbrev dktX0_count_0 : List UInt8 := dkwX0_count_0 ++ dktX0_count_1
theorem dksX0_count_0 : cX0_count.data.toList.drop 0 = dktX0_count_0 := by decide +kernel
theorem dksX0_count_1 : cX0_count.data.toList.drop 1 = dktX0_count_1 := dk_seg dksX0_count_0 1 rfl rfl
theorem dksX0_count_2 : cX0_count.data.toList.drop 40 = dktX0_count_2 := dk_seg dksX0_count_1 39 rfl rfl
theorem dksX0_count_3 : cX0_count.data.toList.drop 63 = dktX0_count_3 := dk_seg dksX0_count_2 23 rfl rfl
theorem dksX0_count_4 : cX0_count.data.toList.drop 87 = dktX0_count_4 := dk_seg dksX0_count_3 24 rfl rfl
theorem dksX0_count_5 : cX0_count.data.toList.drop 109 = dktX0_count_5 := dk_seg dksX0_count_4 22 rfl rfl
theorem dX0_count_0 : decode cX0_count 0 = .ok (.iload_n 1, 1) := dk_27 (dk_at dksX0_count_0 0 rfl rfl)
theorem dX0_count_1 : decode cX0_count 1 = .ok (.tableswitch 128 0 5 #[39, 44, 80, 85, 112, 120], 39) := by decide +kernel
theorem dX0_count_40 : decode cX0_count 40 = .ok (.aload_n 0, 1) := dk_42 (dk_at dksX0_count_2 0 rfl rfl)
theorem dX0_count_41 : decode cX0_count 41 = .ok (.getfield 48, 3) := dk_180 0 48 (dk_at dksX0_count_2 1 rfl rfl)
theorem dX0_count_44 : decode cX0_count 44 = .ok (.ireturn, 1) := dk_172 (dk_at dksX0_count_2 4 rfl rfl)
theorem dX0_count_45 : decode cX0_count 45 = .ok (.aload_n 0, 1) := dk_42 (dk_at dksX0_count_2 5 rfl rfl)
theorem dX0_count_46 : decode cX0_count 46 = .ok (.getfield 51, 3) := dk_180 0 51 (dk_at dksX0_count_2 6 rfl rfl)
theorem dX0_count_49 : decode cX0_count 49 = .ok (.iconst 0, 1) := dk_3 (dk_at dksX0_count_2 9 rfl rfl)
theorem dX0_count_50 : decode cX0_count 50 = .ok (.aaload, 1) := dk_50 (dk_at dksX0_count_2 10 rfl rfl)
theorem dX0_count_51 : decode cX0_count 51 = .ok (.getfield 55, 3) := dk_180 0 55 (dk_at dksX0_count_2 11 rfl rfl)
theorem dX0_count_54 : decode cX0_count 54 = .ok (.ifCond .eq 7, 3) := dk_153 0 7 (dk_at dksX0_count_2 14 rfl rfl)
theorem dX0_count_57 : decode cX0_count 57 = .ok (.iconst 1, 1) := dk_4 (dk_at dksX0_count_2 17 rfl rfl)
theorem dX0_count_58 : decode cX0_count 58 = .ok (.goto 4, 3) := dk_167 0 4 (dk_at dksX0_count_2 18 rfl rfl)
theorem dX0_count_61 : decode cX0_count 61 = .ok (.iconst 0, 1) := dk_3 (dk_at dksX0_count_2 21 rfl rfl)
theorem dX0_count_62 : decode cX0_count 62 = .ok (.aload_n 0, 1) := dk_42 (dk_at dksX0_count_2 22 rfl rfl)
theorem dX0_count_63 : decode cX0_count 63 = .ok (.getfield 51, 3) := dk_180 0 51 (dk_at dksX0_count_3 0 rfl rfl)
theorem dX0_count_66 : decode cX0_count 66 = .ok (.iconst 1, 1) := dk_4 (dk_at dksX0_count_3 3 rfl rfl)
theorem dX0_count_67 : decode cX0_count 67 = .ok (.aaload, 1) := dk_50 (dk_at dksX0_count_3 4 rfl rfl)
theorem dX0_count_68 : decode cX0_count 68 = .ok (.getfield 55, 3) := dk_180 0 55 (dk_at dksX0_count_3 5 rfl rfl)
theorem dX0_count_71 : decode cX0_count 71 = .ok (.ifCond .eq 7, 3) := dk_153 0 7 (dk_at dksX0_count_3 8 rfl rfl)
theorem dX0_count_74 : decode cX0_count 74 = .ok (.iconst 1, 1) := dk_4 (dk_at dksX0_count_3 11 rfl rfl)
theorem dX0_count_75 : decode cX0_count 75 = .ok (.goto 4, 3) := dk_167 0 4 (dk_at dksX0_count_3 12 rfl rfl)
theorem dX0_count_78 : decode cX0_count 78 = .ok (.iconst 0, 1) := dk_3 (dk_at dksX0_count_3 15 rfl rfl)
theorem dX0_count_79 : decode cX0_count 79 = .ok (.iadd, 1) := dk_96 (dk_at dksX0_count_3 16 rfl rfl)
theorem dX0_count_80 : decode cX0_count 80 = .ok (.ireturn, 1) := dk_172 (dk_at dksX0_count_3 17 rfl rfl)
theorem dX0_count_81 : decode cX0_count 81 = .ok (.aload_n 0, 1) := dk_42 (dk_at dksX0_count_3 18 rfl rfl)
theorem dX0_count_82 : decode cX0_count 82 = .ok (.getfield 11, 3) := dk_180 0 11 (dk_at dksX0_count_3 19 rfl rfl)
theorem dX0_count_85 : decode cX0_count 85 = .ok (.ireturn, 1) := dk_172 (dk_at dksX0_count_3 22 rfl rfl)
theorem dX0_count_86 : decode cX0_count 86 = .ok (.aload_n 0, 1) := dk_42 (dk_at dksX0_count_3 23 rfl rfl)
theorem dX0_count_87 : decode cX0_count 87 = .ok (.getfield 257, 3) := dk_180 1 1 (dk_at dksX0_count_4 0 rfl rfl)
theorem dX0_count_90 : decode cX0_count 90 = .ok (.iconst 0, 1) := dk_3 (dk_at dksX0_count_4 3 rfl rfl)
theorem dX0_count_91 : decode cX0_count 91 = .ok (.aaload, 1) := dk_50 (dk_at dksX0_count_4 4 rfl rfl)
theorem dX0_count_92 : decode cX0_count 92 = .ok (.getfield 267, 3) := dk_180 1 11 (dk_at dksX0_count_4 5 rfl rfl)
theorem dX0_count_95 : decode cX0_count 95 = .ok (.ifnonnull 8, 3) := dk_199 0 8 (dk_at dksX0_count_4 8 rfl rfl)
theorem dX0_count_98 : decode cX0_count 98 = .ok (.bipush (-4), 2) := dk_16 252 (dk_at dksX0_count_4 11 rfl rfl)
theorem dX0_count_100 : decode cX0_count 100 = .ok (.goto 12, 3) := dk_167 0 12 (dk_at dksX0_count_4 13 rfl rfl)
theorem dX0_count_103 : decode cX0_count 103 = .ok (.aload_n 0, 1) := dk_42 (dk_at dksX0_count_4 16 rfl rfl)
theorem dX0_count_104 : decode cX0_count 104 = .ok (.getfield 257, 3) := dk_180 1 1 (dk_at dksX0_count_4 17 rfl rfl)
theorem dX0_count_107 : decode cX0_count 107 = .ok (.iconst 0, 1) := dk_3 (dk_at dksX0_count_4 20 rfl rfl)
theorem dX0_count_108 : decode cX0_count 108 = .ok (.aaload, 1) := dk_50 (dk_at dksX0_count_4 21 rfl rfl)
theorem dX0_count_109 : decode cX0_count 109 = .ok (.getfield 271, 3) := dk_180 1 15 (dk_at dksX0_count_5 0 rfl rfl)
theorem dX0_count_112 : decode cX0_count 112 = .ok (.ireturn, 1) := dk_172 (dk_at dksX0_count_5 3 rfl rfl)
theorem dX0_count_113 : decode cX0_count 113 = .ok (.aload_n 0, 1) := dk_42 (dk_at dksX0_count_5 4 rfl rfl)
theorem dX0_count_114 : decode cX0_count 114 = .ok (.getfield 35, 3) := dk_180 0 35 (dk_at dksX0_count_5 5 rfl rfl)
theorem dX0_count_117 : decode cX0_count 117 = .ok (.invokevirtual 306, 3) := dk_182 1 50 (dk_at dksX0_count_5 8 rfl rfl)
theorem dX0_count_120 : decode cX0_count 120 = .ok (.ireturn, 1) := dk_172 (dk_at dksX0_count_5 11 rfl rfl)
theorem dX0_count_121 : decode cX0_count 121 = .ok (.aload_n 0, 1) := dk_42 (dk_at dksX0_count_5 12 rfl rfl)
theorem dX0_count_122 : decode cX0_count 122 = .ok (.getfield 35, 3) := dk_180 0 35 (dk_at dksX0_count_5 13 rfl rfl)
theorem dX0_count_125 : decode cX0_count 125 = .ok (.invokevirtual 309, 3) := dk_182 1 53 (dk_at dksX0_count_5 16 rfl rfl)
theorem dX0_count_128 : decode cX0_count 128 = .ok (.ireturn, 1) := dk_172 (dk_at dksX0_count_5 19 rfl rfl)
theorem dX0_count_129 : decode cX0_count 129 = .ok (.iconst (-1), 1) := dk_2 (dk_at dksX0_count_5 20 rfl rfl)
theorem dX0_count_130 : decode cX0_count 130 = .ok (.ireturn, 1) := dk_172 (dk_at dksX0_count_5 21 rfl rfl)
theorem q68 : (Jvm.Cond.initialized "TrapdoorVotes") ∈ lw_all := lw_g (lw_at lw_m1 1 rfl) rfl
theorem q91 : (Jvm.Cond.instanceMethod ({ cls := "TrapdoorVotes", name := "feed", desc := "(I)I" } : Jvm.MethodName)) ∈ lw_all := lw_g (lw_at lw_m1 24 rfl) rfl
theorem q92 : (Jvm.Cond.selects "TrapdoorVotes" ({ cls := "TrapdoorVotes", name := "feed", desc := "(I)I" } : Jvm.MethodName) ({ cls := "TrapdoorVotes", name := "feed", desc := "(I)I" } : Jvm.MethodName)) ∈ lw_all := lw_g (lw_at lw_m1 25 rfl) rfl
theorem q93 : (Jvm.Cond.code ({ cls := "TrapdoorVotes", name := "feed", desc := "(I)I" } : Jvm.MethodName) prog_1_method_4_code (2 : Nat) (Option.some Jvm.ClassFile.FieldType.int)) ∈ lw_all := lw_g (lw_at lw_m1 26 rfl) rfl
theorem q94 : (Jvm.Cond.constantLong "TrapdoorVotes" (9 : Nat) (127 : Int64)) ∈ lw_all := lw_g (lw_at lw_m1 27 rfl) rfl
theorem q95 : (Jvm.Cond.methodLink "TrapdoorVotes" (5 : Nat) ({ cls := "TrapdoorVotes", name := "isIn", desc := "(JJJ)Z" } : Jvm.MethodName)) ∈ lw_all := lw_g (lw_at lw_m1 28 rfl) rfl
theorem q96 : (Jvm.Cond.static ({ cls := "TrapdoorVotes", name := "isIn", desc := "(JJJ)Z" } : Jvm.MethodName)) ∈ lw_all := lw_g (lw_at lw_m1 29 rfl) rfl
theorem q97 : (Jvm.Cond.code ({ cls := "TrapdoorVotes", name := "isIn", desc := "(JJJ)Z" } : Jvm.MethodName) prog_1_method_1_code (6 : Nat) (Option.some Jvm.ClassFile.FieldType.boolean)) ∈ lw_all := lw_g (lw_at lw_m1 30 rfl) rfl
theorem q99 : (Jvm.Cond.instanceMethod ({ cls := "TrapdoorVotes", name := "end", desc := "(I)I" } : Jvm.MethodName)) ∈ lw_all := lw_g (lw_at lw_m1 32 rfl) rfl
theorem q100 : (Jvm.Cond.selects "TrapdoorVotes" ({ cls := "TrapdoorVotes", name := "end", desc := "(I)I" } : Jvm.MethodName) ({ cls := "TrapdoorVotes", name := "end", desc := "(I)I" } : Jvm.MethodName)) ∈ lw_all := lw_g (lw_at lw_m1 33 rfl) rfl
theorem q101 : (Jvm.Cond.code ({ cls := "TrapdoorVotes", name := "end", desc := "(I)I" } : Jvm.MethodName) prog_1_method_5_code (3 : Nat) (Option.some Jvm.ClassFile.FieldType.int)) ∈ lw_all := lw_g (lw_at lw_m1 34 rfl) rfl
theorem q103 : (Jvm.Cond.instanceMethod ({ cls := "TrapdoorVotes", name := "text", desc := "()I" } : Jvm.MethodName)) ∈ lw_all := lw_g (lw_at lw_m1 36 rfl) rfl
theorem q104 : (Jvm.Cond.selects "TrapdoorVotes" ({ cls := "TrapdoorVotes", name := "text", desc := "()I" } : Jvm.MethodName) ({ cls := "TrapdoorVotes", name := "text", desc := "()I" } : Jvm.MethodName)) ∈ lw_all := lw_g (lw_at lw_m1 37 rfl) rfl
theorem q105 : (Jvm.Cond.codeWith ({ cls := "TrapdoorVotes", name := "text", desc := "()I" } : Jvm.MethodName) prog_1_method_6_code (3 : Nat) (Option.some Jvm.ClassFile.FieldType.int) [((26 : Nat), (84 : Nat), (85 : Nat), (67 : Nat))]) ∈ lw_all := lw_g (lw_at lw_m1 38 rfl) rfl
theorem q106 : (Jvm.Cond.classLink "TrapdoorVotes" (67 : Nat) "TrapdoorVotes$Fault") ∈ lw_all := lw_g (lw_at lw_m1 39 rfl) rfl
theorem q107 : (Jvm.Cond.methodLink "TrapdoorVotes" (19 : Nat) ({ cls := "java/lang/System", name := "arraycopy", desc := "(Ljava/lang/Object;ILjava/lang/Object;II)V" } : Jvm.MethodName)) ∈ lw_all := lw_g (lw_at lw_m1 40 rfl) rfl
theorem q110 : (Jvm.Cond.classLink "TrapdoorVotes" (25 : Nat) "TrapdoorVotes$Reader") ∈ lw_all := lw_g (lw_at lw_m1 43 rfl) rfl
theorem q112 : (Jvm.Cond.methodLink "TrapdoorVotes" (27 : Nat) ({ cls := "TrapdoorVotes$Reader", name := "<init>", desc := "([B)V" } : Jvm.MethodName)) ∈ lw_all := lw_g (lw_at lw_m1 45 rfl) rfl
theorem q129 : (Jvm.Cond.fieldLinkNest "TrapdoorVotes" (102 : Nat) "TrapdoorVotes$Stage" "squares" "[[I" "TrapdoorVotes") ∈ lw_tbl := lw_at lw_m1 62 rfl
theorem q132 : (Jvm.Cond.fieldLinkNest "TrapdoorVotes" (116 : Nat) "TrapdoorVotes$Stage" "hands" "[[I" "TrapdoorVotes") ∈ lw_tbl := lw_at lw_m1 65 rfl
theorem q135 : (Jvm.Cond.fieldLinkNest "TrapdoorVotes" (128 : Nat) "TrapdoorVotes$Stage" "ministers" "[[I" "TrapdoorVotes") ∈ lw_tbl := lw_at lw_m1 68 rfl
theorem q138 : (Jvm.Cond.fieldLinkNest "TrapdoorVotes" (75 : Nat) "TrapdoorVotes$Stage" "handMany" "I" "TrapdoorVotes") ∈ lw_tbl := lw_at lw_m1 71 rfl
theorem q141 : (Jvm.Cond.fieldLinkNest "TrapdoorVotes" (78 : Nat) "TrapdoorVotes$Stage" "ministerMany" "I" "TrapdoorVotes") ∈ lw_tbl := lw_at lw_m1 74 rfl
theorem q143 : (Jvm.Cond.fieldLinkNest "TrapdoorVotes" (83 : Nat) "TrapdoorVotes$Stage" "turn" "I" "TrapdoorVotes") ∈ lw_tbl := lw_at lw_m1 76 rfl
theorem q145 : (Jvm.Cond.fieldLinkNest "TrapdoorVotes" (154 : Nat) "TrapdoorVotes$Stage" "falls" "I" "TrapdoorVotes") ∈ lw_tbl := lw_at lw_m1 78 rfl
theorem q249 : (Jvm.Cond.fieldLinkNest "TrapdoorVotes" (69 : Nat) "TrapdoorVotes$Fault" "code" "I" "TrapdoorVotes") ∈ lw_tbl := lw_at lw_m1 182 rfl
theorem q251 : (Jvm.Cond.fieldLinkNest "TrapdoorVotes" (72 : Nat) "TrapdoorVotes$Fault" "place" "I" "TrapdoorVotes") ∈ lw_tbl := lw_at lw_m1 184 rfl
theorem q271 : (Jvm.Cond.fieldLinkNest "TrapdoorVotes" (39 : Nat) "TrapdoorVotes$Reader" "stage" "LTrapdoorVotes$Stage;" "TrapdoorVotes") ∈ lw_tbl := lw_at lw_m1 204 rfl
theorem q273 : (Jvm.Cond.fieldLinkNest "TrapdoorVotes" (64 : Nat) "TrapdoorVotes$Reader" "lines" "I" "TrapdoorVotes") ∈ lw_tbl := lw_at lw_m1 206 rfl
theorem q296 : (Jvm.Cond.methodLink "TrapdoorVotes" (31 : Nat) ({ cls := "TrapdoorVotes$Reader", name := "all", desc := "()V" } : Jvm.MethodName)) ∈ lw_all := lw_g (lw_at lw_m1 229 rfl) rfl
theorem q305 : (Jvm.Cond.laysStatic "TrapdoorVotes" "NAMES" "[Ljava/lang/String;") ∈ lw_tbl := lw_at lw_m1 238 rfl
theorem q371 : (Jvm.Cond.static ({ cls := "TrapdoorVotes", name := "has", desc := "(II)Z" } : Jvm.MethodName)) ∈ lw_all := lw_g (lw_at lw_m2 64 rfl) rfl
theorem q372 : (Jvm.Cond.code ({ cls := "TrapdoorVotes", name := "has", desc := "(II)Z" } : Jvm.MethodName) prog_1_method_2_code (2 : Nat) (Option.some Jvm.ClassFile.FieldType.boolean)) ∈ lw_all := lw_g (lw_at lw_m2 65 rfl) rfl
theorem q378 : (Jvm.Cond.static ({ cls := "TrapdoorVotes", name := "isSquare", desc := "(I)Z" } : Jvm.MethodName)) ∈ lw_all := lw_g (lw_at lw_m2 71 rfl) rfl
theorem q379 : (Jvm.Cond.code ({ cls := "TrapdoorVotes", name := "isSquare", desc := "(I)Z" } : Jvm.MethodName) prog_1_method_3_code (1 : Nat) (Option.some Jvm.ClassFile.FieldType.boolean)) ∈ lw_all := lw_g (lw_at lw_m2 72 rfl) rfl
theorem q380 : (Jvm.Cond.constantLong "TrapdoorVotes" (3 : Nat) (5 : Int64)) ∈ lw_all := lw_g (lw_at lw_m2 73 rfl) rfl
theorem q385 : (Jvm.Cond.methodLink "TrapdoorVotes" (42 : Nat) ({ cls := "TrapdoorVotes$Stage", name := "takes", desc := "(LTrapdoorVotes$Stage;)V" } : Jvm.MethodName)) ∈ lw_all := lw_g (lw_at lw_m2 78 rfl) rfl
theorem q391 : (Jvm.Cond.instanceMethod ({ cls := "TrapdoorVotes", name := "fault", desc := "()I" } : Jvm.MethodName)) ∈ lw_all := lw_g (lw_at lw_m2 84 rfl) rfl
theorem q392 : (Jvm.Cond.selects "TrapdoorVotes" ({ cls := "TrapdoorVotes", name := "fault", desc := "()I" } : Jvm.MethodName) ({ cls := "TrapdoorVotes", name := "fault", desc := "()I" } : Jvm.MethodName)) ∈ lw_all := lw_g (lw_at lw_m2 85 rfl) rfl
theorem q393 : (Jvm.Cond.code ({ cls := "TrapdoorVotes", name := "fault", desc := "()I" } : Jvm.MethodName) prog_1_method_7_code (1 : Nat) (Option.some Jvm.ClassFile.FieldType.int)) ∈ lw_all := lw_g (lw_at lw_m2 86 rfl) rfl
theorem q395 : (Jvm.Cond.instanceMethod ({ cls := "TrapdoorVotes", name := "rule", desc := "(I)I" } : Jvm.MethodName)) ∈ lw_all := lw_g (lw_at lw_m2 88 rfl) rfl
theorem q396 : (Jvm.Cond.selects "TrapdoorVotes" ({ cls := "TrapdoorVotes", name := "rule", desc := "(I)I" } : Jvm.MethodName) ({ cls := "TrapdoorVotes", name := "rule", desc := "(I)I" } : Jvm.MethodName)) ∈ lw_all := lw_g (lw_at lw_m2 89 rfl) rfl
theorem q397 : (Jvm.Cond.code ({ cls := "TrapdoorVotes", name := "rule", desc := "(I)I" } : Jvm.MethodName) prog_1_method_12_code (2 : Nat) (Option.some Jvm.ClassFile.FieldType.int)) ∈ lw_all := lw_g (lw_at lw_m2 90 rfl) rfl
theorem q398 : (Jvm.Cond.methodLink "TrapdoorVotes" (86 : Nat) ({ cls := "TrapdoorVotes$Stage", name := "standing", desc := "()I" } : Jvm.MethodName)) ∈ lw_all := lw_g (lw_at lw_m2 91 rfl) rfl
theorem q406 : (Jvm.Cond.methodLink "TrapdoorVotes" (90 : Nat) ({ cls := "TrapdoorVotes$Stage", name := "drawn", desc := "()I" } : Jvm.MethodName)) ∈ lw_all := lw_g (lw_at lw_m2 99 rfl) rfl
theorem q417 : (Jvm.Cond.methodLink "TrapdoorVotes" (93 : Nat) ({ cls := "TrapdoorVotes$Stage", name := "temper", desc := "()I" } : Jvm.MethodName)) ∈ lw_all := lw_g (lw_at lw_m2 110 rfl) rfl
theorem q422 : (Jvm.Cond.instanceMethod ({ cls := "TrapdoorVotes", name := "square", desc := "(II)I" } : Jvm.MethodName)) ∈ lw_all := lw_g (lw_at lw_m2 115 rfl) rfl
theorem q423 : (Jvm.Cond.selects "TrapdoorVotes" ({ cls := "TrapdoorVotes", name := "square", desc := "(II)I" } : Jvm.MethodName) ({ cls := "TrapdoorVotes", name := "square", desc := "(II)I" } : Jvm.MethodName)) ∈ lw_all := lw_g (lw_at lw_m2 116 rfl) rfl
theorem q424 : (Jvm.Cond.code ({ cls := "TrapdoorVotes", name := "square", desc := "(II)I" } : Jvm.MethodName) prog_1_method_13_code (3 : Nat) (Option.some Jvm.ClassFile.FieldType.int)) ∈ lw_all := lw_g (lw_at lw_m2 117 rfl) rfl
theorem q425 : (Jvm.Cond.methodLink "TrapdoorVotes" (96 : Nat) ({ cls := "TrapdoorVotes", name := "isSquare", desc := "(I)Z" } : Jvm.MethodName)) ∈ lw_all := lw_g (lw_at lw_m2 118 rfl) rfl
theorem q426 : (Jvm.Cond.constantLong "TrapdoorVotes" (100 : Nat) (3 : Int64)) ∈ lw_all := lw_g (lw_at lw_m2 119 rfl) rfl
theorem q427 : (Jvm.Cond.methodLink "TrapdoorVotes" (106 : Nat) ({ cls := "TrapdoorVotes$Stage", name := "handsAt", desc := "(I)I" } : Jvm.MethodName)) ∈ lw_all := lw_g (lw_at lw_m2 120 rfl) rfl
theorem q431 : (Jvm.Cond.methodLink "TrapdoorVotes" (110 : Nat) ({ cls := "TrapdoorVotes$Stage", name := "ministersAt", desc := "(I)I" } : Jvm.MethodName)) ∈ lw_all := lw_g (lw_at lw_m2 124 rfl) rfl
theorem q436 : (Jvm.Cond.instanceMethod ({ cls := "TrapdoorVotes", name := "hand", desc := "(II)I" } : Jvm.MethodName)) ∈ lw_all := lw_g (lw_at lw_m2 129 rfl) rfl
theorem q437 : (Jvm.Cond.selects "TrapdoorVotes" ({ cls := "TrapdoorVotes", name := "hand", desc := "(II)I" } : Jvm.MethodName) ({ cls := "TrapdoorVotes", name := "hand", desc := "(II)I" } : Jvm.MethodName)) ∈ lw_all := lw_g (lw_at lw_m2 130 rfl) rfl
theorem q438 : (Jvm.Cond.code ({ cls := "TrapdoorVotes", name := "hand", desc := "(II)I" } : Jvm.MethodName) prog_1_method_14_code (3 : Nat) (Option.some Jvm.ClassFile.FieldType.int)) ∈ lw_all := lw_g (lw_at lw_m2 131 rfl) rfl
theorem q439 : (Jvm.Cond.methodLink "TrapdoorVotes" (113 : Nat) ({ cls := "TrapdoorVotes", name := "isHand", desc := "(I)Z" } : Jvm.MethodName)) ∈ lw_all := lw_g (lw_at lw_m2 132 rfl) rfl
theorem q440 : (Jvm.Cond.privateMethod ({ cls := "TrapdoorVotes", name := "isHand", desc := "(I)Z" } : Jvm.MethodName)) ∈ lw_tbl := lw_at lw_m2 133 rfl
theorem q441 : (Jvm.Cond.instanceMethod ({ cls := "TrapdoorVotes", name := "isHand", desc := "(I)Z" } : Jvm.MethodName)) ∈ lw_all := lw_g (lw_at lw_m2 134 rfl) rfl
theorem q442 : (Jvm.Cond.instantiable "TrapdoorVotes" (17 : Nat)) ∈ lw_all := lw_g (lw_at lw_m2 135 rfl) rfl
theorem q443 : (Jvm.Cond.code ({ cls := "TrapdoorVotes", name := "isHand", desc := "(I)Z" } : Jvm.MethodName) prog_1_method_8_code (2 : Nat) (Option.some Jvm.ClassFile.FieldType.boolean)) ∈ lw_all := lw_g (lw_at lw_m2 136 rfl) rfl
theorem q444 : (Jvm.Cond.methodLink "TrapdoorVotes" (119 : Nat) ({ cls := "TrapdoorVotes$Stage", name := "wants", desc := "(I)I" } : Jvm.MethodName)) ∈ lw_all := lw_g (lw_at lw_m2 137 rfl) rfl
theorem q446 : (Jvm.Cond.instanceMethod ({ cls := "TrapdoorVotes", name := "minister", desc := "(II)I" } : Jvm.MethodName)) ∈ lw_all := lw_g (lw_at lw_m2 139 rfl) rfl
theorem q447 : (Jvm.Cond.selects "TrapdoorVotes" ({ cls := "TrapdoorVotes", name := "minister", desc := "(II)I" } : Jvm.MethodName) ({ cls := "TrapdoorVotes", name := "minister", desc := "(II)I" } : Jvm.MethodName)) ∈ lw_all := lw_g (lw_at lw_m2 140 rfl) rfl
theorem q448 : (Jvm.Cond.code ({ cls := "TrapdoorVotes", name := "minister", desc := "(II)I" } : Jvm.MethodName) prog_1_method_15_code (6 : Nat) (Option.some Jvm.ClassFile.FieldType.int)) ∈ lw_all := lw_g (lw_at lw_m2 141 rfl) rfl
theorem q449 : (Jvm.Cond.methodLink "TrapdoorVotes" (122 : Nat) ({ cls := "TrapdoorVotes", name := "isMinister", desc := "(I)Z" } : Jvm.MethodName)) ∈ lw_all := lw_g (lw_at lw_m2 142 rfl) rfl
theorem q450 : (Jvm.Cond.privateMethod ({ cls := "TrapdoorVotes", name := "isMinister", desc := "(I)Z" } : Jvm.MethodName)) ∈ lw_tbl := lw_at lw_m2 143 rfl
theorem q451 : (Jvm.Cond.instanceMethod ({ cls := "TrapdoorVotes", name := "isMinister", desc := "(I)Z" } : Jvm.MethodName)) ∈ lw_all := lw_g (lw_at lw_m2 144 rfl) rfl
theorem q452 : (Jvm.Cond.code ({ cls := "TrapdoorVotes", name := "isMinister", desc := "(I)Z" } : Jvm.MethodName) prog_1_method_9_code (2 : Nat) (Option.some Jvm.ClassFile.FieldType.boolean)) ∈ lw_all := lw_g (lw_at lw_m2 145 rfl) rfl
theorem q453 : (Jvm.Cond.methodLink "TrapdoorVotes" (125 : Nat) ({ cls := "TrapdoorVotes$Stage", name := "isDown", desc := "(I)Z" } : Jvm.MethodName)) ∈ lw_all := lw_g (lw_at lw_m2 146 rfl) rfl
theorem q454 : (Jvm.Cond.methodLink "TrapdoorVotes" (131 : Nat) ({ cls := "TrapdoorVotes", name := "has", desc := "(II)Z" } : Jvm.MethodName)) ∈ lw_all := lw_g (lw_at lw_m2 147 rfl) rfl
theorem q455 : (Jvm.Cond.methodLink "TrapdoorVotes" (135 : Nat) ({ cls := "TrapdoorVotes$Stage", name := "angered", desc := "(II)I" } : Jvm.MethodName)) ∈ lw_all := lw_g (lw_at lw_m2 148 rfl) rfl
theorem q460 : (Jvm.Cond.laysStatic "TrapdoorVotes" "KINDS" "[LTrapdoorVotes$Plain;") ∈ lw_tbl := lw_at lw_m2 153 rfl
theorem q482 : (Jvm.Cond.instanceMethod ({ cls := "TrapdoorVotes", name := "alter", desc := "(III)I" } : Jvm.MethodName)) ∈ lw_all := lw_g (lw_at lw_m2 175 rfl) rfl
theorem q483 : (Jvm.Cond.selects "TrapdoorVotes" ({ cls := "TrapdoorVotes", name := "alter", desc := "(III)I" } : Jvm.MethodName) ({ cls := "TrapdoorVotes", name := "alter", desc := "(III)I" } : Jvm.MethodName)) ∈ lw_all := lw_g (lw_at lw_m2 176 rfl) rfl
theorem q484 : (Jvm.Cond.code ({ cls := "TrapdoorVotes", name := "alter", desc := "(III)I" } : Jvm.MethodName) prog_1_method_18_code (4 : Nat) (Option.some Jvm.ClassFile.FieldType.int)) ∈ lw_all := lw_g (lw_at lw_m2 177 rfl) rfl
theorem q485 : (Jvm.Cond.methodLink "TrapdoorVotes" (144 : Nat) ({ cls := "TrapdoorVotes", name := "altered", desc := "(III)I" } : Jvm.MethodName)) ∈ lw_all := lw_g (lw_at lw_m2 178 rfl) rfl
theorem q486 : (Jvm.Cond.privateMethod ({ cls := "TrapdoorVotes", name := "altered", desc := "(III)I" } : Jvm.MethodName)) ∈ lw_tbl := lw_at lw_m2 179 rfl
theorem q487 : (Jvm.Cond.instanceMethod ({ cls := "TrapdoorVotes", name := "altered", desc := "(III)I" } : Jvm.MethodName)) ∈ lw_all := lw_g (lw_at lw_m2 180 rfl) rfl
theorem q488 : (Jvm.Cond.code ({ cls := "TrapdoorVotes", name := "altered", desc := "(III)I" } : Jvm.MethodName) prog_1_method_17_code (5 : Nat) (Option.some Jvm.ClassFile.FieldType.int)) ∈ lw_all := lw_g (lw_at lw_m2 181 rfl) rfl
theorem q489 : (Jvm.Cond.methodLink "TrapdoorVotes" (141 : Nat) ({ cls := "TrapdoorVotes", name := "isGood", desc := "(II)Z" } : Jvm.MethodName)) ∈ lw_all := lw_g (lw_at lw_m2 182 rfl) rfl
theorem q490 : (Jvm.Cond.static ({ cls := "TrapdoorVotes", name := "isGood", desc := "(II)Z" } : Jvm.MethodName)) ∈ lw_all := lw_g (lw_at lw_m2 183 rfl) rfl
theorem q491 : (Jvm.Cond.code ({ cls := "TrapdoorVotes", name := "isGood", desc := "(II)Z" } : Jvm.MethodName) prog_1_method_16_code (2 : Nat) (Option.some Jvm.ClassFile.FieldType.boolean)) ∈ lw_all := lw_g (lw_at lw_m2 184 rfl) rfl
theorem q492 : (Jvm.Cond.constantLong "TrapdoorVotes" (139 : Nat) (99 : Int64)) ∈ lw_all := lw_g (lw_at lw_m2 185 rfl) rfl
theorem q494 : (Jvm.Cond.instanceMethod ({ cls := "TrapdoorVotes", name := "tread", desc := "(II)I" } : Jvm.MethodName)) ∈ lw_all := lw_g (lw_at lw_m2 187 rfl) rfl
theorem q495 : (Jvm.Cond.selects "TrapdoorVotes" ({ cls := "TrapdoorVotes", name := "tread", desc := "(II)I" } : Jvm.MethodName) ({ cls := "TrapdoorVotes", name := "tread", desc := "(II)I" } : Jvm.MethodName)) ∈ lw_all := lw_g (lw_at lw_m2 188 rfl) rfl
theorem q496 : (Jvm.Cond.code ({ cls := "TrapdoorVotes", name := "tread", desc := "(II)I" } : Jvm.MethodName) prog_1_method_19_code (4 : Nat) (Option.some Jvm.ClassFile.FieldType.int)) ∈ lw_all := lw_g (lw_at lw_m2 189 rfl) rfl
theorem q497 : (Jvm.Cond.constantLong "TrapdoorVotes" (148 : Nat) (9 : Int64)) ∈ lw_all := lw_g (lw_at lw_m2 190 rfl) rfl
theorem q499 : (Jvm.Cond.instanceMethod ({ cls := "TrapdoorVotes", name := "step", desc := "(II)I" } : Jvm.MethodName)) ∈ lw_all := lw_g (lw_at lw_m2 192 rfl) rfl
theorem q500 : (Jvm.Cond.selects "TrapdoorVotes" ({ cls := "TrapdoorVotes", name := "step", desc := "(II)I" } : Jvm.MethodName) ({ cls := "TrapdoorVotes", name := "step", desc := "(II)I" } : Jvm.MethodName)) ∈ lw_all := lw_g (lw_at lw_m2 193 rfl) rfl
theorem q501 : (Jvm.Cond.code ({ cls := "TrapdoorVotes", name := "step", desc := "(II)I" } : Jvm.MethodName) prog_1_method_20_code (4 : Nat) (Option.some Jvm.ClassFile.FieldType.int)) ∈ lw_all := lw_g (lw_at lw_m2 194 rfl) rfl
theorem q503 : (Jvm.Cond.instanceMethod ({ cls := "TrapdoorVotes", name := "bolt", desc := "(III)I" } : Jvm.MethodName)) ∈ lw_all := lw_g (lw_at lw_m2 196 rfl) rfl
theorem q504 : (Jvm.Cond.selects "TrapdoorVotes" ({ cls := "TrapdoorVotes", name := "bolt", desc := "(III)I" } : Jvm.MethodName) ({ cls := "TrapdoorVotes", name := "bolt", desc := "(III)I" } : Jvm.MethodName)) ∈ lw_all := lw_g (lw_at lw_m2 197 rfl) rfl
theorem q505 : (Jvm.Cond.code ({ cls := "TrapdoorVotes", name := "bolt", desc := "(III)I" } : Jvm.MethodName) prog_1_method_21_code (6 : Nat) (Option.some Jvm.ClassFile.FieldType.int)) ∈ lw_all := lw_g (lw_at lw_m2 198 rfl) rfl
theorem q506 : (Jvm.Cond.constantLong "TrapdoorVotes" (150 : Nat) (20 : Int64)) ∈ lw_all := lw_g (lw_at lw_m2 199 rfl) rfl
theorem q508 : (Jvm.Cond.instanceMethod ({ cls := "TrapdoorVotes", name := "turns", desc := "(I)I" } : Jvm.MethodName)) ∈ lw_all := lw_g (lw_at lw_m2 201 rfl) rfl
theorem q509 : (Jvm.Cond.selects "TrapdoorVotes" ({ cls := "TrapdoorVotes", name := "turns", desc := "(I)I" } : Jvm.MethodName) ({ cls := "TrapdoorVotes", name := "turns", desc := "(I)I" } : Jvm.MethodName)) ∈ lw_all := lw_g (lw_at lw_m2 202 rfl) rfl
theorem q510 : (Jvm.Cond.code ({ cls := "TrapdoorVotes", name := "turns", desc := "(I)I" } : Jvm.MethodName) prog_1_method_22_code (3 : Nat) (Option.some Jvm.ClassFile.FieldType.int)) ∈ lw_all := lw_g (lw_at lw_m2 203 rfl) rfl
theorem q511 : (Jvm.Cond.constantLong "TrapdoorVotes" (152 : Nat) (30 : Int64)) ∈ lw_all := lw_g (lw_at lw_m2 204 rfl) rfl
theorem q512 : (Jvm.Cond.methodLink "TrapdoorVotes" (157 : Nat) ({ cls := "TrapdoorVotes$Stage", name := "turnGoes", desc := "(Z)V" } : Jvm.MethodName)) ∈ lw_all := lw_g (lw_at lw_m2 205 rfl) rfl
theorem q530 : (Jvm.Cond.instanceMethod ({ cls := "TrapdoorVotes", name := "runs", desc := "(II)I" } : Jvm.MethodName)) ∈ lw_all := lw_g (lw_at lw_m2 223 rfl) rfl
theorem q531 : (Jvm.Cond.selects "TrapdoorVotes" ({ cls := "TrapdoorVotes", name := "runs", desc := "(II)I" } : Jvm.MethodName) ({ cls := "TrapdoorVotes", name := "runs", desc := "(II)I" } : Jvm.MethodName)) ∈ lw_all := lw_g (lw_at lw_m2 224 rfl) rfl
theorem q532 : (Jvm.Cond.code ({ cls := "TrapdoorVotes", name := "runs", desc := "(II)I" } : Jvm.MethodName) prog_1_method_24_code (4 : Nat) (Option.some Jvm.ClassFile.FieldType.int)) ∈ lw_all := lw_g (lw_at lw_m2 225 rfl) rfl
theorem q533 : (Jvm.Cond.methodLink "TrapdoorVotes" (167 : Nat) ({ cls := "TrapdoorVotes", name := "isLong", desc := "(I)Z" } : Jvm.MethodName)) ∈ lw_all := lw_g (lw_at lw_m2 226 rfl) rfl
theorem q534 : (Jvm.Cond.static ({ cls := "TrapdoorVotes", name := "isLong", desc := "(I)Z" } : Jvm.MethodName)) ∈ lw_all := lw_g (lw_at lw_m2 227 rfl) rfl
theorem q535 : (Jvm.Cond.code ({ cls := "TrapdoorVotes", name := "isLong", desc := "(I)Z" } : Jvm.MethodName) prog_1_method_10_code (1 : Nat) (Option.some Jvm.ClassFile.FieldType.boolean)) ∈ lw_all := lw_g (lw_at lw_m2 228 rfl) rfl
theorem q536 : (Jvm.Cond.constantLong "TrapdoorVotes" (81 : Nat) (60 : Int64)) ∈ lw_all := lw_g (lw_at lw_m2 229 rfl) rfl
theorem q537 : (Jvm.Cond.methodLink "TrapdoorVotes" (170 : Nat) ({ cls := "TrapdoorVotes", name := "fallsOf", desc := "(LTrapdoorVotes$Stage;I)I" } : Jvm.MethodName)) ∈ lw_all := lw_g (lw_at lw_m2 230 rfl) rfl
theorem q538 : (Jvm.Cond.privateMethod ({ cls := "TrapdoorVotes", name := "fallsOf", desc := "(LTrapdoorVotes$Stage;I)I" } : Jvm.MethodName)) ∈ lw_tbl := lw_at lw_m2 231 rfl
theorem q539 : (Jvm.Cond.instanceMethod ({ cls := "TrapdoorVotes", name := "fallsOf", desc := "(LTrapdoorVotes$Stage;I)I" } : Jvm.MethodName)) ∈ lw_all := lw_g (lw_at lw_m2 232 rfl) rfl
theorem q540 : (Jvm.Cond.code ({ cls := "TrapdoorVotes", name := "fallsOf", desc := "(LTrapdoorVotes$Stage;I)I" } : Jvm.MethodName) prog_1_method_23_code (4 : Nat) (Option.some Jvm.ClassFile.FieldType.int)) ∈ lw_all := lw_g (lw_at lw_m2 233 rfl) rfl
theorem q542 : (Jvm.Cond.instanceMethod ({ cls := "TrapdoorVotes", name := "ahead", desc := "(II)I" } : Jvm.MethodName)) ∈ lw_all := lw_g (lw_at lw_m2 235 rfl) rfl
theorem q543 : (Jvm.Cond.selects "TrapdoorVotes" ({ cls := "TrapdoorVotes", name := "ahead", desc := "(II)I" } : Jvm.MethodName) ({ cls := "TrapdoorVotes", name := "ahead", desc := "(II)I" } : Jvm.MethodName)) ∈ lw_all := lw_g (lw_at lw_m2 236 rfl) rfl
theorem q544 : (Jvm.Cond.code ({ cls := "TrapdoorVotes", name := "ahead", desc := "(II)I" } : Jvm.MethodName) prog_1_method_25_code (3 : Nat) (Option.some Jvm.ClassFile.FieldType.int)) ∈ lw_all := lw_g (lw_at lw_m2 237 rfl) rfl
theorem q546 : (Jvm.Cond.instanceMethod ({ cls := "TrapdoorVotes", name := "lasts", desc := "(I)I" } : Jvm.MethodName)) ∈ lw_all := lw_g (lw_at lw_m2 239 rfl) rfl
theorem q547 : (Jvm.Cond.selects "TrapdoorVotes" ({ cls := "TrapdoorVotes", name := "lasts", desc := "(I)I" } : Jvm.MethodName) ({ cls := "TrapdoorVotes", name := "lasts", desc := "(I)I" } : Jvm.MethodName)) ∈ lw_all := lw_g (lw_at lw_m3 0 rfl) rfl
theorem q548 : (Jvm.Cond.code ({ cls := "TrapdoorVotes", name := "lasts", desc := "(I)I" } : Jvm.MethodName) prog_1_method_27_code (2 : Nat) (Option.some Jvm.ClassFile.FieldType.int)) ∈ lw_all := lw_g (lw_at lw_m3 1 rfl) rfl
theorem q549 : (Jvm.Cond.methodLink "TrapdoorVotes" (174 : Nat) ({ cls := "TrapdoorVotes", name := "lastsOf", desc := "(LTrapdoorVotes$Stage;I)I" } : Jvm.MethodName)) ∈ lw_all := lw_g (lw_at lw_m3 2 rfl) rfl
theorem q550 : (Jvm.Cond.privateMethod ({ cls := "TrapdoorVotes", name := "lastsOf", desc := "(LTrapdoorVotes$Stage;I)I" } : Jvm.MethodName)) ∈ lw_tbl := lw_at lw_m3 3 rfl
theorem q551 : (Jvm.Cond.instanceMethod ({ cls := "TrapdoorVotes", name := "lastsOf", desc := "(LTrapdoorVotes$Stage;I)I" } : Jvm.MethodName)) ∈ lw_all := lw_g (lw_at lw_m3 4 rfl) rfl
theorem q552 : (Jvm.Cond.code ({ cls := "TrapdoorVotes", name := "lastsOf", desc := "(LTrapdoorVotes$Stage;I)I" } : Jvm.MethodName) prog_1_method_26_code (4 : Nat) (Option.some Jvm.ClassFile.FieldType.int)) ∈ lw_all := lw_g (lw_at lw_m3 5 rfl) rfl
theorem q554 : (Jvm.Cond.instanceMethod ({ cls := "TrapdoorVotes", name := "stand", desc := "(II)I" } : Jvm.MethodName)) ∈ lw_all := lw_g (lw_at lw_m3 7 rfl) rfl
theorem q555 : (Jvm.Cond.selects "TrapdoorVotes" ({ cls := "TrapdoorVotes", name := "stand", desc := "(II)I" } : Jvm.MethodName) ({ cls := "TrapdoorVotes", name := "stand", desc := "(II)I" } : Jvm.MethodName)) ∈ lw_all := lw_g (lw_at lw_m3 8 rfl) rfl
theorem q556 : (Jvm.Cond.code ({ cls := "TrapdoorVotes", name := "stand", desc := "(II)I" } : Jvm.MethodName) prog_1_method_28_code (8 : Nat) (Option.some Jvm.ClassFile.FieldType.int)) ∈ lw_all := lw_g (lw_at lw_m3 9 rfl) rfl
theorem q557 : (Jvm.Cond.methodLink "TrapdoorVotes" (177 : Nat) ({ cls := "TrapdoorVotes", name := "isPart", desc := "(I)Z" } : Jvm.MethodName)) ∈ lw_all := lw_g (lw_at lw_m3 10 rfl) rfl
theorem q558 : (Jvm.Cond.static ({ cls := "TrapdoorVotes", name := "isPart", desc := "(I)Z" } : Jvm.MethodName)) ∈ lw_all := lw_g (lw_at lw_m3 11 rfl) rfl
theorem q559 : (Jvm.Cond.code ({ cls := "TrapdoorVotes", name := "isPart", desc := "(I)Z" } : Jvm.MethodName) prog_1_method_11_code (1 : Nat) (Option.some Jvm.ClassFile.FieldType.boolean)) ∈ lw_all := lw_g (lw_at lw_m3 12 rfl) rfl
theorem q560 : (Jvm.Cond.methodLink "TrapdoorVotes" (183 : Nat) ({ cls := "java/lang/Math", name := "max", desc := "(II)I" } : Jvm.MethodName)) ∈ lw_all := lw_g (lw_at lw_m3 13 rfl) rfl
theorem q562 : (Jvm.Cond.instanceMethod ({ cls := "TrapdoorVotes", name := "soft", desc := "(II)I" } : Jvm.MethodName)) ∈ lw_all := lw_g (lw_at lw_m3 15 rfl) rfl
theorem q563 : (Jvm.Cond.selects "TrapdoorVotes" ({ cls := "TrapdoorVotes", name := "soft", desc := "(II)I" } : Jvm.MethodName) ({ cls := "TrapdoorVotes", name := "soft", desc := "(II)I" } : Jvm.MethodName)) ∈ lw_all := lw_g (lw_at lw_m3 16 rfl) rfl
theorem q564 : (Jvm.Cond.code ({ cls := "TrapdoorVotes", name := "soft", desc := "(II)I" } : Jvm.MethodName) prog_1_method_29_code (4 : Nat) (Option.some Jvm.ClassFile.FieldType.int)) ∈ lw_all := lw_g (lw_at lw_m3 17 rfl) rfl
theorem q566 : (Jvm.Cond.instanceMethod ({ cls := "TrapdoorVotes", name := "rust", desc := "(II)I" } : Jvm.MethodName)) ∈ lw_all := lw_g (lw_at lw_m3 19 rfl) rfl
theorem q567 : (Jvm.Cond.selects "TrapdoorVotes" ({ cls := "TrapdoorVotes", name := "rust", desc := "(II)I" } : Jvm.MethodName) ({ cls := "TrapdoorVotes", name := "rust", desc := "(II)I" } : Jvm.MethodName)) ∈ lw_all := lw_g (lw_at lw_m3 20 rfl) rfl
theorem q568 : (Jvm.Cond.code ({ cls := "TrapdoorVotes", name := "rust", desc := "(II)I" } : Jvm.MethodName) prog_1_method_30_code (5 : Nat) (Option.some Jvm.ClassFile.FieldType.int)) ∈ lw_all := lw_g (lw_at lw_m3 21 rfl) rfl
theorem q570 : (Jvm.Cond.instanceMethod ({ cls := "TrapdoorVotes", name := "bribe", desc := "(II)I" } : Jvm.MethodName)) ∈ lw_all := lw_g (lw_at lw_m3 23 rfl) rfl
theorem q571 : (Jvm.Cond.selects "TrapdoorVotes" ({ cls := "TrapdoorVotes", name := "bribe", desc := "(II)I" } : Jvm.MethodName) ({ cls := "TrapdoorVotes", name := "bribe", desc := "(II)I" } : Jvm.MethodName)) ∈ lw_all := lw_g (lw_at lw_m3 24 rfl) rfl
theorem q572 : (Jvm.Cond.code ({ cls := "TrapdoorVotes", name := "bribe", desc := "(II)I" } : Jvm.MethodName) prog_1_method_33_code (5 : Nat) (Option.some Jvm.ClassFile.FieldType.int)) ∈ lw_all := lw_g (lw_at lw_m3 25 rfl) rfl
theorem q573 : (Jvm.Cond.methodLink "TrapdoorVotes" (194 : Nat) ({ cls := "TrapdoorVotes", name := "without", desc := "(I)V" } : Jvm.MethodName)) ∈ lw_all := lw_g (lw_at lw_m3 26 rfl) rfl
theorem q574 : (Jvm.Cond.privateMethod ({ cls := "TrapdoorVotes", name := "without", desc := "(I)V" } : Jvm.MethodName)) ∈ lw_tbl := lw_at lw_m3 27 rfl
theorem q575 : (Jvm.Cond.instanceMethod ({ cls := "TrapdoorVotes", name := "without", desc := "(I)V" } : Jvm.MethodName)) ∈ lw_all := lw_g (lw_at lw_m3 28 rfl) rfl
theorem q576 : (Jvm.Cond.code ({ cls := "TrapdoorVotes", name := "without", desc := "(I)V" } : Jvm.MethodName) prog_1_method_32_code (3 : Nat) (Option.none : Option Jvm.ClassFile.FieldType)) ∈ lw_all := lw_g (lw_at lw_m3 29 rfl) rfl
theorem q577 : (Jvm.Cond.methodLink "TrapdoorVotes" (198 : Nat) ({ cls := "TrapdoorVotes", name := "isLess", desc := "(I)Z" } : Jvm.MethodName)) ∈ lw_all := lw_g (lw_at lw_m3 30 rfl) rfl
theorem q578 : (Jvm.Cond.privateMethod ({ cls := "TrapdoorVotes", name := "isLess", desc := "(I)Z" } : Jvm.MethodName)) ∈ lw_tbl := lw_at lw_m3 31 rfl
theorem q579 : (Jvm.Cond.instanceMethod ({ cls := "TrapdoorVotes", name := "isLess", desc := "(I)Z" } : Jvm.MethodName)) ∈ lw_all := lw_g (lw_at lw_m3 32 rfl) rfl
theorem q580 : (Jvm.Cond.code ({ cls := "TrapdoorVotes", name := "isLess", desc := "(I)Z" } : Jvm.MethodName) prog_1_method_31_code (3 : Nat) (Option.some Jvm.ClassFile.FieldType.boolean)) ∈ lw_all := lw_g (lw_at lw_m3 33 rfl) rfl
theorem q581 : (Jvm.Cond.methodLink "TrapdoorVotes" (191 : Nat) ({ cls := "java/lang/Math", name := "min", desc := "(II)I" } : Jvm.MethodName)) ∈ lw_all := lw_g (lw_at lw_m3 34 rfl) rfl
theorem q583 : (Jvm.Cond.instanceMethod ({ cls := "TrapdoorVotes", name := "swap", desc := "(II)I" } : Jvm.MethodName)) ∈ lw_all := lw_g (lw_at lw_m3 36 rfl) rfl
theorem q584 : (Jvm.Cond.selects "TrapdoorVotes" ({ cls := "TrapdoorVotes", name := "swap", desc := "(II)I" } : Jvm.MethodName) ({ cls := "TrapdoorVotes", name := "swap", desc := "(II)I" } : Jvm.MethodName)) ∈ lw_all := lw_g (lw_at lw_m3 37 rfl) rfl
theorem q585 : (Jvm.Cond.code ({ cls := "TrapdoorVotes", name := "swap", desc := "(II)I" } : Jvm.MethodName) prog_1_method_34_code (6 : Nat) (Option.some Jvm.ClassFile.FieldType.int)) ∈ lw_all := lw_g (lw_at lw_m3 38 rfl) rfl
theorem q587 : (Jvm.Cond.instanceMethod ({ cls := "TrapdoorVotes", name := "kind", desc := "(III)I" } : Jvm.MethodName)) ∈ lw_all := lw_g (lw_at lw_m3 40 rfl) rfl
theorem q588 : (Jvm.Cond.selects "TrapdoorVotes" ({ cls := "TrapdoorVotes", name := "kind", desc := "(III)I" } : Jvm.MethodName) ({ cls := "TrapdoorVotes", name := "kind", desc := "(III)I" } : Jvm.MethodName)) ∈ lw_all := lw_g (lw_at lw_m3 41 rfl) rfl
theorem q589 : (Jvm.Cond.code ({ cls := "TrapdoorVotes", name := "kind", desc := "(III)I" } : Jvm.MethodName) prog_1_method_35_code (8 : Nat) (Option.some Jvm.ClassFile.FieldType.int)) ∈ lw_all := lw_g (lw_at lw_m3 42 rfl) rfl
theorem q591 : (Jvm.Cond.instanceMethod ({ cls := "TrapdoorVotes", name := "luck", desc := "(IIII)J" } : Jvm.MethodName)) ∈ lw_all := lw_g (lw_at lw_m3 44 rfl) rfl
theorem q592 : (Jvm.Cond.selects "TrapdoorVotes" ({ cls := "TrapdoorVotes", name := "luck", desc := "(IIII)J" } : Jvm.MethodName) ({ cls := "TrapdoorVotes", name := "luck", desc := "(IIII)J" } : Jvm.MethodName)) ∈ lw_all := lw_g (lw_at lw_m3 45 rfl) rfl
theorem q593 : (Jvm.Cond.code ({ cls := "TrapdoorVotes", name := "luck", desc := "(IIII)J" } : Jvm.MethodName) prog_1_method_39_code (5 : Nat) (Option.some Jvm.ClassFile.FieldType.long)) ∈ lw_all := lw_g (lw_at lw_m3 46 rfl) rfl
theorem q594 : (Jvm.Cond.constantLong "TrapdoorVotes" (205 : Nat) (10 : Int64)) ∈ lw_all := lw_g (lw_at lw_m3 47 rfl) rfl
theorem q595 : (Jvm.Cond.constantLong "TrapdoorVotes" (211 : Nat) (8 : Int64)) ∈ lw_all := lw_g (lw_at lw_m3 48 rfl) rfl
theorem q596 : (Jvm.Cond.methodLink "TrapdoorVotes" (213 : Nat) ({ cls := "TrapdoorVotes", name := "bySilence", desc := "(IIII)J" } : Jvm.MethodName)) ∈ lw_all := lw_g (lw_at lw_m3 49 rfl) rfl
theorem q597 : (Jvm.Cond.privateMethod ({ cls := "TrapdoorVotes", name := "bySilence", desc := "(IIII)J" } : Jvm.MethodName)) ∈ lw_tbl := lw_at lw_m3 50 rfl
theorem q598 : (Jvm.Cond.instanceMethod ({ cls := "TrapdoorVotes", name := "bySilence", desc := "(IIII)J" } : Jvm.MethodName)) ∈ lw_all := lw_g (lw_at lw_m3 51 rfl) rfl
theorem q599 : (Jvm.Cond.code ({ cls := "TrapdoorVotes", name := "bySilence", desc := "(IIII)J" } : Jvm.MethodName) prog_1_method_38_code (13 : Nat) (Option.some Jvm.ClassFile.FieldType.long)) ∈ lw_all := lw_g (lw_at lw_m3 52 rfl) rfl
theorem q600 : (Jvm.Cond.methodLink "TrapdoorVotes" (207 : Nat) ({ cls := "TrapdoorVotes", name := "lowest", desc := "(JJI)J" } : Jvm.MethodName)) ∈ lw_all := lw_g (lw_at lw_m3 53 rfl) rfl
theorem q601 : (Jvm.Cond.static ({ cls := "TrapdoorVotes", name := "lowest", desc := "(JJI)J" } : Jvm.MethodName)) ∈ lw_all := lw_g (lw_at lw_m3 54 rfl) rfl
theorem q602 : (Jvm.Cond.code ({ cls := "TrapdoorVotes", name := "lowest", desc := "(JJI)J" } : Jvm.MethodName) prog_1_method_37_code (5 : Nat) (Option.some Jvm.ClassFile.FieldType.long)) ∈ lw_all := lw_g (lw_at lw_m3 55 rfl) rfl
theorem q603 : (Jvm.Cond.methodLink "TrapdoorVotes" (201 : Nat) ({ cls := "TrapdoorVotes", name := "divisor", desc := "(JJ)J" } : Jvm.MethodName)) ∈ lw_all := lw_g (lw_at lw_m3 56 rfl) rfl
theorem q604 : (Jvm.Cond.static ({ cls := "TrapdoorVotes", name := "divisor", desc := "(JJ)J" } : Jvm.MethodName)) ∈ lw_all := lw_g (lw_at lw_m3 57 rfl) rfl
theorem q605 : (Jvm.Cond.code ({ cls := "TrapdoorVotes", name := "divisor", desc := "(JJ)J" } : Jvm.MethodName) prog_1_method_36_code (4 : Nat) (Option.some Jvm.ClassFile.FieldType.long)) ∈ lw_all := lw_g (lw_at lw_m3 58 rfl) rfl
theorem q606 : (Jvm.Cond.constantLong "TrapdoorVotes" (217 : Nat) (-1 : Int64)) ∈ lw_all := lw_g (lw_at lw_m3 59 rfl) rfl
theorem q608 : (Jvm.Cond.instanceMethod ({ cls := "TrapdoorVotes", name := "mean", desc := "(III)J" } : Jvm.MethodName)) ∈ lw_all := lw_g (lw_at lw_m3 61 rfl) rfl
theorem q609 : (Jvm.Cond.selects "TrapdoorVotes" ({ cls := "TrapdoorVotes", name := "mean", desc := "(III)J" } : Jvm.MethodName) ({ cls := "TrapdoorVotes", name := "mean", desc := "(III)J" } : Jvm.MethodName)) ∈ lw_all := lw_g (lw_at lw_m3 62 rfl) rfl
theorem q610 : (Jvm.Cond.code ({ cls := "TrapdoorVotes", name := "mean", desc := "(III)J" } : Jvm.MethodName) prog_1_method_40_code (4 : Nat) (Option.some Jvm.ClassFile.FieldType.long)) ∈ lw_all := lw_g (lw_at lw_m3 63 rfl) rfl
theorem q612 : (Jvm.Cond.instanceMethod ({ cls := "TrapdoorVotes", name := "see", desc := "(IIZ)I" } : Jvm.MethodName)) ∈ lw_all := lw_g (lw_at lw_m3 65 rfl) rfl
theorem q613 : (Jvm.Cond.selects "TrapdoorVotes" ({ cls := "TrapdoorVotes", name := "see", desc := "(IIZ)I" } : Jvm.MethodName) ({ cls := "TrapdoorVotes", name := "see", desc := "(IIZ)I" } : Jvm.MethodName)) ∈ lw_all := lw_g (lw_at lw_m3 66 rfl) rfl
theorem q614 : (Jvm.Cond.code ({ cls := "TrapdoorVotes", name := "see", desc := "(IIZ)I" } : Jvm.MethodName) prog_1_method_41_code (4 : Nat) (Option.some Jvm.ClassFile.FieldType.int)) ∈ lw_all := lw_g (lw_at lw_m3 67 rfl) rfl
theorem q616 : (Jvm.Cond.instanceMethod ({ cls := "TrapdoorVotes", name := "forget", desc := "(I)I" } : Jvm.MethodName)) ∈ lw_all := lw_g (lw_at lw_m3 69 rfl) rfl
theorem q617 : (Jvm.Cond.selects "TrapdoorVotes" ({ cls := "TrapdoorVotes", name := "forget", desc := "(I)I" } : Jvm.MethodName) ({ cls := "TrapdoorVotes", name := "forget", desc := "(I)I" } : Jvm.MethodName)) ∈ lw_all := lw_g (lw_at lw_m3 70 rfl) rfl
theorem q618 : (Jvm.Cond.code ({ cls := "TrapdoorVotes", name := "forget", desc := "(I)I" } : Jvm.MethodName) prog_1_method_42_code (3 : Nat) (Option.some Jvm.ClassFile.FieldType.int)) ∈ lw_all := lw_g (lw_at lw_m3 71 rfl) rfl
theorem q620 : (Jvm.Cond.instanceMethod ({ cls := "TrapdoorVotes", name := "kinds", desc := "(I)I" } : Jvm.MethodName)) ∈ lw_all := lw_g (lw_at lw_m3 73 rfl) rfl
theorem q621 : (Jvm.Cond.selects "TrapdoorVotes" ({ cls := "TrapdoorVotes", name := "kinds", desc := "(I)I" } : Jvm.MethodName) ({ cls := "TrapdoorVotes", name := "kinds", desc := "(I)I" } : Jvm.MethodName)) ∈ lw_all := lw_g (lw_at lw_m3 74 rfl) rfl
theorem q622 : (Jvm.Cond.code ({ cls := "TrapdoorVotes", name := "kinds", desc := "(I)I" } : Jvm.MethodName) prog_1_method_44_code (4 : Nat) (Option.some Jvm.ClassFile.FieldType.int)) ∈ lw_all := lw_g (lw_at lw_m3 75 rfl) rfl
theorem q623 : (Jvm.Cond.methodLink "TrapdoorVotes" (225 : Nat) ({ cls := "TrapdoorVotes", name := "isAsSeen", desc := "(I)Z" } : Jvm.MethodName)) ∈ lw_all := lw_g (lw_at lw_m3 76 rfl) rfl
theorem q624 : (Jvm.Cond.privateMethod ({ cls := "TrapdoorVotes", name := "isAsSeen", desc := "(I)Z" } : Jvm.MethodName)) ∈ lw_tbl := lw_at lw_m3 77 rfl
theorem q625 : (Jvm.Cond.instanceMethod ({ cls := "TrapdoorVotes", name := "isAsSeen", desc := "(I)Z" } : Jvm.MethodName)) ∈ lw_all := lw_g (lw_at lw_m3 78 rfl) rfl
theorem q626 : (Jvm.Cond.code ({ cls := "TrapdoorVotes", name := "isAsSeen", desc := "(I)Z" } : Jvm.MethodName) prog_1_method_43_code (5 : Nat) (Option.some Jvm.ClassFile.FieldType.boolean)) ∈ lw_all := lw_g (lw_at lw_m3 79 rfl) rfl
theorem q628 : (Jvm.Cond.instanceMethod ({ cls := "TrapdoorVotes", name := "squares", desc := "(I)I" } : Jvm.MethodName)) ∈ lw_all := lw_g (lw_at lw_m3 81 rfl) rfl
theorem q629 : (Jvm.Cond.selects "TrapdoorVotes" ({ cls := "TrapdoorVotes", name := "squares", desc := "(I)I" } : Jvm.MethodName) ({ cls := "TrapdoorVotes", name := "squares", desc := "(I)I" } : Jvm.MethodName)) ∈ lw_all := lw_g (lw_at lw_m3 82 rfl) rfl
theorem q630 : (Jvm.Cond.code ({ cls := "TrapdoorVotes", name := "squares", desc := "(I)I" } : Jvm.MethodName) prog_1_method_46_code (2 : Nat) (Option.some Jvm.ClassFile.FieldType.int)) ∈ lw_all := lw_g (lw_at lw_m3 83 rfl) rfl
theorem q631 : (Jvm.Cond.methodLink "TrapdoorVotes" (228 : Nat) ({ cls := "TrapdoorVotes", name := "squaresOf", desc := "(I)I" } : Jvm.MethodName)) ∈ lw_all := lw_g (lw_at lw_m3 84 rfl) rfl
theorem q632 : (Jvm.Cond.privateMethod ({ cls := "TrapdoorVotes", name := "squaresOf", desc := "(I)I" } : Jvm.MethodName)) ∈ lw_tbl := lw_at lw_m3 85 rfl
theorem q633 : (Jvm.Cond.instanceMethod ({ cls := "TrapdoorVotes", name := "squaresOf", desc := "(I)I" } : Jvm.MethodName)) ∈ lw_all := lw_g (lw_at lw_m3 86 rfl) rfl
theorem q634 : (Jvm.Cond.code ({ cls := "TrapdoorVotes", name := "squaresOf", desc := "(I)I" } : Jvm.MethodName) prog_1_method_45_code (4 : Nat) (Option.some Jvm.ClassFile.FieldType.int)) ∈ lw_all := lw_g (lw_at lw_m3 87 rfl) rfl
theorem q636 : (Jvm.Cond.instanceMethod ({ cls := "TrapdoorVotes", name := "ask", desc := "(II)I" } : Jvm.MethodName)) ∈ lw_all := lw_g (lw_at lw_m3 89 rfl) rfl
theorem q637 : (Jvm.Cond.selects "TrapdoorVotes" ({ cls := "TrapdoorVotes", name := "ask", desc := "(II)I" } : Jvm.MethodName) ({ cls := "TrapdoorVotes", name := "ask", desc := "(II)I" } : Jvm.MethodName)) ∈ lw_all := lw_g (lw_at lw_m3 90 rfl) rfl
theorem q638 : (Jvm.Cond.code ({ cls := "TrapdoorVotes", name := "ask", desc := "(II)I" } : Jvm.MethodName) prog_1_method_47_code (10 : Nat) (Option.some Jvm.ClassFile.FieldType.int)) ∈ lw_all := lw_g (lw_at lw_m3 91 rfl) rfl
theorem q639 : (Jvm.Cond.methodLink "TrapdoorVotes" (231 : Nat) ({ cls := "java/lang/Integer", name := "bitCount", desc := "(I)I" } : Jvm.MethodName)) ∈ lw_all := lw_g (lw_at lw_m3 92 rfl) rfl
theorem q646 : (Jvm.Cond.instanceMethod ({ cls := "TrapdoorVotes", name := "drift", desc := "(III)I" } : Jvm.MethodName)) ∈ lw_all := lw_g (lw_at lw_m3 99 rfl) rfl
theorem q647 : (Jvm.Cond.selects "TrapdoorVotes" ({ cls := "TrapdoorVotes", name := "drift", desc := "(III)I" } : Jvm.MethodName) ({ cls := "TrapdoorVotes", name := "drift", desc := "(III)I" } : Jvm.MethodName)) ∈ lw_all := lw_g (lw_at lw_m3 100 rfl) rfl
theorem q648 : (Jvm.Cond.code ({ cls := "TrapdoorVotes", name := "drift", desc := "(III)I" } : Jvm.MethodName) prog_1_method_48_code (7 : Nat) (Option.some Jvm.ClassFile.FieldType.int)) ∈ lw_all := lw_g (lw_at lw_m3 101 rfl) rfl
theorem q649 : (Jvm.Cond.constant "TrapdoorVotes" (236 : Nat) (1103515245 : Int32)) ∈ lw_all := lw_g (lw_at lw_m3 102 rfl) rfl
theorem q651 : (Jvm.Cond.instanceMethod ({ cls := "TrapdoorVotes", name := "keep", desc := "(I)I" } : Jvm.MethodName)) ∈ lw_all := lw_g (lw_at lw_m3 104 rfl) rfl
theorem q652 : (Jvm.Cond.selects "TrapdoorVotes" ({ cls := "TrapdoorVotes", name := "keep", desc := "(I)I" } : Jvm.MethodName) ({ cls := "TrapdoorVotes", name := "keep", desc := "(I)I" } : Jvm.MethodName)) ∈ lw_all := lw_g (lw_at lw_m3 105 rfl) rfl
theorem q653 : (Jvm.Cond.code ({ cls := "TrapdoorVotes", name := "keep", desc := "(I)I" } : Jvm.MethodName) prog_1_method_50_code (3 : Nat) (Option.some Jvm.ClassFile.FieldType.int)) ∈ lw_all := lw_g (lw_at lw_m3 106 rfl) rfl
theorem q654 : (Jvm.Cond.methodLink "TrapdoorVotes" (237 : Nat) ({ cls := "TrapdoorVotes$Image", name := "takes", desc := "()V" } : Jvm.MethodName)) ∈ lw_all := lw_g (lw_at lw_m3 107 rfl) rfl
theorem q660 : (Jvm.Cond.static ({ cls := "TrapdoorVotes", name := "copies", desc := "([[I[[I)V" } : Jvm.MethodName)) ∈ lw_all := lw_g (lw_at lw_m3 113 rfl) rfl
theorem q661 : (Jvm.Cond.code ({ cls := "TrapdoorVotes", name := "copies", desc := "([[I[[I)V" } : Jvm.MethodName) prog_1_method_49_code (3 : Nat) (Option.none : Option Jvm.ClassFile.FieldType)) ∈ lw_all := lw_g (lw_at lw_m3 114 rfl) rfl
theorem q663 : (Jvm.Cond.instanceMethod ({ cls := "TrapdoorVotes", name := "back", desc := "(I)I" } : Jvm.MethodName)) ∈ lw_all := lw_g (lw_at lw_m3 116 rfl) rfl
theorem q664 : (Jvm.Cond.selects "TrapdoorVotes" ({ cls := "TrapdoorVotes", name := "back", desc := "(I)I" } : Jvm.MethodName) ({ cls := "TrapdoorVotes", name := "back", desc := "(I)I" } : Jvm.MethodName)) ∈ lw_all := lw_g (lw_at lw_m3 117 rfl) rfl
theorem q665 : (Jvm.Cond.code ({ cls := "TrapdoorVotes", name := "back", desc := "(I)I" } : Jvm.MethodName) prog_1_method_51_code (2 : Nat) (Option.some Jvm.ClassFile.FieldType.int)) ∈ lw_all := lw_g (lw_at lw_m3 118 rfl) rfl
theorem q666 : (Jvm.Cond.methodLink "TrapdoorVotes" (239 : Nat) ({ cls := "TrapdoorVotes$Image", name := "gives", desc := "()V" } : Jvm.MethodName)) ∈ lw_all := lw_g (lw_at lw_m3 119 rfl) rfl
theorem q672 : (Jvm.Cond.instanceMethod ({ cls := "TrapdoorVotes", name := "<init>", desc := "()V" } : Jvm.MethodName)) ∈ lw_all := lw_g (lw_at lw_m3 125 rfl) rfl
theorem q673 : (Jvm.Cond.code ({ cls := "TrapdoorVotes", name := "<init>", desc := "()V" } : Jvm.MethodName) prog_1_method_52_code (1 : Nat) (Option.none : Option Jvm.ClassFile.FieldType)) ∈ lw_all := lw_g (lw_at lw_m3 126 rfl) rfl
theorem q674 : (Jvm.Cond.methodLink "TrapdoorVotes" (242 : Nat) ({ cls := "java/lang/Object", name := "<init>", desc := "()V" } : Jvm.MethodName)) ∈ lw_all := lw_g (lw_at lw_m3 127 rfl) rfl
theorem q675 : (Jvm.Cond.classLink "TrapdoorVotes" (43 : Nat) "TrapdoorVotes$Stage") ∈ lw_all := lw_g (lw_at lw_m3 128 rfl) rfl
theorem q676 : (Jvm.Cond.methodLinkNest "TrapdoorVotes" (246 : Nat) ({ cls := "TrapdoorVotes$Stage", name := "<init>", desc := "()V" } : Jvm.MethodName) "TrapdoorVotes") ∈ lw_tbl := lw_at lw_m3 129 rfl
theorem q677 : (Jvm.Cond.classLink "TrapdoorVotes" (247 : Nat) "[[I") ∈ lw_all := lw_g (lw_at lw_m3 130 rfl) rfl
theorem q678 : (Jvm.Cond.classLink "TrapdoorVotes" (56 : Nat) "TrapdoorVotes$Image") ∈ lw_all := lw_g (lw_at lw_m3 131 rfl) rfl
theorem q681 : (Jvm.Cond.methodLinkNest "TrapdoorVotes" (248 : Nat) ({ cls := "TrapdoorVotes$Image", name := "<init>", desc := "(LTrapdoorVotes;)V" } : Jvm.MethodName) "TrapdoorVotes") ∈ lw_tbl := lw_at lw_m3 134 rfl
theorem q691 : (Jvm.Cond.fieldLinkNest "TrapdoorVotes" (55 : Nat) "TrapdoorVotes$Image" "isKept" "Z" "TrapdoorVotes") ∈ lw_tbl := lw_at lw_m3 144 rfl
theorem q704 : (Jvm.Cond.classLink "TrapdoorVotes" (254 : Nat) "TrapdoorVotes$Sheet") ∈ lw_all := lw_g (lw_at lw_m3 157 rfl) rfl
theorem q707 : (Jvm.Cond.methodLinkNest "TrapdoorVotes" (256 : Nat) ({ cls := "TrapdoorVotes$Sheet", name := "<init>", desc := "()V" } : Jvm.MethodName) "TrapdoorVotes") ∈ lw_tbl := lw_at lw_m3 160 rfl
theorem q711 : (Jvm.Cond.fieldLinkNest "TrapdoorVotes" (267 : Nat) "TrapdoorVotes$Sheet" "row" "Ljava/lang/Object;" "TrapdoorVotes") ∈ lw_tbl := lw_at lw_m3 164 rfl
theorem q712 : (Jvm.Cond.fieldLinkNest "TrapdoorVotes" (271 : Nat) "TrapdoorVotes$Sheet" "size" "I" "TrapdoorVotes") ∈ lw_tbl := lw_at lw_m3 165 rfl
theorem q718 : (Jvm.Cond.fieldLink "TrapdoorVotes" (15 : Nat) "TrapdoorVotes" "tape" "[B") ∈ lw_all := lw_g (lw_at lw_m3 171 rfl) rfl
theorem q719 : (Jvm.Cond.fieldLink "TrapdoorVotes" (11 : Nat) "TrapdoorVotes" "taped" "I") ∈ lw_all := lw_g (lw_at lw_m3 172 rfl) rfl
theorem q720 : (Jvm.Cond.fieldLink "TrapdoorVotes" (61 : Nat) "TrapdoorVotes" "fault" "I") ∈ lw_all := lw_g (lw_at lw_m3 173 rfl) rfl
theorem q722 : (Jvm.Cond.fieldLink "TrapdoorVotes" (35 : Nat) "TrapdoorVotes" "now" "LTrapdoorVotes$Stage;") ∈ lw_all := lw_g (lw_at lw_m3 175 rfl) rfl
theorem q723 : (Jvm.Cond.fieldLink "TrapdoorVotes" (161 : Nat) "TrapdoorVotes" "work" "LTrapdoorVotes$Stage;") ∈ lw_all := lw_g (lw_at lw_m3 176 rfl) rfl
theorem q724 : (Jvm.Cond.fieldLink "TrapdoorVotes" (180 : Nat) "TrapdoorVotes" "home" "LTrapdoorVotes$Stage;") ∈ lw_all := lw_g (lw_at lw_m3 177 rfl) rfl
theorem q725 : (Jvm.Cond.fieldLink "TrapdoorVotes" (164 : Nat) "TrapdoorVotes" "firstFall" "I") ∈ lw_all := lw_g (lw_at lw_m3 178 rfl) rfl
theorem q726 : (Jvm.Cond.fieldLink "TrapdoorVotes" (188 : Nat) "TrapdoorVotes" "least" "I") ∈ lw_all := lw_g (lw_at lw_m3 179 rfl) rfl
theorem q728 : (Jvm.Cond.fieldLink "TrapdoorVotes" (219 : Nat) "TrapdoorVotes" "seen" "[[I") ∈ lw_all := lw_g (lw_at lw_m3 181 rfl) rfl
theorem q730 : (Jvm.Cond.fieldLink "TrapdoorVotes" (48 : Nat) "TrapdoorVotes" "seenMany" "I") ∈ lw_all := lw_g (lw_at lw_m3 183 rfl) rfl
theorem q731 : (Jvm.Cond.fieldLink "TrapdoorVotes" (222 : Nat) "TrapdoorVotes" "bySquare" "[[I") ∈ lw_all := lw_g (lw_at lw_m3 184 rfl) rfl
theorem q732 : (Jvm.Cond.fieldLink "TrapdoorVotes" (51 : Nat) "TrapdoorVotes" "images" "[LTrapdoorVotes$Image;") ∈ lw_all := lw_g (lw_at lw_m3 185 rfl) rfl
theorem q733 : (Jvm.Cond.fieldLink "TrapdoorVotes" (251 : Nat) "TrapdoorVotes" "aside" "LTrapdoorVotes$Stage;") ∈ lw_all := lw_g (lw_at lw_m3 186 rfl) rfl
theorem q734 : (Jvm.Cond.fieldLink "TrapdoorVotes" (257 : Nat) "TrapdoorVotes" "sheets" "[LTrapdoorVotes$Sheet;") ∈ lw_all := lw_g (lw_at lw_m3 187 rfl) rfl
theorem q735 : (Jvm.Cond.fieldLink "TrapdoorVotes" (303 : Nat) "TrapdoorVotes" "torn" "I") ∈ lw_all := lw_g (lw_at lw_m3 188 rfl) rfl
theorem q736 : (Jvm.Cond.fieldLink "TrapdoorVotes" (285 : Nat) "TrapdoorVotes" "cameMany" "I") ∈ lw_all := lw_g (lw_at lw_m3 189 rfl) rfl
theorem q737 : (Jvm.Cond.fieldLink "TrapdoorVotes" (288 : Nat) "TrapdoorVotes" "refused" "I") ∈ lw_all := lw_g (lw_at lw_m3 190 rfl) rfl
theorem q738 : (Jvm.Cond.laysFinal "TrapdoorVotes" "TrapdoorVotes" "tape" "[B") ∈ lw_all := lw_g (lw_at lw_m3 191 rfl) rfl
theorem q739 : (Jvm.Cond.soleField "TrapdoorVotes" "tape") ∈ lw_all := lw_g (lw_at lw_m3 192 rfl) rfl
theorem q740 : (Jvm.Cond.lays "TrapdoorVotes" "TrapdoorVotes" "taped" "I") ∈ lw_all := lw_g (lw_at lw_m3 193 rfl) rfl
theorem q741 : (Jvm.Cond.soleField "TrapdoorVotes" "taped") ∈ lw_all := lw_g (lw_at lw_m3 194 rfl) rfl
theorem q742 : (Jvm.Cond.lays "TrapdoorVotes" "TrapdoorVotes" "fault" "I") ∈ lw_all := lw_g (lw_at lw_m3 195 rfl) rfl
theorem q743 : (Jvm.Cond.soleField "TrapdoorVotes" "fault") ∈ lw_all := lw_g (lw_at lw_m3 196 rfl) rfl
theorem q744 : (Jvm.Cond.laysFinal "TrapdoorVotes" "TrapdoorVotes" "now" "LTrapdoorVotes$Stage;") ∈ lw_all := lw_g (lw_at lw_m3 197 rfl) rfl
theorem q745 : (Jvm.Cond.soleField "TrapdoorVotes" "now") ∈ lw_all := lw_g (lw_at lw_m3 198 rfl) rfl
theorem q746 : (Jvm.Cond.laysFinal "TrapdoorVotes" "TrapdoorVotes" "work" "LTrapdoorVotes$Stage;") ∈ lw_all := lw_g (lw_at lw_m3 199 rfl) rfl
theorem q747 : (Jvm.Cond.soleField "TrapdoorVotes" "work") ∈ lw_all := lw_g (lw_at lw_m3 200 rfl) rfl
theorem q748 : (Jvm.Cond.laysFinal "TrapdoorVotes" "TrapdoorVotes" "home" "LTrapdoorVotes$Stage;") ∈ lw_all := lw_g (lw_at lw_m3 201 rfl) rfl
theorem q749 : (Jvm.Cond.soleField "TrapdoorVotes" "home") ∈ lw_all := lw_g (lw_at lw_m3 202 rfl) rfl
theorem q750 : (Jvm.Cond.lays "TrapdoorVotes" "TrapdoorVotes" "firstFall" "I") ∈ lw_all := lw_g (lw_at lw_m3 203 rfl) rfl
theorem q751 : (Jvm.Cond.soleField "TrapdoorVotes" "firstFall") ∈ lw_all := lw_g (lw_at lw_m3 204 rfl) rfl
theorem q752 : (Jvm.Cond.lays "TrapdoorVotes" "TrapdoorVotes" "least" "I") ∈ lw_all := lw_g (lw_at lw_m3 205 rfl) rfl
theorem q753 : (Jvm.Cond.soleField "TrapdoorVotes" "least") ∈ lw_all := lw_g (lw_at lw_m3 206 rfl) rfl
theorem q754 : (Jvm.Cond.laysFinal "TrapdoorVotes" "TrapdoorVotes" "seen" "[[I") ∈ lw_all := lw_g (lw_at lw_m3 207 rfl) rfl
theorem q755 : (Jvm.Cond.soleField "TrapdoorVotes" "seen") ∈ lw_all := lw_g (lw_at lw_m3 208 rfl) rfl
theorem q756 : (Jvm.Cond.lays "TrapdoorVotes" "TrapdoorVotes" "seenMany" "I") ∈ lw_all := lw_g (lw_at lw_m3 209 rfl) rfl
theorem q757 : (Jvm.Cond.soleField "TrapdoorVotes" "seenMany") ∈ lw_all := lw_g (lw_at lw_m3 210 rfl) rfl
theorem q758 : (Jvm.Cond.laysFinal "TrapdoorVotes" "TrapdoorVotes" "bySquare" "[[I") ∈ lw_all := lw_g (lw_at lw_m3 211 rfl) rfl
theorem q759 : (Jvm.Cond.soleField "TrapdoorVotes" "bySquare") ∈ lw_all := lw_g (lw_at lw_m3 212 rfl) rfl
theorem q760 : (Jvm.Cond.laysFinal "TrapdoorVotes" "TrapdoorVotes" "images" "[LTrapdoorVotes$Image;") ∈ lw_all := lw_g (lw_at lw_m3 213 rfl) rfl
theorem q761 : (Jvm.Cond.soleField "TrapdoorVotes" "images") ∈ lw_all := lw_g (lw_at lw_m3 214 rfl) rfl
theorem q762 : (Jvm.Cond.laysFinal "TrapdoorVotes" "TrapdoorVotes" "aside" "LTrapdoorVotes$Stage;") ∈ lw_all := lw_g (lw_at lw_m3 215 rfl) rfl
theorem q763 : (Jvm.Cond.soleField "TrapdoorVotes" "aside") ∈ lw_all := lw_g (lw_at lw_m3 216 rfl) rfl
theorem q764 : (Jvm.Cond.laysFinal "TrapdoorVotes" "TrapdoorVotes" "sheets" "[LTrapdoorVotes$Sheet;") ∈ lw_all := lw_g (lw_at lw_m3 217 rfl) rfl
theorem q765 : (Jvm.Cond.soleField "TrapdoorVotes" "sheets") ∈ lw_all := lw_g (lw_at lw_m3 218 rfl) rfl
theorem q766 : (Jvm.Cond.lays "TrapdoorVotes" "TrapdoorVotes" "torn" "I") ∈ lw_all := lw_g (lw_at lw_m3 219 rfl) rfl
theorem q767 : (Jvm.Cond.soleField "TrapdoorVotes" "torn") ∈ lw_all := lw_g (lw_at lw_m3 220 rfl) rfl
theorem q768 : (Jvm.Cond.lays "TrapdoorVotes" "TrapdoorVotes" "cameMany" "I") ∈ lw_all := lw_g (lw_at lw_m3 221 rfl) rfl
theorem q769 : (Jvm.Cond.soleField "TrapdoorVotes" "cameMany") ∈ lw_all := lw_g (lw_at lw_m3 222 rfl) rfl
theorem q770 : (Jvm.Cond.lays "TrapdoorVotes" "TrapdoorVotes" "refused" "I") ∈ lw_all := lw_g (lw_at lw_m3 223 rfl) rfl
theorem q771 : (Jvm.Cond.soleField "TrapdoorVotes" "refused") ∈ lw_all := lw_g (lw_at lw_m3 224 rfl) rfl
theorem q772 : (Jvm.Cond.superclass "TrapdoorVotes" "java/lang/Object") ∈ lw_all := lw_g (lw_at lw_m3 225 rfl) rfl
theorem q774 : (Jvm.Cond.instanceMethod ({ cls := "TrapdoorVotes", name := "sheet", desc := "(III)I" } : Jvm.MethodName)) ∈ lw_all := lw_g (lw_at lw_m3 227 rfl) rfl
theorem q775 : (Jvm.Cond.selects "TrapdoorVotes" ({ cls := "TrapdoorVotes", name := "sheet", desc := "(III)I" } : Jvm.MethodName) ({ cls := "TrapdoorVotes", name := "sheet", desc := "(III)I" } : Jvm.MethodName)) ∈ lw_all := lw_g (lw_at lw_m3 228 rfl) rfl
theorem q776 : (Jvm.Cond.codeWith ({ cls := "TrapdoorVotes", name := "sheet", desc := "(III)I" } : Jvm.MethodName) prog_1_method_54_code (5 : Nat) (Option.some Jvm.ClassFile.FieldType.int) [((32 : Nat), (57 : Nat), (58 : Nat), (274 : Nat))]) ∈ lw_all := lw_g (lw_at lw_m3 229 rfl) rfl
theorem q777 : (Jvm.Cond.classLink "TrapdoorVotes" (274 : Nat) "java/lang/NegativeArraySizeException") ∈ lw_all := lw_g (lw_at lw_m3 230 rfl) rfl
theorem q804 : (Jvm.Cond.constantLong "TrapdoorVotes" (261 : Nat) (2 : Int64)) ∈ lw_all := lw_g (lw_at lw_m4 17 rfl) rfl
theorem q805 : (Jvm.Cond.methodLink "TrapdoorVotes" (263 : Nat) ({ cls := "TrapdoorVotes", name := "newRow", desc := "(II)Ljava/lang/Object;" } : Jvm.MethodName)) ∈ lw_all := lw_g (lw_at lw_m4 18 rfl) rfl
theorem q806 : (Jvm.Cond.static ({ cls := "TrapdoorVotes", name := "newRow", desc := "(II)Ljava/lang/Object;" } : Jvm.MethodName)) ∈ lw_all := lw_g (lw_at lw_m4 19 rfl) rfl
theorem q807 : (Jvm.Cond.code ({ cls := "TrapdoorVotes", name := "newRow", desc := "(II)Ljava/lang/Object;" } : Jvm.MethodName) prog_1_method_53_code (2 : Nat) (Option.some (Jvm.ClassFile.FieldType.object "java/lang/Object"))) ∈ lw_all := lw_g (lw_at lw_m4 20 rfl) rfl
theorem q810 : (Jvm.Cond.instanceMethod ({ cls := "TrapdoorVotes", name := "lay", desc := "(III)I" } : Jvm.MethodName)) ∈ lw_all := lw_g (lw_at lw_m4 23 rfl) rfl
theorem q811 : (Jvm.Cond.selects "TrapdoorVotes" ({ cls := "TrapdoorVotes", name := "lay", desc := "(III)I" } : Jvm.MethodName) ({ cls := "TrapdoorVotes", name := "lay", desc := "(III)I" } : Jvm.MethodName)) ∈ lw_all := lw_g (lw_at lw_m4 24 rfl) rfl
theorem q812 : (Jvm.Cond.codeWith ({ cls := "TrapdoorVotes", name := "lay", desc := "(III)I" } : Jvm.MethodName) prog_1_method_55_code (6 : Nat) (Option.some Jvm.ClassFile.FieldType.int) [((25 : Nat), (74 : Nat), (75 : Nat), (281 : Nat)), ((25 : Nat), (74 : Nat), (80 : Nat), (283 : Nat))]) ∈ lw_all := lw_g (lw_at lw_m4 25 rfl) rfl
theorem q813 : (Jvm.Cond.classLink "TrapdoorVotes" (281 : Nat) "java/lang/NullPointerException") ∈ lw_all := lw_g (lw_at lw_m4 26 rfl) rfl
theorem q838 : (Jvm.Cond.classLink "TrapdoorVotes" (283 : Nat) "java/lang/ArrayIndexOutOfBoundsException") ∈ lw_all := lw_g (lw_at lw_m4 51 rfl) rfl
theorem q857 : (Jvm.Cond.classLink "TrapdoorVotes" (276 : Nat) "[B") ∈ lw_all := lw_g (lw_at lw_m4 70 rfl) rfl
theorem q858 : (Jvm.Cond.classLink "TrapdoorVotes" (277 : Nat) "[S") ∈ lw_all := lw_g (lw_at lw_m4 71 rfl) rfl
theorem q859 : (Jvm.Cond.classLink "TrapdoorVotes" (279 : Nat) "[I") ∈ lw_all := lw_g (lw_at lw_m4 72 rfl) rfl
theorem q861 : (Jvm.Cond.instanceMethod ({ cls := "TrapdoorVotes", name := "read", desc := "(IIII)I" } : Jvm.MethodName)) ∈ lw_all := lw_g (lw_at lw_m4 74 rfl) rfl
theorem q862 : (Jvm.Cond.selects "TrapdoorVotes" ({ cls := "TrapdoorVotes", name := "read", desc := "(IIII)I" } : Jvm.MethodName) ({ cls := "TrapdoorVotes", name := "read", desc := "(IIII)I" } : Jvm.MethodName)) ∈ lw_all := lw_g (lw_at lw_m4 75 rfl) rfl
theorem q863 : (Jvm.Cond.code ({ cls := "TrapdoorVotes", name := "read", desc := "(IIII)I" } : Jvm.MethodName) prog_1_method_58_code (6 : Nat) (Option.some Jvm.ClassFile.FieldType.int)) ∈ lw_all := lw_g (lw_at lw_m4 76 rfl) rfl
theorem q864 : (Jvm.Cond.constantLong "TrapdoorVotes" (297 : Nat) (13 : Int64)) ∈ lw_all := lw_g (lw_at lw_m4 77 rfl) rfl
theorem q865 : (Jvm.Cond.methodLink "TrapdoorVotes" (299 : Nat) ({ cls := "TrapdoorVotes", name := "takesIn", desc := "(Ljava/lang/Object;III)I" } : Jvm.MethodName)) ∈ lw_all := lw_g (lw_at lw_m4 78 rfl) rfl
theorem q866 : (Jvm.Cond.privateMethod ({ cls := "TrapdoorVotes", name := "takesIn", desc := "(Ljava/lang/Object;III)I" } : Jvm.MethodName)) ∈ lw_tbl := lw_at lw_m4 79 rfl
theorem q867 : (Jvm.Cond.instanceMethod ({ cls := "TrapdoorVotes", name := "takesIn", desc := "(Ljava/lang/Object;III)I" } : Jvm.MethodName)) ∈ lw_all := lw_g (lw_at lw_m4 80 rfl) rfl
theorem q868 : (Jvm.Cond.codeWith ({ cls := "TrapdoorVotes", name := "takesIn", desc := "(Ljava/lang/Object;III)I" } : Jvm.MethodName) prog_1_method_57_code (9 : Nat) (Option.some Jvm.ClassFile.FieldType.int) [((10 : Nat), (131 : Nat), (132 : Nat), (281 : Nat)), ((10 : Nat), (131 : Nat), (136 : Nat), (295 : Nat)), ((10 : Nat), (131 : Nat), (140 : Nat), (283 : Nat))]) ∈ lw_all := lw_g (lw_at lw_m4 81 rfl) rfl
theorem q869 : (Jvm.Cond.classLink "TrapdoorVotes" (295 : Nat) "java/lang/ClassCastException") ∈ lw_all := lw_g (lw_at lw_m4 82 rfl) rfl
theorem q883 : (Jvm.Cond.methodLink "TrapdoorVotes" (291 : Nat) ({ cls := "TrapdoorVotes", name := "cell", desc := "(Ljava/lang/Object;II)I" } : Jvm.MethodName)) ∈ lw_all := lw_g (lw_at lw_m4 96 rfl) rfl
theorem q884 : (Jvm.Cond.static ({ cls := "TrapdoorVotes", name := "cell", desc := "(Ljava/lang/Object;II)I" } : Jvm.MethodName)) ∈ lw_all := lw_g (lw_at lw_m4 97 rfl) rfl
theorem q885 : (Jvm.Cond.code ({ cls := "TrapdoorVotes", name := "cell", desc := "(Ljava/lang/Object;II)I" } : Jvm.MethodName) prog_1_method_56_code (3 : Nat) (Option.some Jvm.ClassFile.FieldType.int)) ∈ lw_all := lw_g (lw_at lw_m4 98 rfl) rfl
theorem q887 : (Jvm.Cond.instanceMethod ({ cls := "TrapdoorVotes", name := "torn", desc := "()I" } : Jvm.MethodName)) ∈ lw_all := lw_g (lw_at lw_m4 100 rfl) rfl
theorem q888 : (Jvm.Cond.selects "TrapdoorVotes" ({ cls := "TrapdoorVotes", name := "torn", desc := "()I" } : Jvm.MethodName) ({ cls := "TrapdoorVotes", name := "torn", desc := "()I" } : Jvm.MethodName)) ∈ lw_all := lw_g (lw_at lw_m4 101 rfl) rfl
theorem q889 : (Jvm.Cond.code ({ cls := "TrapdoorVotes", name := "torn", desc := "()I" } : Jvm.MethodName) prog_1_method_59_code (1 : Nat) (Option.some Jvm.ClassFile.FieldType.int)) ∈ lw_all := lw_g (lw_at lw_m4 102 rfl) rfl
theorem q891 : (Jvm.Cond.instanceMethod ({ cls := "TrapdoorVotes", name := "count", desc := "(I)I" } : Jvm.MethodName)) ∈ lw_all := lw_g (lw_at lw_m4 104 rfl) rfl
theorem q892 : (Jvm.Cond.selects "TrapdoorVotes" ({ cls := "TrapdoorVotes", name := "count", desc := "(I)I" } : Jvm.MethodName) ({ cls := "TrapdoorVotes", name := "count", desc := "(I)I" } : Jvm.MethodName)) ∈ lw_all := lw_g (lw_at lw_m4 105 rfl) rfl
theorem q893 : (Jvm.Cond.code ({ cls := "TrapdoorVotes", name := "count", desc := "(I)I" } : Jvm.MethodName) prog_1_method_60_code (2 : Nat) (Option.some Jvm.ClassFile.FieldType.int)) ∈ lw_all := lw_g (lw_at lw_m4 106 rfl) rfl
theorem q894 : (Jvm.Cond.methodLink "TrapdoorVotes" (306 : Nat) ({ cls := "TrapdoorVotes$Stage", name := "loudness", desc := "()I" } : Jvm.MethodName)) ∈ lw_all := lw_g (lw_at lw_m4 107 rfl) rfl
theorem q898 : (Jvm.Cond.methodLink "TrapdoorVotes" (309 : Nat) ({ cls := "TrapdoorVotes$Stage", name := "rust", desc := "()I" } : Jvm.MethodName)) ∈ lw_all := lw_g (lw_at lw_m4 111 rfl) rfl
theorem q1376 : (Jvm.Cond.stringRef "TrapdoorVotes" (330 : Nat) "plain") ∈ lw_tbl := lw_at lw_m6 109 rfl
theorem q1377 : (Jvm.Cond.stringRef "TrapdoorVotes" (332 : Nat) "sly") ∈ lw_tbl := lw_at lw_m6 110 rfl
theorem q1378 : (Jvm.Cond.stringRef "TrapdoorVotes" (334 : Nat) "loyal") ∈ lw_tbl := lw_at lw_m6 111 rfl
theorem q1379 : (Jvm.Cond.stringRef "TrapdoorVotes" (336 : Nat) "mouse") ∈ lw_tbl := lw_at lw_m6 112 rfl
theorem q1380 : (Jvm.Cond.stringRef "TrapdoorVotes" (338 : Nat) "boots") ∈ lw_tbl := lw_at lw_m6 113 rfl
theorem q1381 : (Jvm.Cond.stringRef "TrapdoorVotes" (340 : Nat) "rust") ∈ lw_tbl := lw_at lw_m6 114 rfl
theorem q1382 : (Jvm.Cond.stringRef "TrapdoorVotes" (341 : Nat) "needs") ∈ lw_tbl := lw_at lw_m6 115 rfl
theorem in_X0 : ∀ w ∈ wsX00, w ∈ lw_all := lw_in wsX00 [738, 740, 742, 744, 746, 748, 750, 752, 754, 756, 758, 760, 762, 764, 766, 768, 770] (by decide +kernel) (by decide +kernel)
