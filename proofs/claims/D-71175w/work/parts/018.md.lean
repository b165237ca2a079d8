/-! TrapdoorVotesModel -/
set_option maxRecDepth 100000
def RX4 : String := "TrapdoorVotesModel"
def TX4 : u_T := fun k => match k with
  | 0 => ("TrapdoorVotesModel", "st", "[I", true)
  | 1 => ("TrapdoorVotesModel", "now", "[I", true)
  | 2 => ("TrapdoorVotesModel", "isKept", "[Z", true)
  | 3 => ("TrapdoorVotesModel", "hands", "I", false)
  | 4 => ("TrapdoorVotesModel", "ministers", "I", false)
  | 5 => ("TrapdoorVotesModel", "draft", "[I", true)
  | 6 => ("TrapdoorVotesModel", "dHands", "I", false)
  | 7 => ("TrapdoorVotesModel", "dMinisters", "I", false)
  | 8 => ("TrapdoorVotesModel", "hasRust", "Z", false)
  | 9 => ("TrapdoorVotesModel", "hasNeeds", "Z", false)
  | 10 => ("TrapdoorVotesModel", "tape", "[I", true)
  | 11 => ("TrapdoorVotesModel", "taped", "I", false)
  | 12 => ("TrapdoorVotesModel", "pos", "I", false)
  | 13 => ("TrapdoorVotesModel", "begun", "I", false)
  | 14 => ("TrapdoorVotesModel", "sort", "I", false)
  | 15 => ("TrapdoorVotesModel", "value", "I", false)
  | 16 => ("TrapdoorVotesModel", "fault", "I", false)
  | 17 => ("TrapdoorVotesModel", "wrongAt", "I", false)
  | 18 => ("TrapdoorVotesModel", "away", "I", false)
  | 19 => ("TrapdoorVotesModel", "falls", "I", false)
  | 20 => ("TrapdoorVotesModel", "bestCode", "I", false)
  | 21 => ("TrapdoorVotesModel", "bestMuch", "I", false)
  | 22 => ("TrapdoorVotesModel", "upSum", "J", false)
  | 23 => ("TrapdoorVotesModel", "fallSum", "J", false)
  | 24 => ("TrapdoorVotesModel", "allWays", "J", false)
  | 25 => ("TrapdoorVotesModel", "downs", "[I", true)
  | 26 => ("TrapdoorVotesModel", "downBy", "[I", true)
  | 27 => ("TrapdoorVotesModel", "lanes", "[I", true)
  | 28 => ("TrapdoorVotesModel", "sizes", "[I", true)
  | 29 => ("TrapdoorVotesModel", "cells", "[I", true)
  | 30 => ("TrapdoorVotesModel", "torn", "I", false)
  | _ => ("TrapdoorVotesModel", "before", "[I", true)
def tyX4 : Nat → FieldType := fun k => match k with
  | 0 => .array .int
  | 1 => .array .int
  | 2 => .array .boolean
  | 3 => .int
  | 4 => .int
  | 5 => .array .int
  | 6 => .int
  | 7 => .int
  | 8 => .boolean
  | 9 => .boolean
  | 10 => .array .int
  | 11 => .int
  | 12 => .int
  | 13 => .int
  | 14 => .int
  | 15 => .int
  | 16 => .int
  | 17 => .int
  | 18 => .int
  | 19 => .int
  | 20 => .int
  | 21 => .int
  | 22 => .long
  | 23 => .long
  | 24 => .long
  | 25 => .array .int
  | 26 => .array .int
  | 27 => .array .int
  | 28 => .array .int
  | 29 => .array .int
  | 30 => .int
  | _ => .array .int
abbrev wsX40 : List Cond := u_ws RX4 TX4 32
set_option maxRecDepth 100000 in
theorem nmX4 : ∀ a, a < 32 → ∀ b, b < 32 → a ≠ b → (TX4 a).2.1 ≠ (TX4 b).2.1 := by decide +kernel
set_option maxRecDepth 100000 in
theorem tyX4_ok : ∀ k, k < 32 → parseFieldDescriptor (TX4 k).2.2.1 = some (tyX4 k) := by decide +kernel
abbrev cX4_init : ByteArray := prog_12_method_1_code
def yX4_init : MethodName := ⟨RX4, "<init>", "()V"⟩
def dkwX4_init_5 : List UInt8 := [182, 0, 47, 177]
abbrev dktX4_init_5 : List UInt8 := dkwX4_init_5 ++ []
def dkwX4_init_4 : List UInt8 := [27, 7, 162, 0, 17, 42, 180, 0, 32, 27, 16, 252, 79, 132, 1, 1, 167, 255, 240, 42, 182, 0, 44, 42]
abbrev dktX4_init_4 : List UInt8 := dkwX4_init_4 ++ dktX4_init_5
def dkwX4_init_3 : List UInt8 := [188, 10, 181, 0, 35, 42, 17, 0, 160, 188, 10, 181, 0, 38, 42, 16, 58, 188, 10, 181, 0, 41, 3, 60]
abbrev dktX4_init_3 : List UInt8 := dkwX4_init_3 ++ dktX4_init_4
def dkwX4_init_2 : List UInt8 := [16, 84, 188, 10, 181, 0, 26, 42, 16, 84, 188, 10, 181, 0, 29, 42, 7, 188, 10, 181, 0, 32, 42, 7]
abbrev dktX4_init_2 : List UInt8 := dkwX4_init_2 ++ dktX4_init_3
def dkwX4_init_1 : List UInt8 := [188, 4, 181, 0, 16, 42, 16, 58, 188, 10, 181, 0, 20, 42, 17, 0, 160, 188, 10, 181, 0, 23, 42]
abbrev dktX4_init_1 : List UInt8 := dkwX4_init_1 ++ dktX4_init_2
def dkwX4_init_0 : List UInt8 := [42, 183, 0, 1, 42, 17, 0, 174, 188, 10, 181, 0, 7, 42, 16, 58, 188, 10, 181, 0, 13, 42, 5]
abbrev dktX4_init_0 : List UInt8 := dkwX4_init_0 ++ dktX4_init_1
theorem dksX4_init_0 : cX4_init.data.toList.drop 0 = dktX4_init_0 := by decide +kernel
theorem dksX4_init_1 : cX4_init.data.toList.drop 23 = dktX4_init_1 := dk_seg dksX4_init_0 23 rfl rfl
theorem dksX4_init_2 : cX4_init.data.toList.drop 46 = dktX4_init_2 := dk_seg dksX4_init_1 23 rfl rfl
theorem dksX4_init_3 : cX4_init.data.toList.drop 70 = dktX4_init_3 := dk_seg dksX4_init_2 24 rfl rfl
theorem dksX4_init_4 : cX4_init.data.toList.drop 94 = dktX4_init_4 := dk_seg dksX4_init_3 24 rfl rfl
theorem dksX4_init_5 : cX4_init.data.toList.drop 118 = dktX4_init_5 := dk_seg dksX4_init_4 24 rfl rfl
theorem dX4_init_0 : decode cX4_init 0 = .ok (.aload_n 0, 1) := dk_42 (dk_at dksX4_init_0 0 rfl rfl)
theorem dX4_init_1 : decode cX4_init 1 = .ok (.invokespecial 1, 3) := dk_183 0 1 (dk_at dksX4_init_0 1 rfl rfl)
theorem dX4_init_4 : decode cX4_init 4 = .ok (.aload_n 0, 1) := dk_42 (dk_at dksX4_init_0 4 rfl rfl)
theorem dX4_init_5 : decode cX4_init 5 = .ok (.sipush 174, 3) := dk_17 0 174 (dk_at dksX4_init_0 5 rfl rfl)
theorem dX4_init_8 : decode cX4_init 8 = .ok (.newarray .int, 2) := dk_188_10 (dk_at dksX4_init_0 8 rfl rfl)
theorem dX4_init_10 : decode cX4_init 10 = .ok (.putfield 7, 3) := dk_181 0 7 (dk_at dksX4_init_0 10 rfl rfl)
theorem dX4_init_13 : decode cX4_init 13 = .ok (.aload_n 0, 1) := dk_42 (dk_at dksX4_init_0 13 rfl rfl)
theorem dX4_init_14 : decode cX4_init 14 = .ok (.bipush 58, 2) := dk_16 58 (dk_at dksX4_init_0 14 rfl rfl)
theorem dX4_init_16 : decode cX4_init 16 = .ok (.newarray .int, 2) := dk_188_10 (dk_at dksX4_init_0 16 rfl rfl)
theorem dX4_init_18 : decode cX4_init 18 = .ok (.putfield 13, 3) := dk_181 0 13 (dk_at dksX4_init_0 18 rfl rfl)
theorem dX4_init_21 : decode cX4_init 21 = .ok (.aload_n 0, 1) := dk_42 (dk_at dksX4_init_0 21 rfl rfl)
theorem dX4_init_22 : decode cX4_init 22 = .ok (.iconst 2, 1) := dk_5 (dk_at dksX4_init_0 22 rfl rfl)
theorem dX4_init_23 : decode cX4_init 23 = .ok (.newarray .boolean, 2) := dk_188_4 (dk_at dksX4_init_1 0 rfl rfl)
theorem dX4_init_25 : decode cX4_init 25 = .ok (.putfield 16, 3) := dk_181 0 16 (dk_at dksX4_init_1 2 rfl rfl)
theorem dX4_init_28 : decode cX4_init 28 = .ok (.aload_n 0, 1) := dk_42 (dk_at dksX4_init_1 5 rfl rfl)
theorem dX4_init_29 : decode cX4_init 29 = .ok (.bipush 58, 2) := dk_16 58 (dk_at dksX4_init_1 6 rfl rfl)
theorem dX4_init_31 : decode cX4_init 31 = .ok (.newarray .int, 2) := dk_188_10 (dk_at dksX4_init_1 8 rfl rfl)
theorem dX4_init_33 : decode cX4_init 33 = .ok (.putfield 20, 3) := dk_181 0 20 (dk_at dksX4_init_1 10 rfl rfl)
theorem dX4_init_36 : decode cX4_init 36 = .ok (.aload_n 0, 1) := dk_42 (dk_at dksX4_init_1 13 rfl rfl)
theorem dX4_init_37 : decode cX4_init 37 = .ok (.sipush 160, 3) := dk_17 0 160 (dk_at dksX4_init_1 14 rfl rfl)
theorem dX4_init_40 : decode cX4_init 40 = .ok (.newarray .int, 2) := dk_188_10 (dk_at dksX4_init_1 17 rfl rfl)
theorem dX4_init_42 : decode cX4_init 42 = .ok (.putfield 23, 3) := dk_181 0 23 (dk_at dksX4_init_1 19 rfl rfl)
theorem dX4_init_45 : decode cX4_init 45 = .ok (.aload_n 0, 1) := dk_42 (dk_at dksX4_init_1 22 rfl rfl)
theorem dX4_init_46 : decode cX4_init 46 = .ok (.bipush 84, 2) := dk_16 84 (dk_at dksX4_init_2 0 rfl rfl)
theorem dX4_init_48 : decode cX4_init 48 = .ok (.newarray .int, 2) := dk_188_10 (dk_at dksX4_init_2 2 rfl rfl)
theorem dX4_init_50 : decode cX4_init 50 = .ok (.putfield 26, 3) := dk_181 0 26 (dk_at dksX4_init_2 4 rfl rfl)
theorem dX4_init_53 : decode cX4_init 53 = .ok (.aload_n 0, 1) := dk_42 (dk_at dksX4_init_2 7 rfl rfl)
theorem dX4_init_54 : decode cX4_init 54 = .ok (.bipush 84, 2) := dk_16 84 (dk_at dksX4_init_2 8 rfl rfl)
theorem dX4_init_56 : decode cX4_init 56 = .ok (.newarray .int, 2) := dk_188_10 (dk_at dksX4_init_2 10 rfl rfl)
theorem dX4_init_58 : decode cX4_init 58 = .ok (.putfield 29, 3) := dk_181 0 29 (dk_at dksX4_init_2 12 rfl rfl)
theorem dX4_init_61 : decode cX4_init 61 = .ok (.aload_n 0, 1) := dk_42 (dk_at dksX4_init_2 15 rfl rfl)
theorem dX4_init_62 : decode cX4_init 62 = .ok (.iconst 4, 1) := dk_7 (dk_at dksX4_init_2 16 rfl rfl)
theorem dX4_init_63 : decode cX4_init 63 = .ok (.newarray .int, 2) := dk_188_10 (dk_at dksX4_init_2 17 rfl rfl)
theorem dX4_init_65 : decode cX4_init 65 = .ok (.putfield 32, 3) := dk_181 0 32 (dk_at dksX4_init_2 19 rfl rfl)
theorem dX4_init_68 : decode cX4_init 68 = .ok (.aload_n 0, 1) := dk_42 (dk_at dksX4_init_2 22 rfl rfl)
theorem dX4_init_69 : decode cX4_init 69 = .ok (.iconst 4, 1) := dk_7 (dk_at dksX4_init_2 23 rfl rfl)
theorem dX4_init_70 : decode cX4_init 70 = .ok (.newarray .int, 2) := dk_188_10 (dk_at dksX4_init_3 0 rfl rfl)
theorem dX4_init_72 : decode cX4_init 72 = .ok (.putfield 35, 3) := dk_181 0 35 (dk_at dksX4_init_3 2 rfl rfl)
theorem dX4_init_75 : decode cX4_init 75 = .ok (.aload_n 0, 1) := dk_42 (dk_at dksX4_init_3 5 rfl rfl)
theorem dX4_init_76 : decode cX4_init 76 = .ok (.sipush 160, 3) := dk_17 0 160 (dk_at dksX4_init_3 6 rfl rfl)
theorem dX4_init_79 : decode cX4_init 79 = .ok (.newarray .int, 2) := dk_188_10 (dk_at dksX4_init_3 9 rfl rfl)
theorem dX4_init_81 : decode cX4_init 81 = .ok (.putfield 38, 3) := dk_181 0 38 (dk_at dksX4_init_3 11 rfl rfl)
theorem dX4_init_84 : decode cX4_init 84 = .ok (.aload_n 0, 1) := dk_42 (dk_at dksX4_init_3 14 rfl rfl)
theorem dX4_init_85 : decode cX4_init 85 = .ok (.bipush 58, 2) := dk_16 58 (dk_at dksX4_init_3 15 rfl rfl)
theorem dX4_init_87 : decode cX4_init 87 = .ok (.newarray .int, 2) := dk_188_10 (dk_at dksX4_init_3 17 rfl rfl)
theorem dX4_init_89 : decode cX4_init 89 = .ok (.putfield 41, 3) := dk_181 0 41 (dk_at dksX4_init_3 19 rfl rfl)
theorem dX4_init_92 : decode cX4_init 92 = .ok (.iconst 0, 1) := dk_3 (dk_at dksX4_init_3 22 rfl rfl)
theorem dX4_init_93 : decode cX4_init 93 = .ok (.istore_n 1, 1) := dk_60 (dk_at dksX4_init_3 23 rfl rfl)
theorem dX4_init_94 : decode cX4_init 94 = .ok (.iload_n 1, 1) := dk_27 (dk_at dksX4_init_4 0 rfl rfl)
theorem dX4_init_95 : decode cX4_init 95 = .ok (.iconst 4, 1) := dk_7 (dk_at dksX4_init_4 1 rfl rfl)
theorem dX4_init_96 : decode cX4_init 96 = .ok (.if_icmp .ge 17, 3) := dk_162 0 17 (dk_at dksX4_init_4 2 rfl rfl)
theorem dX4_init_99 : decode cX4_init 99 = .ok (.aload_n 0, 1) := dk_42 (dk_at dksX4_init_4 5 rfl rfl)
theorem dX4_init_100 : decode cX4_init 100 = .ok (.getfield 32, 3) := dk_180 0 32 (dk_at dksX4_init_4 6 rfl rfl)
theorem dX4_init_103 : decode cX4_init 103 = .ok (.iload_n 1, 1) := dk_27 (dk_at dksX4_init_4 9 rfl rfl)
theorem dX4_init_104 : decode cX4_init 104 = .ok (.bipush (-4), 2) := dk_16 252 (dk_at dksX4_init_4 10 rfl rfl)
theorem dX4_init_106 : decode cX4_init 106 = .ok (.iastore, 1) := dk_79 (dk_at dksX4_init_4 12 rfl rfl)
theorem dX4_init_107 : decode cX4_init 107 = .ok (.iinc 1 1, 3) := dk_132 1 1 (dk_at dksX4_init_4 13 rfl rfl)
theorem dX4_init_110 : decode cX4_init 110 = .ok (.goto (-16), 3) := dk_167 255 240 (dk_at dksX4_init_4 16 rfl rfl)
theorem dX4_init_113 : decode cX4_init 113 = .ok (.aload_n 0, 1) := dk_42 (dk_at dksX4_init_4 19 rfl rfl)
theorem dX4_init_114 : decode cX4_init 114 = .ok (.invokevirtual 44, 3) := dk_182 0 44 (dk_at dksX4_init_4 20 rfl rfl)
theorem dX4_init_117 : decode cX4_init 117 = .ok (.aload_n 0, 1) := dk_42 (dk_at dksX4_init_4 23 rfl rfl)
theorem dX4_init_118 : decode cX4_init 118 = .ok (.invokevirtual 47, 3) := dk_182 0 47 (dk_at dksX4_init_5 0 rfl rfl)
theorem dX4_init_121 : decode cX4_init 121 = .ok (.return_, 1) := dk_177 (dk_at dksX4_init_5 3 rfl rfl)
abbrev cX4_firstDraft : ByteArray := prog_12_method_7_code
def yX4_firstDraft : MethodName := ⟨RX4, "firstDraft", "()V"⟩
def dkwX4_firstDraft_1 : List UInt8 := [182, 0, 50, 42, 3, 181, 0, 54, 42, 3, 181, 0, 58, 42, 3, 181, 0, 61, 42, 3, 181, 0, 65, 177]
abbrev dktX4_firstDraft_1 : List UInt8 := dkwX4_firstDraft_1 ++ []
def dkwX4_firstDraft_0 : List UInt8 := [3, 60, 27, 16, 58, 162, 0, 16, 42, 180, 0, 20, 27, 3, 79, 132, 1, 1, 167, 255, 240, 42, 4, 4]
abbrev dktX4_firstDraft_0 : List UInt8 := dkwX4_firstDraft_0 ++ dktX4_firstDraft_1
theorem dksX4_firstDraft_0 : cX4_firstDraft.data.toList.drop 0 = dktX4_firstDraft_0 := by decide +kernel
theorem dksX4_firstDraft_1 : cX4_firstDraft.data.toList.drop 24 = dktX4_firstDraft_1 := dk_seg dksX4_firstDraft_0 24 rfl rfl
theorem dX4_firstDraft_0 : decode cX4_firstDraft 0 = .ok (.iconst 0, 1) := dk_3 (dk_at dksX4_firstDraft_0 0 rfl rfl)
theorem dX4_firstDraft_1 : decode cX4_firstDraft 1 = .ok (.istore_n 1, 1) := dk_60 (dk_at dksX4_firstDraft_0 1 rfl rfl)
theorem dX4_firstDraft_2 : decode cX4_firstDraft 2 = .ok (.iload_n 1, 1) := dk_27 (dk_at dksX4_firstDraft_0 2 rfl rfl)
theorem dX4_firstDraft_3 : decode cX4_firstDraft 3 = .ok (.bipush 58, 2) := dk_16 58 (dk_at dksX4_firstDraft_0 3 rfl rfl)
theorem dX4_firstDraft_5 : decode cX4_firstDraft 5 = .ok (.if_icmp .ge 16, 3) := dk_162 0 16 (dk_at dksX4_firstDraft_0 5 rfl rfl)
theorem dX4_firstDraft_8 : decode cX4_firstDraft 8 = .ok (.aload_n 0, 1) := dk_42 (dk_at dksX4_firstDraft_0 8 rfl rfl)
theorem dX4_firstDraft_9 : decode cX4_firstDraft 9 = .ok (.getfield 20, 3) := dk_180 0 20 (dk_at dksX4_firstDraft_0 9 rfl rfl)
theorem dX4_firstDraft_12 : decode cX4_firstDraft 12 = .ok (.iload_n 1, 1) := dk_27 (dk_at dksX4_firstDraft_0 12 rfl rfl)
theorem dX4_firstDraft_13 : decode cX4_firstDraft 13 = .ok (.iconst 0, 1) := dk_3 (dk_at dksX4_firstDraft_0 13 rfl rfl)
theorem dX4_firstDraft_14 : decode cX4_firstDraft 14 = .ok (.iastore, 1) := dk_79 (dk_at dksX4_firstDraft_0 14 rfl rfl)
theorem dX4_firstDraft_15 : decode cX4_firstDraft 15 = .ok (.iinc 1 1, 3) := dk_132 1 1 (dk_at dksX4_firstDraft_0 15 rfl rfl)
theorem dX4_firstDraft_18 : decode cX4_firstDraft 18 = .ok (.goto (-16), 3) := dk_167 255 240 (dk_at dksX4_firstDraft_0 18 rfl rfl)
theorem dX4_firstDraft_21 : decode cX4_firstDraft 21 = .ok (.aload_n 0, 1) := dk_42 (dk_at dksX4_firstDraft_0 21 rfl rfl)
theorem dX4_firstDraft_22 : decode cX4_firstDraft 22 = .ok (.iconst 1, 1) := dk_4 (dk_at dksX4_firstDraft_0 22 rfl rfl)
theorem dX4_firstDraft_23 : decode cX4_firstDraft 23 = .ok (.iconst 1, 1) := dk_4 (dk_at dksX4_firstDraft_0 23 rfl rfl)
theorem dX4_firstDraft_24 : decode cX4_firstDraft 24 = .ok (.invokevirtual 50, 3) := dk_182 0 50 (dk_at dksX4_firstDraft_1 0 rfl rfl)
theorem dX4_firstDraft_27 : decode cX4_firstDraft 27 = .ok (.aload_n 0, 1) := dk_42 (dk_at dksX4_firstDraft_1 3 rfl rfl)
theorem dX4_firstDraft_28 : decode cX4_firstDraft 28 = .ok (.iconst 0, 1) := dk_3 (dk_at dksX4_firstDraft_1 4 rfl rfl)
theorem dX4_firstDraft_29 : decode cX4_firstDraft 29 = .ok (.putfield 54, 3) := dk_181 0 54 (dk_at dksX4_firstDraft_1 5 rfl rfl)
theorem dX4_firstDraft_32 : decode cX4_firstDraft 32 = .ok (.aload_n 0, 1) := dk_42 (dk_at dksX4_firstDraft_1 8 rfl rfl)
theorem dX4_firstDraft_33 : decode cX4_firstDraft 33 = .ok (.iconst 0, 1) := dk_3 (dk_at dksX4_firstDraft_1 9 rfl rfl)
theorem dX4_firstDraft_34 : decode cX4_firstDraft 34 = .ok (.putfield 58, 3) := dk_181 0 58 (dk_at dksX4_firstDraft_1 10 rfl rfl)
theorem dX4_firstDraft_37 : decode cX4_firstDraft 37 = .ok (.aload_n 0, 1) := dk_42 (dk_at dksX4_firstDraft_1 13 rfl rfl)
theorem dX4_firstDraft_38 : decode cX4_firstDraft 38 = .ok (.iconst 0, 1) := dk_3 (dk_at dksX4_firstDraft_1 14 rfl rfl)
theorem dX4_firstDraft_39 : decode cX4_firstDraft 39 = .ok (.putfield 61, 3) := dk_181 0 61 (dk_at dksX4_firstDraft_1 15 rfl rfl)
theorem dX4_firstDraft_42 : decode cX4_firstDraft 42 = .ok (.aload_n 0, 1) := dk_42 (dk_at dksX4_firstDraft_1 18 rfl rfl)
theorem dX4_firstDraft_43 : decode cX4_firstDraft 43 = .ok (.iconst 0, 1) := dk_3 (dk_at dksX4_firstDraft_1 19 rfl rfl)
theorem dX4_firstDraft_44 : decode cX4_firstDraft 44 = .ok (.putfield 65, 3) := dk_181 0 65 (dk_at dksX4_firstDraft_1 20 rfl rfl)
theorem dX4_firstDraft_47 : decode cX4_firstDraft 47 = .ok (.return_, 1) := dk_177 (dk_at dksX4_firstDraft_1 23 rfl rfl)
abbrev cX4_tellAll : ByteArray := prog_12_method_6_code
def yX4_tellAll : MethodName := ⟨RX4, "tellAll", "(II)V"⟩
def dkwX4_tellAll_1 : List UInt8 := [167, 255, 236, 177]
abbrev dktX4_tellAll_1 : List UInt8 := dkwX4_tellAll_1 ++ []
def dkwX4_tellAll_0 : List UInt8 := [3, 62, 29, 16, 6, 162, 0, 20, 42, 180, 0, 20, 5, 29, 104, 27, 96, 28, 79, 132, 3, 1]
abbrev dktX4_tellAll_0 : List UInt8 := dkwX4_tellAll_0 ++ dktX4_tellAll_1
theorem dksX4_tellAll_0 : cX4_tellAll.data.toList.drop 0 = dktX4_tellAll_0 := by decide +kernel
theorem dksX4_tellAll_1 : cX4_tellAll.data.toList.drop 22 = dktX4_tellAll_1 := dk_seg dksX4_tellAll_0 22 rfl rfl
theorem dX4_tellAll_0 : decode cX4_tellAll 0 = .ok (.iconst 0, 1) := dk_3 (dk_at dksX4_tellAll_0 0 rfl rfl)
theorem dX4_tellAll_1 : decode cX4_tellAll 1 = .ok (.istore_n 3, 1) := dk_62 (dk_at dksX4_tellAll_0 1 rfl rfl)
theorem dX4_tellAll_2 : decode cX4_tellAll 2 = .ok (.iload_n 3, 1) := dk_29 (dk_at dksX4_tellAll_0 2 rfl rfl)
theorem dX4_tellAll_3 : decode cX4_tellAll 3 = .ok (.bipush 6, 2) := dk_16 6 (dk_at dksX4_tellAll_0 3 rfl rfl)
theorem dX4_tellAll_5 : decode cX4_tellAll 5 = .ok (.if_icmp .ge 20, 3) := dk_162 0 20 (dk_at dksX4_tellAll_0 5 rfl rfl)
theorem dX4_tellAll_8 : decode cX4_tellAll 8 = .ok (.aload_n 0, 1) := dk_42 (dk_at dksX4_tellAll_0 8 rfl rfl)
theorem dX4_tellAll_9 : decode cX4_tellAll 9 = .ok (.getfield 20, 3) := dk_180 0 20 (dk_at dksX4_tellAll_0 9 rfl rfl)
theorem dX4_tellAll_12 : decode cX4_tellAll 12 = .ok (.iconst 2, 1) := dk_5 (dk_at dksX4_tellAll_0 12 rfl rfl)
theorem dX4_tellAll_13 : decode cX4_tellAll 13 = .ok (.iload_n 3, 1) := dk_29 (dk_at dksX4_tellAll_0 13 rfl rfl)
theorem dX4_tellAll_14 : decode cX4_tellAll 14 = .ok (.imul, 1) := dk_104 (dk_at dksX4_tellAll_0 14 rfl rfl)
theorem dX4_tellAll_15 : decode cX4_tellAll 15 = .ok (.iload_n 1, 1) := dk_27 (dk_at dksX4_tellAll_0 15 rfl rfl)
theorem dX4_tellAll_16 : decode cX4_tellAll 16 = .ok (.iadd, 1) := dk_96 (dk_at dksX4_tellAll_0 16 rfl rfl)
theorem dX4_tellAll_17 : decode cX4_tellAll 17 = .ok (.iload_n 2, 1) := dk_28 (dk_at dksX4_tellAll_0 17 rfl rfl)
theorem dX4_tellAll_18 : decode cX4_tellAll 18 = .ok (.iastore, 1) := dk_79 (dk_at dksX4_tellAll_0 18 rfl rfl)
theorem dX4_tellAll_19 : decode cX4_tellAll 19 = .ok (.iinc 3 1, 3) := dk_132 3 1 (dk_at dksX4_tellAll_0 19 rfl rfl)
theorem dX4_tellAll_22 : decode cX4_tellAll 22 = .ok (.goto (-20), 3) := dk_167 255 236 (dk_at dksX4_tellAll_1 0 rfl rfl)
theorem dX4_tellAll_25 : decode cX4_tellAll 25 = .ok (.return_, 1) := dk_177 (dk_at dksX4_tellAll_1 3 rfl rfl)
abbrev cX4_keepDraft : ByteArray := prog_12_method_8_code
def yX4_keepDraft : MethodName := ⟨RX4, "keepDraft", "()V"⟩
def dkwX4_keepDraft_2 : List UInt8 := [3, 84, 42, 180, 0, 16, 4, 3, 84, 177]
abbrev dktX4_keepDraft_2 : List UInt8 := dkwX4_keepDraft_2 ++ []
def dkwX4_keepDraft_1 : List UInt8 := [167, 255, 235, 42, 42, 180, 0, 54, 181, 0, 68, 42, 42, 180, 0, 58, 181, 0, 71, 42, 180, 0, 16, 3]
abbrev dktX4_keepDraft_1 : List UInt8 := dkwX4_keepDraft_1 ++ dktX4_keepDraft_2
def dkwX4_keepDraft_0 : List UInt8 := [3, 60, 27, 16, 58, 162, 0, 21, 42, 180, 0, 7, 27, 42, 180, 0, 20, 27, 46, 79, 132, 1, 1]
abbrev dktX4_keepDraft_0 : List UInt8 := dkwX4_keepDraft_0 ++ dktX4_keepDraft_1
theorem dksX4_keepDraft_0 : cX4_keepDraft.data.toList.drop 0 = dktX4_keepDraft_0 := by decide +kernel
theorem dksX4_keepDraft_1 : cX4_keepDraft.data.toList.drop 23 = dktX4_keepDraft_1 := dk_seg dksX4_keepDraft_0 23 rfl rfl
theorem dksX4_keepDraft_2 : cX4_keepDraft.data.toList.drop 47 = dktX4_keepDraft_2 := dk_seg dksX4_keepDraft_1 24 rfl rfl
theorem dX4_keepDraft_0 : decode cX4_keepDraft 0 = .ok (.iconst 0, 1) := dk_3 (dk_at dksX4_keepDraft_0 0 rfl rfl)
theorem dX4_keepDraft_1 : decode cX4_keepDraft 1 = .ok (.istore_n 1, 1) := dk_60 (dk_at dksX4_keepDraft_0 1 rfl rfl)
theorem dX4_keepDraft_2 : decode cX4_keepDraft 2 = .ok (.iload_n 1, 1) := dk_27 (dk_at dksX4_keepDraft_0 2 rfl rfl)
theorem dX4_keepDraft_3 : decode cX4_keepDraft 3 = .ok (.bipush 58, 2) := dk_16 58 (dk_at dksX4_keepDraft_0 3 rfl rfl)
theorem dX4_keepDraft_5 : decode cX4_keepDraft 5 = .ok (.if_icmp .ge 21, 3) := dk_162 0 21 (dk_at dksX4_keepDraft_0 5 rfl rfl)
theorem dX4_keepDraft_8 : decode cX4_keepDraft 8 = .ok (.aload_n 0, 1) := dk_42 (dk_at dksX4_keepDraft_0 8 rfl rfl)
theorem dX4_keepDraft_9 : decode cX4_keepDraft 9 = .ok (.getfield 7, 3) := dk_180 0 7 (dk_at dksX4_keepDraft_0 9 rfl rfl)
theorem dX4_keepDraft_12 : decode cX4_keepDraft 12 = .ok (.iload_n 1, 1) := dk_27 (dk_at dksX4_keepDraft_0 12 rfl rfl)
theorem dX4_keepDraft_13 : decode cX4_keepDraft 13 = .ok (.aload_n 0, 1) := dk_42 (dk_at dksX4_keepDraft_0 13 rfl rfl)
theorem dX4_keepDraft_14 : decode cX4_keepDraft 14 = .ok (.getfield 20, 3) := dk_180 0 20 (dk_at dksX4_keepDraft_0 14 rfl rfl)
theorem dX4_keepDraft_17 : decode cX4_keepDraft 17 = .ok (.iload_n 1, 1) := dk_27 (dk_at dksX4_keepDraft_0 17 rfl rfl)
theorem dX4_keepDraft_18 : decode cX4_keepDraft 18 = .ok (.iaload, 1) := dk_46 (dk_at dksX4_keepDraft_0 18 rfl rfl)
theorem dX4_keepDraft_19 : decode cX4_keepDraft 19 = .ok (.iastore, 1) := dk_79 (dk_at dksX4_keepDraft_0 19 rfl rfl)
theorem dX4_keepDraft_20 : decode cX4_keepDraft 20 = .ok (.iinc 1 1, 3) := dk_132 1 1 (dk_at dksX4_keepDraft_0 20 rfl rfl)
theorem dX4_keepDraft_23 : decode cX4_keepDraft 23 = .ok (.goto (-21), 3) := dk_167 255 235 (dk_at dksX4_keepDraft_1 0 rfl rfl)
theorem dX4_keepDraft_26 : decode cX4_keepDraft 26 = .ok (.aload_n 0, 1) := dk_42 (dk_at dksX4_keepDraft_1 3 rfl rfl)
theorem dX4_keepDraft_27 : decode cX4_keepDraft 27 = .ok (.aload_n 0, 1) := dk_42 (dk_at dksX4_keepDraft_1 4 rfl rfl)
theorem dX4_keepDraft_28 : decode cX4_keepDraft 28 = .ok (.getfield 54, 3) := dk_180 0 54 (dk_at dksX4_keepDraft_1 5 rfl rfl)
theorem dX4_keepDraft_31 : decode cX4_keepDraft 31 = .ok (.putfield 68, 3) := dk_181 0 68 (dk_at dksX4_keepDraft_1 8 rfl rfl)
theorem dX4_keepDraft_34 : decode cX4_keepDraft 34 = .ok (.aload_n 0, 1) := dk_42 (dk_at dksX4_keepDraft_1 11 rfl rfl)
theorem dX4_keepDraft_35 : decode cX4_keepDraft 35 = .ok (.aload_n 0, 1) := dk_42 (dk_at dksX4_keepDraft_1 12 rfl rfl)
theorem dX4_keepDraft_36 : decode cX4_keepDraft 36 = .ok (.getfield 58, 3) := dk_180 0 58 (dk_at dksX4_keepDraft_1 13 rfl rfl)
theorem dX4_keepDraft_39 : decode cX4_keepDraft 39 = .ok (.putfield 71, 3) := dk_181 0 71 (dk_at dksX4_keepDraft_1 16 rfl rfl)
theorem dX4_keepDraft_42 : decode cX4_keepDraft 42 = .ok (.aload_n 0, 1) := dk_42 (dk_at dksX4_keepDraft_1 19 rfl rfl)
theorem dX4_keepDraft_43 : decode cX4_keepDraft 43 = .ok (.getfield 16, 3) := dk_180 0 16 (dk_at dksX4_keepDraft_1 20 rfl rfl)
theorem dX4_keepDraft_46 : decode cX4_keepDraft 46 = .ok (.iconst 0, 1) := dk_3 (dk_at dksX4_keepDraft_1 23 rfl rfl)
theorem dX4_keepDraft_47 : decode cX4_keepDraft 47 = .ok (.iconst 0, 1) := dk_3 (dk_at dksX4_keepDraft_2 0 rfl rfl)
theorem dX4_keepDraft_48 : decode cX4_keepDraft 48 = .ok (.bastore, 1) := dk_84 (dk_at dksX4_keepDraft_2 1 rfl rfl)
theorem dX4_keepDraft_49 : decode cX4_keepDraft 49 = .ok (.aload_n 0, 1) := dk_42 (dk_at dksX4_keepDraft_2 2 rfl rfl)
theorem dX4_keepDraft_50 : decode cX4_keepDraft 50 = .ok (.getfield 16, 3) := dk_180 0 16 (dk_at dksX4_keepDraft_2 3 rfl rfl)
theorem dX4_keepDraft_53 : decode cX4_keepDraft 53 = .ok (.iconst 1, 1) := dk_4 (dk_at dksX4_keepDraft_2 6 rfl rfl)
theorem dX4_keepDraft_54 : decode cX4_keepDraft 54 = .ok (.iconst 0, 1) := dk_3 (dk_at dksX4_keepDraft_2 7 rfl rfl)
theorem dX4_keepDraft_55 : decode cX4_keepDraft 55 = .ok (.bastore, 1) := dk_84 (dk_at dksX4_keepDraft_2 8 rfl rfl)
theorem dX4_keepDraft_56 : decode cX4_keepDraft 56 = .ok (.return_, 1) := dk_177 (dk_at dksX4_keepDraft_2 9 rfl rfl)
abbrev cX4_feed : ByteArray := prog_12_method_9_code
def yX4_feed : MethodName := ⟨RX4, "feed", "(I)I"⟩
def dkwX4_feed_2 : List UInt8 := [180, 0, 80, 172]
abbrev dktX4_feed_2 : List UInt8 := dkwX4_feed_2 ++ []
def dkwX4_feed_1 : List UInt8 := [16, 253, 172, 42, 180, 0, 23, 42, 180, 0, 80, 27, 79, 42, 89, 180, 0, 80, 4, 96, 181, 0, 80, 42]
abbrev dktX4_feed_1 : List UInt8 := dkwX4_feed_1 ++ dktX4_feed_2
def dkwX4_feed_0 : List UInt8 := [27, 133, 9, 20, 0, 74, 184, 0, 76, 154, 0, 5, 2, 172, 42, 180, 0, 80, 17, 0, 160, 160, 0, 6]
abbrev dktX4_feed_0 : List UInt8 := dkwX4_feed_0 ++ dktX4_feed_1
theorem dksX4_feed_0 : cX4_feed.data.toList.drop 0 = dktX4_feed_0 := by decide +kernel
theorem dksX4_feed_1 : cX4_feed.data.toList.drop 24 = dktX4_feed_1 := dk_seg dksX4_feed_0 24 rfl rfl
theorem dksX4_feed_2 : cX4_feed.data.toList.drop 48 = dktX4_feed_2 := dk_seg dksX4_feed_1 24 rfl rfl
theorem dX4_feed_0 : decode cX4_feed 0 = .ok (.iload_n 1, 1) := dk_27 (dk_at dksX4_feed_0 0 rfl rfl)
theorem dX4_feed_1 : decode cX4_feed 1 = .ok (.i2l, 1) := dk_133 (dk_at dksX4_feed_0 1 rfl rfl)
theorem dX4_feed_2 : decode cX4_feed 2 = .ok (.lconst 0, 1) := dk_9 (dk_at dksX4_feed_0 2 rfl rfl)
theorem dX4_feed_3 : decode cX4_feed 3 = .ok (.ldc2_w 74, 3) := dk_20 0 74 (dk_at dksX4_feed_0 3 rfl rfl)
theorem dX4_feed_6 : decode cX4_feed 6 = .ok (.invokestatic 76, 3) := dk_184 0 76 (dk_at dksX4_feed_0 6 rfl rfl)
theorem dX4_feed_9 : decode cX4_feed 9 = .ok (.ifCond .ne 5, 3) := dk_154 0 5 (dk_at dksX4_feed_0 9 rfl rfl)
theorem dX4_feed_12 : decode cX4_feed 12 = .ok (.iconst (-1), 1) := dk_2 (dk_at dksX4_feed_0 12 rfl rfl)
theorem dX4_feed_13 : decode cX4_feed 13 = .ok (.ireturn, 1) := dk_172 (dk_at dksX4_feed_0 13 rfl rfl)
theorem dX4_feed_14 : decode cX4_feed 14 = .ok (.aload_n 0, 1) := dk_42 (dk_at dksX4_feed_0 14 rfl rfl)
theorem dX4_feed_15 : decode cX4_feed 15 = .ok (.getfield 80, 3) := dk_180 0 80 (dk_at dksX4_feed_0 15 rfl rfl)
theorem dX4_feed_18 : decode cX4_feed 18 = .ok (.sipush 160, 3) := dk_17 0 160 (dk_at dksX4_feed_0 18 rfl rfl)
theorem dX4_feed_21 : decode cX4_feed 21 = .ok (.if_icmp .ne 6, 3) := dk_160 0 6 (dk_at dksX4_feed_0 21 rfl rfl)
theorem dX4_feed_24 : decode cX4_feed 24 = .ok (.bipush (-3), 2) := dk_16 253 (dk_at dksX4_feed_1 0 rfl rfl)
theorem dX4_feed_26 : decode cX4_feed 26 = .ok (.ireturn, 1) := dk_172 (dk_at dksX4_feed_1 2 rfl rfl)
theorem dX4_feed_27 : decode cX4_feed 27 = .ok (.aload_n 0, 1) := dk_42 (dk_at dksX4_feed_1 3 rfl rfl)
theorem dX4_feed_28 : decode cX4_feed 28 = .ok (.getfield 23, 3) := dk_180 0 23 (dk_at dksX4_feed_1 4 rfl rfl)
theorem dX4_feed_31 : decode cX4_feed 31 = .ok (.aload_n 0, 1) := dk_42 (dk_at dksX4_feed_1 7 rfl rfl)
theorem dX4_feed_32 : decode cX4_feed 32 = .ok (.getfield 80, 3) := dk_180 0 80 (dk_at dksX4_feed_1 8 rfl rfl)
theorem dX4_feed_35 : decode cX4_feed 35 = .ok (.iload_n 1, 1) := dk_27 (dk_at dksX4_feed_1 11 rfl rfl)
theorem dX4_feed_36 : decode cX4_feed 36 = .ok (.iastore, 1) := dk_79 (dk_at dksX4_feed_1 12 rfl rfl)
theorem dX4_feed_37 : decode cX4_feed 37 = .ok (.aload_n 0, 1) := dk_42 (dk_at dksX4_feed_1 13 rfl rfl)
theorem dX4_feed_38 : decode cX4_feed 38 = .ok (.dup, 1) := dk_89 (dk_at dksX4_feed_1 14 rfl rfl)
theorem dX4_feed_39 : decode cX4_feed 39 = .ok (.getfield 80, 3) := dk_180 0 80 (dk_at dksX4_feed_1 15 rfl rfl)
theorem dX4_feed_42 : decode cX4_feed 42 = .ok (.iconst 1, 1) := dk_4 (dk_at dksX4_feed_1 18 rfl rfl)
theorem dX4_feed_43 : decode cX4_feed 43 = .ok (.iadd, 1) := dk_96 (dk_at dksX4_feed_1 19 rfl rfl)
theorem dX4_feed_44 : decode cX4_feed 44 = .ok (.putfield 80, 3) := dk_181 0 80 (dk_at dksX4_feed_1 20 rfl rfl)
theorem dX4_feed_47 : decode cX4_feed 47 = .ok (.aload_n 0, 1) := dk_42 (dk_at dksX4_feed_1 23 rfl rfl)
theorem dX4_feed_48 : decode cX4_feed 48 = .ok (.getfield 80, 3) := dk_180 0 80 (dk_at dksX4_feed_2 0 rfl rfl)
theorem dX4_feed_51 : decode cX4_feed 51 = .ok (.ireturn, 1) := dk_172 (dk_at dksX4_feed_2 3 rfl rfl)
abbrev cX4_in : ByteArray := prog_12_method_3_code
def yX4_in : MethodName := ⟨RX4, "in", "(JJJ)Z"⟩
def dkwX4_in_0 : List UInt8 := [30, 32, 148, 155, 0, 14, 30, 22, 4, 148, 157, 0, 7, 4, 167, 0, 4, 3, 172]
abbrev dktX4_in_0 : List UInt8 := dkwX4_in_0 ++ []
theorem dksX4_in_0 : cX4_in.data.toList.drop 0 = dktX4_in_0 := by decide +kernel
theorem dX4_in_0 : decode cX4_in 0 = .ok (.lload_n 0, 1) := dk_30 (dk_at dksX4_in_0 0 rfl rfl)
theorem dX4_in_1 : decode cX4_in 1 = .ok (.lload_n 2, 1) := dk_32 (dk_at dksX4_in_0 1 rfl rfl)
theorem dX4_in_2 : decode cX4_in 2 = .ok (.lcmp, 1) := dk_148 (dk_at dksX4_in_0 2 rfl rfl)
theorem dX4_in_3 : decode cX4_in 3 = .ok (.ifCond .lt 14, 3) := dk_155 0 14 (dk_at dksX4_in_0 3 rfl rfl)
theorem dX4_in_6 : decode cX4_in 6 = .ok (.lload_n 0, 1) := dk_30 (dk_at dksX4_in_0 6 rfl rfl)
theorem dX4_in_7 : decode cX4_in 7 = .ok (.lload 4, 2) := dk_22 4 (dk_at dksX4_in_0 7 rfl rfl)
theorem dX4_in_9 : decode cX4_in 9 = .ok (.lcmp, 1) := dk_148 (dk_at dksX4_in_0 9 rfl rfl)
theorem dX4_in_10 : decode cX4_in 10 = .ok (.ifCond .gt 7, 3) := dk_157 0 7 (dk_at dksX4_in_0 10 rfl rfl)
theorem dX4_in_13 : decode cX4_in 13 = .ok (.iconst 1, 1) := dk_4 (dk_at dksX4_in_0 13 rfl rfl)
theorem dX4_in_14 : decode cX4_in 14 = .ok (.goto 4, 3) := dk_167 0 4 (dk_at dksX4_in_0 14 rfl rfl)
theorem dX4_in_17 : decode cX4_in 17 = .ok (.iconst 0, 1) := dk_3 (dk_at dksX4_in_0 17 rfl rfl)
theorem dX4_in_18 : decode cX4_in 18 = .ok (.ireturn, 1) := dk_172 (dk_at dksX4_in_0 18 rfl rfl)
abbrev cX4_end : ByteArray := prog_12_method_10_code
def yX4_end : MethodName := ⟨RX4, "end", "(I)I"⟩
def dkwX4_end_1 : List UInt8 := [181, 0, 80, 28, 172]
abbrev dktX4_end_1 : List UInt8 := dkwX4_end_1 ++ []
def dkwX4_end_0 : List UInt8 := [27, 133, 9, 42, 180, 0, 80, 133, 184, 0, 76, 154, 0, 5, 2, 172, 42, 180, 0, 80, 61, 42, 27]
abbrev dktX4_end_0 : List UInt8 := dkwX4_end_0 ++ dktX4_end_1
theorem dksX4_end_0 : cX4_end.data.toList.drop 0 = dktX4_end_0 := by decide +kernel
theorem dksX4_end_1 : cX4_end.data.toList.drop 23 = dktX4_end_1 := dk_seg dksX4_end_0 23 rfl rfl
theorem dX4_end_0 : decode cX4_end 0 = .ok (.iload_n 1, 1) := dk_27 (dk_at dksX4_end_0 0 rfl rfl)
theorem dX4_end_1 : decode cX4_end 1 = .ok (.i2l, 1) := dk_133 (dk_at dksX4_end_0 1 rfl rfl)
theorem dX4_end_2 : decode cX4_end 2 = .ok (.lconst 0, 1) := dk_9 (dk_at dksX4_end_0 2 rfl rfl)
theorem dX4_end_3 : decode cX4_end 3 = .ok (.aload_n 0, 1) := dk_42 (dk_at dksX4_end_0 3 rfl rfl)
theorem dX4_end_4 : decode cX4_end 4 = .ok (.getfield 80, 3) := dk_180 0 80 (dk_at dksX4_end_0 4 rfl rfl)
theorem dX4_end_7 : decode cX4_end 7 = .ok (.i2l, 1) := dk_133 (dk_at dksX4_end_0 7 rfl rfl)
theorem dX4_end_8 : decode cX4_end 8 = .ok (.invokestatic 76, 3) := dk_184 0 76 (dk_at dksX4_end_0 8 rfl rfl)
theorem dX4_end_11 : decode cX4_end 11 = .ok (.ifCond .ne 5, 3) := dk_154 0 5 (dk_at dksX4_end_0 11 rfl rfl)
theorem dX4_end_14 : decode cX4_end 14 = .ok (.iconst (-1), 1) := dk_2 (dk_at dksX4_end_0 14 rfl rfl)
theorem dX4_end_15 : decode cX4_end 15 = .ok (.ireturn, 1) := dk_172 (dk_at dksX4_end_0 15 rfl rfl)
theorem dX4_end_16 : decode cX4_end 16 = .ok (.aload_n 0, 1) := dk_42 (dk_at dksX4_end_0 16 rfl rfl)
theorem dX4_end_17 : decode cX4_end 17 = .ok (.getfield 80, 3) := dk_180 0 80 (dk_at dksX4_end_0 17 rfl rfl)
theorem dX4_end_20 : decode cX4_end 20 = .ok (.istore_n 2, 1) := dk_61 (dk_at dksX4_end_0 20 rfl rfl)
theorem dX4_end_21 : decode cX4_end 21 = .ok (.aload_n 0, 1) := dk_42 (dk_at dksX4_end_0 21 rfl rfl)
theorem dX4_end_22 : decode cX4_end 22 = .ok (.iload_n 1, 1) := dk_27 (dk_at dksX4_end_0 22 rfl rfl)
theorem dX4_end_23 : decode cX4_end 23 = .ok (.putfield 80, 3) := dk_181 0 80 (dk_at dksX4_end_1 0 rfl rfl)
theorem dX4_end_26 : decode cX4_end 26 = .ok (.iload_n 2, 1) := dk_28 (dk_at dksX4_end_1 3 rfl rfl)
theorem dX4_end_27 : decode cX4_end 27 = .ok (.ireturn, 1) := dk_172 (dk_at dksX4_end_1 4 rfl rfl)
abbrev cX4_text : ByteArray := prog_12_method_22_code
def yX4_text : MethodName := ⟨RX4, "text", "()I"⟩
def dkwX4_text_2 : List UInt8 := [181, 0, 80, 42, 180, 0, 83, 158, 0, 11, 16, 246, 42, 180, 0, 89, 100, 172, 42, 182, 0, 47, 27, 172]
abbrev dktX4_text_2 : List UInt8 := dkwX4_text_2 ++ []
def dkwX4_text_1 : List UInt8 := [154, 0, 20, 42, 180, 0, 107, 153, 0, 13, 42, 182, 0, 146, 132, 1, 1, 167, 255, 235, 42, 3]
abbrev dktX4_text_1 : List UInt8 := dkwX4_text_1 ++ dktX4_text_2
def dkwX4_text_0 : List UInt8 := [3, 60, 42, 3, 181, 0, 83, 42, 3, 181, 0, 92, 42, 182, 0, 44, 42, 182, 0, 129, 42, 180, 0, 83]
abbrev dktX4_text_0 : List UInt8 := dkwX4_text_0 ++ dktX4_text_1
theorem dksX4_text_0 : cX4_text.data.toList.drop 0 = dktX4_text_0 := by decide +kernel
theorem dksX4_text_1 : cX4_text.data.toList.drop 24 = dktX4_text_1 := dk_seg dksX4_text_0 24 rfl rfl
theorem dksX4_text_2 : cX4_text.data.toList.drop 46 = dktX4_text_2 := dk_seg dksX4_text_1 22 rfl rfl
theorem dX4_text_0 : decode cX4_text 0 = .ok (.iconst 0, 1) := dk_3 (dk_at dksX4_text_0 0 rfl rfl)
theorem dX4_text_1 : decode cX4_text 1 = .ok (.istore_n 1, 1) := dk_60 (dk_at dksX4_text_0 1 rfl rfl)
theorem dX4_text_2 : decode cX4_text 2 = .ok (.aload_n 0, 1) := dk_42 (dk_at dksX4_text_0 2 rfl rfl)
theorem dX4_text_3 : decode cX4_text 3 = .ok (.iconst 0, 1) := dk_3 (dk_at dksX4_text_0 3 rfl rfl)
theorem dX4_text_4 : decode cX4_text 4 = .ok (.putfield 83, 3) := dk_181 0 83 (dk_at dksX4_text_0 4 rfl rfl)
theorem dX4_text_7 : decode cX4_text 7 = .ok (.aload_n 0, 1) := dk_42 (dk_at dksX4_text_0 7 rfl rfl)
theorem dX4_text_8 : decode cX4_text 8 = .ok (.iconst 0, 1) := dk_3 (dk_at dksX4_text_0 8 rfl rfl)
theorem dX4_text_9 : decode cX4_text 9 = .ok (.putfield 92, 3) := dk_181 0 92 (dk_at dksX4_text_0 9 rfl rfl)
theorem dX4_text_12 : decode cX4_text 12 = .ok (.aload_n 0, 1) := dk_42 (dk_at dksX4_text_0 12 rfl rfl)
theorem dX4_text_13 : decode cX4_text 13 = .ok (.invokevirtual 44, 3) := dk_182 0 44 (dk_at dksX4_text_0 13 rfl rfl)
theorem dX4_text_16 : decode cX4_text 16 = .ok (.aload_n 0, 1) := dk_42 (dk_at dksX4_text_0 16 rfl rfl)
theorem dX4_text_17 : decode cX4_text 17 = .ok (.invokevirtual 129, 3) := dk_182 0 129 (dk_at dksX4_text_0 17 rfl rfl)
theorem dX4_text_20 : decode cX4_text 20 = .ok (.aload_n 0, 1) := dk_42 (dk_at dksX4_text_0 20 rfl rfl)
theorem dX4_text_21 : decode cX4_text 21 = .ok (.getfield 83, 3) := dk_180 0 83 (dk_at dksX4_text_0 21 rfl rfl)
theorem dX4_text_24 : decode cX4_text 24 = .ok (.ifCond .ne 20, 3) := dk_154 0 20 (dk_at dksX4_text_1 0 rfl rfl)
theorem dX4_text_27 : decode cX4_text 27 = .ok (.aload_n 0, 1) := dk_42 (dk_at dksX4_text_1 3 rfl rfl)
theorem dX4_text_28 : decode cX4_text 28 = .ok (.getfield 107, 3) := dk_180 0 107 (dk_at dksX4_text_1 4 rfl rfl)
theorem dX4_text_31 : decode cX4_text 31 = .ok (.ifCond .eq 13, 3) := dk_153 0 13 (dk_at dksX4_text_1 7 rfl rfl)
theorem dX4_text_34 : decode cX4_text 34 = .ok (.aload_n 0, 1) := dk_42 (dk_at dksX4_text_1 10 rfl rfl)
theorem dX4_text_35 : decode cX4_text 35 = .ok (.invokevirtual 146, 3) := dk_182 0 146 (dk_at dksX4_text_1 11 rfl rfl)
theorem dX4_text_38 : decode cX4_text 38 = .ok (.iinc 1 1, 3) := dk_132 1 1 (dk_at dksX4_text_1 14 rfl rfl)
theorem dX4_text_41 : decode cX4_text 41 = .ok (.goto (-21), 3) := dk_167 255 235 (dk_at dksX4_text_1 17 rfl rfl)
theorem dX4_text_44 : decode cX4_text 44 = .ok (.aload_n 0, 1) := dk_42 (dk_at dksX4_text_1 20 rfl rfl)
theorem dX4_text_45 : decode cX4_text 45 = .ok (.iconst 0, 1) := dk_3 (dk_at dksX4_text_1 21 rfl rfl)
theorem dX4_text_46 : decode cX4_text 46 = .ok (.putfield 80, 3) := dk_181 0 80 (dk_at dksX4_text_2 0 rfl rfl)
theorem dX4_text_49 : decode cX4_text 49 = .ok (.aload_n 0, 1) := dk_42 (dk_at dksX4_text_2 3 rfl rfl)
theorem dX4_text_50 : decode cX4_text 50 = .ok (.getfield 83, 3) := dk_180 0 83 (dk_at dksX4_text_2 4 rfl rfl)
theorem dX4_text_53 : decode cX4_text 53 = .ok (.ifCond .le 11, 3) := dk_158 0 11 (dk_at dksX4_text_2 7 rfl rfl)
theorem dX4_text_56 : decode cX4_text 56 = .ok (.bipush (-10), 2) := dk_16 246 (dk_at dksX4_text_2 10 rfl rfl)
theorem dX4_text_58 : decode cX4_text 58 = .ok (.aload_n 0, 1) := dk_42 (dk_at dksX4_text_2 12 rfl rfl)
theorem dX4_text_59 : decode cX4_text 59 = .ok (.getfield 89, 3) := dk_180 0 89 (dk_at dksX4_text_2 13 rfl rfl)
theorem dX4_text_62 : decode cX4_text 62 = .ok (.isub, 1) := dk_100 (dk_at dksX4_text_2 16 rfl rfl)
theorem dX4_text_63 : decode cX4_text 63 = .ok (.ireturn, 1) := dk_172 (dk_at dksX4_text_2 17 rfl rfl)
theorem dX4_text_64 : decode cX4_text 64 = .ok (.aload_n 0, 1) := dk_42 (dk_at dksX4_text_2 18 rfl rfl)
theorem dX4_text_65 : decode cX4_text 65 = .ok (.invokevirtual 47, 3) := dk_182 0 47 (dk_at dksX4_text_2 19 rfl rfl)
theorem dX4_text_68 : decode cX4_text 68 = .ok (.iload_n 1, 1) := dk_27 (dk_at dksX4_text_2 22 rfl rfl)
theorem dX4_text_69 : decode cX4_text 69 = .ok (.ireturn, 1) := dk_172 (dk_at dksX4_text_2 23 rfl rfl)
abbrev cX4_reads : ByteArray := prog_12_method_16_code
def yX4_reads : MethodName := ⟨RX4, "reads", "()V"⟩
def dkwX4_reads_11 : List UInt8 := [182, 0, 121, 42, 89, 180, 0, 92, 4, 96, 181, 0, 92, 177]
abbrev dktX4_reads_11 : List UInt8 := dkwX4_reads_11 ++ []
def dkwX4_reads_10 : List UInt8 := [182, 0, 121, 167, 0, 34, 42, 6, 181, 0, 107, 42, 27, 16, 59, 160, 0, 7, 4, 167, 0, 4, 3, 4]
abbrev dktX4_reads_10 : List UInt8 := dkwX4_reads_10 ++ dktX4_reads_11
def dkwX4_reads_9 : List UInt8 := [167, 255, 182, 42, 42, 180, 0, 92, 42, 180, 0, 86, 100, 5, 163, 0, 7, 4, 167, 0, 4, 3, 4]
abbrev dktX4_reads_9 : List UInt8 := dkwX4_reads_9 ++ dktX4_reads_10
def dkwX4_reads_8 : List UInt8 := [96, 16, 48, 100, 167, 0, 7, 42, 180, 0, 118, 181, 0, 118, 42, 89, 180, 0, 92, 4, 96, 181, 0, 92]
abbrev dktX4_reads_8 : List UInt8 := dkwX4_reads_8 ++ dktX4_reads_9
def dkwX4_reads_7 : List UInt8 := [42, 180, 0, 86, 100, 5, 162, 0, 25, 16, 10, 42, 180, 0, 118, 104, 42, 42, 180, 0, 92, 182, 0, 95]
abbrev dktX4_reads_7 : List UInt8 := dkwX4_reads_7 ++ dktX4_reads_8
def dkwX4_reads_6 : List UInt8 := [180, 0, 92, 182, 0, 95, 133, 20, 0, 114, 20, 0, 116, 184, 0, 76, 153, 0, 59, 42, 42, 180, 0, 92]
abbrev dktX4_reads_6 : List UInt8 := dkwX4_reads_6 ++ dktX4_reads_7
def dkwX4_reads_5 : List UInt8 := [20, 0, 114, 20, 0, 116, 184, 0, 76, 153, 0, 116, 42, 5, 181, 0, 107, 42, 3, 181, 0, 118, 42, 42]
abbrev dktX4_reads_5 : List UInt8 := dkwX4_reads_5 ++ dktX4_reads_6
def dkwX4_reads_4 : List UInt8 := [20, 0, 112, 184, 0, 76, 153, 0, 174, 42, 89, 180, 0, 92, 4, 96, 181, 0, 92, 167, 255, 225, 27, 133]
abbrev dktX4_reads_4 : List UInt8 := dkwX4_reads_4 ++ dktX4_reads_5
def dkwX4_reads_3 : List UInt8 := [184, 0, 76, 153, 0, 42, 42, 4, 181, 0, 107, 42, 42, 180, 0, 92, 182, 0, 95, 133, 20, 0, 110]
abbrev dktX4_reads_3 : List UInt8 := dkwX4_reads_3 ++ dktX4_reads_4
def dkwX4_reads_2 : List UInt8 := [182, 0, 95, 60, 27, 156, 0, 11, 42, 3, 181, 0, 107, 167, 0, 214, 27, 133, 20, 0, 110, 20, 0, 112]
abbrev dktX4_reads_2 : List UInt8 := dkwX4_reads_2 ++ dktX4_reads_3
def dkwX4_reads_1 : List UInt8 := [180, 0, 92, 4, 96, 181, 0, 92, 167, 255, 233, 42, 42, 180, 0, 92, 181, 0, 86, 42, 42, 180, 0, 92]
abbrev dktX4_reads_1 : List UInt8 := dkwX4_reads_1 ++ dktX4_reads_2
def dkwX4_reads_0 : List UInt8 := [42, 180, 0, 83, 158, 0, 4, 177, 42, 42, 180, 0, 92, 182, 0, 95, 16, 32, 160, 0, 16, 42, 89]
abbrev dktX4_reads_0 : List UInt8 := dkwX4_reads_0 ++ dktX4_reads_1
theorem dksX4_reads_0 : cX4_reads.data.toList.drop 0 = dktX4_reads_0 := by decide +kernel
theorem dksX4_reads_1 : cX4_reads.data.toList.drop 23 = dktX4_reads_1 := dk_seg dksX4_reads_0 23 rfl rfl
theorem dksX4_reads_2 : cX4_reads.data.toList.drop 47 = dktX4_reads_2 := dk_seg dksX4_reads_1 24 rfl rfl
theorem dksX4_reads_3 : cX4_reads.data.toList.drop 71 = dktX4_reads_3 := dk_seg dksX4_reads_2 24 rfl rfl
theorem dksX4_reads_4 : cX4_reads.data.toList.drop 94 = dktX4_reads_4 := dk_seg dksX4_reads_3 23 rfl rfl
theorem dksX4_reads_5 : cX4_reads.data.toList.drop 118 = dktX4_reads_5 := dk_seg dksX4_reads_4 24 rfl rfl
theorem dksX4_reads_6 : cX4_reads.data.toList.drop 142 = dktX4_reads_6 := dk_seg dksX4_reads_5 24 rfl rfl
theorem dksX4_reads_7 : cX4_reads.data.toList.drop 166 = dktX4_reads_7 := dk_seg dksX4_reads_6 24 rfl rfl
theorem dksX4_reads_8 : cX4_reads.data.toList.drop 190 = dktX4_reads_8 := dk_seg dksX4_reads_7 24 rfl rfl
theorem dksX4_reads_9 : cX4_reads.data.toList.drop 214 = dktX4_reads_9 := dk_seg dksX4_reads_8 24 rfl rfl
theorem dksX4_reads_10 : cX4_reads.data.toList.drop 237 = dktX4_reads_10 := dk_seg dksX4_reads_9 23 rfl rfl
theorem dksX4_reads_11 : cX4_reads.data.toList.drop 261 = dktX4_reads_11 := dk_seg dksX4_reads_10 24 rfl rfl
theorem dX4_reads_0 : decode cX4_reads 0 = .ok (.aload_n 0, 1) := dk_42 (dk_at dksX4_reads_0 0 rfl rfl)
theorem dX4_reads_1 : decode cX4_reads 1 = .ok (.getfield 83, 3) := dk_180 0 83 (dk_at dksX4_reads_0 1 rfl rfl)
theorem dX4_reads_4 : decode cX4_reads 4 = .ok (.ifCond .le 4, 3) := dk_158 0 4 (dk_at dksX4_reads_0 4 rfl rfl)
theorem dX4_reads_7 : decode cX4_reads 7 = .ok (.return_, 1) := dk_177 (dk_at dksX4_reads_0 7 rfl rfl)
theorem dX4_reads_8 : decode cX4_reads 8 = .ok (.aload_n 0, 1) := dk_42 (dk_at dksX4_reads_0 8 rfl rfl)
theorem dX4_reads_9 : decode cX4_reads 9 = .ok (.aload_n 0, 1) := dk_42 (dk_at dksX4_reads_0 9 rfl rfl)
theorem dX4_reads_10 : decode cX4_reads 10 = .ok (.getfield 92, 3) := dk_180 0 92 (dk_at dksX4_reads_0 10 rfl rfl)
theorem dX4_reads_13 : decode cX4_reads 13 = .ok (.invokevirtual 95, 3) := dk_182 0 95 (dk_at dksX4_reads_0 13 rfl rfl)
theorem dX4_reads_16 : decode cX4_reads 16 = .ok (.bipush 32, 2) := dk_16 32 (dk_at dksX4_reads_0 16 rfl rfl)
theorem dX4_reads_18 : decode cX4_reads 18 = .ok (.if_icmp .ne 16, 3) := dk_160 0 16 (dk_at dksX4_reads_0 18 rfl rfl)
theorem dX4_reads_21 : decode cX4_reads 21 = .ok (.aload_n 0, 1) := dk_42 (dk_at dksX4_reads_0 21 rfl rfl)
theorem dX4_reads_22 : decode cX4_reads 22 = .ok (.dup, 1) := dk_89 (dk_at dksX4_reads_0 22 rfl rfl)
theorem dX4_reads_23 : decode cX4_reads 23 = .ok (.getfield 92, 3) := dk_180 0 92 (dk_at dksX4_reads_1 0 rfl rfl)
theorem dX4_reads_26 : decode cX4_reads 26 = .ok (.iconst 1, 1) := dk_4 (dk_at dksX4_reads_1 3 rfl rfl)
theorem dX4_reads_27 : decode cX4_reads 27 = .ok (.iadd, 1) := dk_96 (dk_at dksX4_reads_1 4 rfl rfl)
theorem dX4_reads_28 : decode cX4_reads 28 = .ok (.putfield 92, 3) := dk_181 0 92 (dk_at dksX4_reads_1 5 rfl rfl)
theorem dX4_reads_31 : decode cX4_reads 31 = .ok (.goto (-23), 3) := dk_167 255 233 (dk_at dksX4_reads_1 8 rfl rfl)
theorem dX4_reads_34 : decode cX4_reads 34 = .ok (.aload_n 0, 1) := dk_42 (dk_at dksX4_reads_1 11 rfl rfl)
theorem dX4_reads_35 : decode cX4_reads 35 = .ok (.aload_n 0, 1) := dk_42 (dk_at dksX4_reads_1 12 rfl rfl)
theorem dX4_reads_36 : decode cX4_reads 36 = .ok (.getfield 92, 3) := dk_180 0 92 (dk_at dksX4_reads_1 13 rfl rfl)
theorem dX4_reads_39 : decode cX4_reads 39 = .ok (.putfield 86, 3) := dk_181 0 86 (dk_at dksX4_reads_1 16 rfl rfl)
theorem dX4_reads_42 : decode cX4_reads 42 = .ok (.aload_n 0, 1) := dk_42 (dk_at dksX4_reads_1 19 rfl rfl)
theorem dX4_reads_43 : decode cX4_reads 43 = .ok (.aload_n 0, 1) := dk_42 (dk_at dksX4_reads_1 20 rfl rfl)
theorem dX4_reads_44 : decode cX4_reads 44 = .ok (.getfield 92, 3) := dk_180 0 92 (dk_at dksX4_reads_1 21 rfl rfl)
theorem dX4_reads_47 : decode cX4_reads 47 = .ok (.invokevirtual 95, 3) := dk_182 0 95 (dk_at dksX4_reads_2 0 rfl rfl)
theorem dX4_reads_50 : decode cX4_reads 50 = .ok (.istore_n 1, 1) := dk_60 (dk_at dksX4_reads_2 3 rfl rfl)
theorem dX4_reads_51 : decode cX4_reads 51 = .ok (.iload_n 1, 1) := dk_27 (dk_at dksX4_reads_2 4 rfl rfl)
theorem dX4_reads_52 : decode cX4_reads 52 = .ok (.ifCond .ge 11, 3) := dk_156 0 11 (dk_at dksX4_reads_2 5 rfl rfl)
theorem dX4_reads_55 : decode cX4_reads 55 = .ok (.aload_n 0, 1) := dk_42 (dk_at dksX4_reads_2 8 rfl rfl)
theorem dX4_reads_56 : decode cX4_reads 56 = .ok (.iconst 0, 1) := dk_3 (dk_at dksX4_reads_2 9 rfl rfl)
theorem dX4_reads_57 : decode cX4_reads 57 = .ok (.putfield 107, 3) := dk_181 0 107 (dk_at dksX4_reads_2 10 rfl rfl)
theorem dX4_reads_60 : decode cX4_reads 60 = .ok (.goto 214, 3) := dk_167 0 214 (dk_at dksX4_reads_2 13 rfl rfl)
theorem dX4_reads_63 : decode cX4_reads 63 = .ok (.iload_n 1, 1) := dk_27 (dk_at dksX4_reads_2 16 rfl rfl)
theorem dX4_reads_64 : decode cX4_reads 64 = .ok (.i2l, 1) := dk_133 (dk_at dksX4_reads_2 17 rfl rfl)
theorem dX4_reads_65 : decode cX4_reads 65 = .ok (.ldc2_w 110, 3) := dk_20 0 110 (dk_at dksX4_reads_2 18 rfl rfl)
theorem dX4_reads_68 : decode cX4_reads 68 = .ok (.ldc2_w 112, 3) := dk_20 0 112 (dk_at dksX4_reads_2 21 rfl rfl)
theorem dX4_reads_71 : decode cX4_reads 71 = .ok (.invokestatic 76, 3) := dk_184 0 76 (dk_at dksX4_reads_3 0 rfl rfl)
theorem dX4_reads_74 : decode cX4_reads 74 = .ok (.ifCond .eq 42, 3) := dk_153 0 42 (dk_at dksX4_reads_3 3 rfl rfl)
theorem dX4_reads_77 : decode cX4_reads 77 = .ok (.aload_n 0, 1) := dk_42 (dk_at dksX4_reads_3 6 rfl rfl)
theorem dX4_reads_78 : decode cX4_reads 78 = .ok (.iconst 1, 1) := dk_4 (dk_at dksX4_reads_3 7 rfl rfl)
theorem dX4_reads_79 : decode cX4_reads 79 = .ok (.putfield 107, 3) := dk_181 0 107 (dk_at dksX4_reads_3 8 rfl rfl)
theorem dX4_reads_82 : decode cX4_reads 82 = .ok (.aload_n 0, 1) := dk_42 (dk_at dksX4_reads_3 11 rfl rfl)
theorem dX4_reads_83 : decode cX4_reads 83 = .ok (.aload_n 0, 1) := dk_42 (dk_at dksX4_reads_3 12 rfl rfl)
theorem dX4_reads_84 : decode cX4_reads 84 = .ok (.getfield 92, 3) := dk_180 0 92 (dk_at dksX4_reads_3 13 rfl rfl)
theorem dX4_reads_87 : decode cX4_reads 87 = .ok (.invokevirtual 95, 3) := dk_182 0 95 (dk_at dksX4_reads_3 16 rfl rfl)
theorem dX4_reads_90 : decode cX4_reads 90 = .ok (.i2l, 1) := dk_133 (dk_at dksX4_reads_3 19 rfl rfl)
theorem dX4_reads_91 : decode cX4_reads 91 = .ok (.ldc2_w 110, 3) := dk_20 0 110 (dk_at dksX4_reads_3 20 rfl rfl)
theorem dX4_reads_94 : decode cX4_reads 94 = .ok (.ldc2_w 112, 3) := dk_20 0 112 (dk_at dksX4_reads_4 0 rfl rfl)
theorem dX4_reads_97 : decode cX4_reads 97 = .ok (.invokestatic 76, 3) := dk_184 0 76 (dk_at dksX4_reads_4 3 rfl rfl)
theorem dX4_reads_100 : decode cX4_reads 100 = .ok (.ifCond .eq 174, 3) := dk_153 0 174 (dk_at dksX4_reads_4 6 rfl rfl)
theorem dX4_reads_103 : decode cX4_reads 103 = .ok (.aload_n 0, 1) := dk_42 (dk_at dksX4_reads_4 9 rfl rfl)
theorem dX4_reads_104 : decode cX4_reads 104 = .ok (.dup, 1) := dk_89 (dk_at dksX4_reads_4 10 rfl rfl)
theorem dX4_reads_105 : decode cX4_reads 105 = .ok (.getfield 92, 3) := dk_180 0 92 (dk_at dksX4_reads_4 11 rfl rfl)
theorem dX4_reads_108 : decode cX4_reads 108 = .ok (.iconst 1, 1) := dk_4 (dk_at dksX4_reads_4 14 rfl rfl)
theorem dX4_reads_109 : decode cX4_reads 109 = .ok (.iadd, 1) := dk_96 (dk_at dksX4_reads_4 15 rfl rfl)
theorem dX4_reads_110 : decode cX4_reads 110 = .ok (.putfield 92, 3) := dk_181 0 92 (dk_at dksX4_reads_4 16 rfl rfl)
theorem dX4_reads_113 : decode cX4_reads 113 = .ok (.goto (-31), 3) := dk_167 255 225 (dk_at dksX4_reads_4 19 rfl rfl)
theorem dX4_reads_116 : decode cX4_reads 116 = .ok (.iload_n 1, 1) := dk_27 (dk_at dksX4_reads_4 22 rfl rfl)
theorem dX4_reads_117 : decode cX4_reads 117 = .ok (.i2l, 1) := dk_133 (dk_at dksX4_reads_4 23 rfl rfl)
theorem dX4_reads_118 : decode cX4_reads 118 = .ok (.ldc2_w 114, 3) := dk_20 0 114 (dk_at dksX4_reads_5 0 rfl rfl)
theorem dX4_reads_121 : decode cX4_reads 121 = .ok (.ldc2_w 116, 3) := dk_20 0 116 (dk_at dksX4_reads_5 3 rfl rfl)
theorem dX4_reads_124 : decode cX4_reads 124 = .ok (.invokestatic 76, 3) := dk_184 0 76 (dk_at dksX4_reads_5 6 rfl rfl)
theorem dX4_reads_127 : decode cX4_reads 127 = .ok (.ifCond .eq 116, 3) := dk_153 0 116 (dk_at dksX4_reads_5 9 rfl rfl)
theorem dX4_reads_130 : decode cX4_reads 130 = .ok (.aload_n 0, 1) := dk_42 (dk_at dksX4_reads_5 12 rfl rfl)
theorem dX4_reads_131 : decode cX4_reads 131 = .ok (.iconst 2, 1) := dk_5 (dk_at dksX4_reads_5 13 rfl rfl)
theorem dX4_reads_132 : decode cX4_reads 132 = .ok (.putfield 107, 3) := dk_181 0 107 (dk_at dksX4_reads_5 14 rfl rfl)
theorem dX4_reads_135 : decode cX4_reads 135 = .ok (.aload_n 0, 1) := dk_42 (dk_at dksX4_reads_5 17 rfl rfl)
theorem dX4_reads_136 : decode cX4_reads 136 = .ok (.iconst 0, 1) := dk_3 (dk_at dksX4_reads_5 18 rfl rfl)
theorem dX4_reads_137 : decode cX4_reads 137 = .ok (.putfield 118, 3) := dk_181 0 118 (dk_at dksX4_reads_5 19 rfl rfl)
theorem dX4_reads_140 : decode cX4_reads 140 = .ok (.aload_n 0, 1) := dk_42 (dk_at dksX4_reads_5 22 rfl rfl)
theorem dX4_reads_141 : decode cX4_reads 141 = .ok (.aload_n 0, 1) := dk_42 (dk_at dksX4_reads_5 23 rfl rfl)
theorem dX4_reads_142 : decode cX4_reads 142 = .ok (.getfield 92, 3) := dk_180 0 92 (dk_at dksX4_reads_6 0 rfl rfl)
theorem dX4_reads_145 : decode cX4_reads 145 = .ok (.invokevirtual 95, 3) := dk_182 0 95 (dk_at dksX4_reads_6 3 rfl rfl)
theorem dX4_reads_148 : decode cX4_reads 148 = .ok (.i2l, 1) := dk_133 (dk_at dksX4_reads_6 6 rfl rfl)
theorem dX4_reads_149 : decode cX4_reads 149 = .ok (.ldc2_w 114, 3) := dk_20 0 114 (dk_at dksX4_reads_6 7 rfl rfl)
theorem dX4_reads_152 : decode cX4_reads 152 = .ok (.ldc2_w 116, 3) := dk_20 0 116 (dk_at dksX4_reads_6 10 rfl rfl)
theorem dX4_reads_155 : decode cX4_reads 155 = .ok (.invokestatic 76, 3) := dk_184 0 76 (dk_at dksX4_reads_6 13 rfl rfl)
theorem dX4_reads_158 : decode cX4_reads 158 = .ok (.ifCond .eq 59, 3) := dk_153 0 59 (dk_at dksX4_reads_6 16 rfl rfl)
theorem dX4_reads_161 : decode cX4_reads 161 = .ok (.aload_n 0, 1) := dk_42 (dk_at dksX4_reads_6 19 rfl rfl)
theorem dX4_reads_162 : decode cX4_reads 162 = .ok (.aload_n 0, 1) := dk_42 (dk_at dksX4_reads_6 20 rfl rfl)
theorem dX4_reads_163 : decode cX4_reads 163 = .ok (.getfield 92, 3) := dk_180 0 92 (dk_at dksX4_reads_6 21 rfl rfl)
theorem dX4_reads_166 : decode cX4_reads 166 = .ok (.aload_n 0, 1) := dk_42 (dk_at dksX4_reads_7 0 rfl rfl)
theorem dX4_reads_167 : decode cX4_reads 167 = .ok (.getfield 86, 3) := dk_180 0 86 (dk_at dksX4_reads_7 1 rfl rfl)
theorem dX4_reads_170 : decode cX4_reads 170 = .ok (.isub, 1) := dk_100 (dk_at dksX4_reads_7 4 rfl rfl)
theorem dX4_reads_171 : decode cX4_reads 171 = .ok (.iconst 2, 1) := dk_5 (dk_at dksX4_reads_7 5 rfl rfl)
theorem dX4_reads_172 : decode cX4_reads 172 = .ok (.if_icmp .ge 25, 3) := dk_162 0 25 (dk_at dksX4_reads_7 6 rfl rfl)
theorem dX4_reads_175 : decode cX4_reads 175 = .ok (.bipush 10, 2) := dk_16 10 (dk_at dksX4_reads_7 9 rfl rfl)
theorem dX4_reads_177 : decode cX4_reads 177 = .ok (.aload_n 0, 1) := dk_42 (dk_at dksX4_reads_7 11 rfl rfl)
theorem dX4_reads_178 : decode cX4_reads 178 = .ok (.getfield 118, 3) := dk_180 0 118 (dk_at dksX4_reads_7 12 rfl rfl)
theorem dX4_reads_181 : decode cX4_reads 181 = .ok (.imul, 1) := dk_104 (dk_at dksX4_reads_7 15 rfl rfl)
theorem dX4_reads_182 : decode cX4_reads 182 = .ok (.aload_n 0, 1) := dk_42 (dk_at dksX4_reads_7 16 rfl rfl)
theorem dX4_reads_183 : decode cX4_reads 183 = .ok (.aload_n 0, 1) := dk_42 (dk_at dksX4_reads_7 17 rfl rfl)
theorem dX4_reads_184 : decode cX4_reads 184 = .ok (.getfield 92, 3) := dk_180 0 92 (dk_at dksX4_reads_7 18 rfl rfl)
theorem dX4_reads_187 : decode cX4_reads 187 = .ok (.invokevirtual 95, 3) := dk_182 0 95 (dk_at dksX4_reads_7 21 rfl rfl)
theorem dX4_reads_190 : decode cX4_reads 190 = .ok (.iadd, 1) := dk_96 (dk_at dksX4_reads_8 0 rfl rfl)
theorem dX4_reads_191 : decode cX4_reads 191 = .ok (.bipush 48, 2) := dk_16 48 (dk_at dksX4_reads_8 1 rfl rfl)
theorem dX4_reads_193 : decode cX4_reads 193 = .ok (.isub, 1) := dk_100 (dk_at dksX4_reads_8 3 rfl rfl)
theorem dX4_reads_194 : decode cX4_reads 194 = .ok (.goto 7, 3) := dk_167 0 7 (dk_at dksX4_reads_8 4 rfl rfl)
theorem dX4_reads_197 : decode cX4_reads 197 = .ok (.aload_n 0, 1) := dk_42 (dk_at dksX4_reads_8 7 rfl rfl)
theorem dX4_reads_198 : decode cX4_reads 198 = .ok (.getfield 118, 3) := dk_180 0 118 (dk_at dksX4_reads_8 8 rfl rfl)
theorem dX4_reads_201 : decode cX4_reads 201 = .ok (.putfield 118, 3) := dk_181 0 118 (dk_at dksX4_reads_8 11 rfl rfl)
theorem dX4_reads_204 : decode cX4_reads 204 = .ok (.aload_n 0, 1) := dk_42 (dk_at dksX4_reads_8 14 rfl rfl)
theorem dX4_reads_205 : decode cX4_reads 205 = .ok (.dup, 1) := dk_89 (dk_at dksX4_reads_8 15 rfl rfl)
theorem dX4_reads_206 : decode cX4_reads 206 = .ok (.getfield 92, 3) := dk_180 0 92 (dk_at dksX4_reads_8 16 rfl rfl)
theorem dX4_reads_209 : decode cX4_reads 209 = .ok (.iconst 1, 1) := dk_4 (dk_at dksX4_reads_8 19 rfl rfl)
theorem dX4_reads_210 : decode cX4_reads 210 = .ok (.iadd, 1) := dk_96 (dk_at dksX4_reads_8 20 rfl rfl)
theorem dX4_reads_211 : decode cX4_reads 211 = .ok (.putfield 92, 3) := dk_181 0 92 (dk_at dksX4_reads_8 21 rfl rfl)
theorem dX4_reads_214 : decode cX4_reads 214 = .ok (.goto (-74), 3) := dk_167 255 182 (dk_at dksX4_reads_9 0 rfl rfl)
theorem dX4_reads_217 : decode cX4_reads 217 = .ok (.aload_n 0, 1) := dk_42 (dk_at dksX4_reads_9 3 rfl rfl)
theorem dX4_reads_218 : decode cX4_reads 218 = .ok (.aload_n 0, 1) := dk_42 (dk_at dksX4_reads_9 4 rfl rfl)
theorem dX4_reads_219 : decode cX4_reads 219 = .ok (.getfield 92, 3) := dk_180 0 92 (dk_at dksX4_reads_9 5 rfl rfl)
theorem dX4_reads_222 : decode cX4_reads 222 = .ok (.aload_n 0, 1) := dk_42 (dk_at dksX4_reads_9 8 rfl rfl)
theorem dX4_reads_223 : decode cX4_reads 223 = .ok (.getfield 86, 3) := dk_180 0 86 (dk_at dksX4_reads_9 9 rfl rfl)
theorem dX4_reads_226 : decode cX4_reads 226 = .ok (.isub, 1) := dk_100 (dk_at dksX4_reads_9 12 rfl rfl)
theorem dX4_reads_227 : decode cX4_reads 227 = .ok (.iconst 2, 1) := dk_5 (dk_at dksX4_reads_9 13 rfl rfl)
theorem dX4_reads_228 : decode cX4_reads 228 = .ok (.if_icmp .gt 7, 3) := dk_163 0 7 (dk_at dksX4_reads_9 14 rfl rfl)
theorem dX4_reads_231 : decode cX4_reads 231 = .ok (.iconst 1, 1) := dk_4 (dk_at dksX4_reads_9 17 rfl rfl)
theorem dX4_reads_232 : decode cX4_reads 232 = .ok (.goto 4, 3) := dk_167 0 4 (dk_at dksX4_reads_9 18 rfl rfl)
theorem dX4_reads_235 : decode cX4_reads 235 = .ok (.iconst 0, 1) := dk_3 (dk_at dksX4_reads_9 21 rfl rfl)
theorem dX4_reads_236 : decode cX4_reads 236 = .ok (.iconst 1, 1) := dk_4 (dk_at dksX4_reads_9 22 rfl rfl)
theorem dX4_reads_237 : decode cX4_reads 237 = .ok (.invokevirtual 121, 3) := dk_182 0 121 (dk_at dksX4_reads_10 0 rfl rfl)
theorem dX4_reads_240 : decode cX4_reads 240 = .ok (.goto 34, 3) := dk_167 0 34 (dk_at dksX4_reads_10 3 rfl rfl)
theorem dX4_reads_243 : decode cX4_reads 243 = .ok (.aload_n 0, 1) := dk_42 (dk_at dksX4_reads_10 6 rfl rfl)
theorem dX4_reads_244 : decode cX4_reads 244 = .ok (.iconst 3, 1) := dk_6 (dk_at dksX4_reads_10 7 rfl rfl)
theorem dX4_reads_245 : decode cX4_reads 245 = .ok (.putfield 107, 3) := dk_181 0 107 (dk_at dksX4_reads_10 8 rfl rfl)
theorem dX4_reads_248 : decode cX4_reads 248 = .ok (.aload_n 0, 1) := dk_42 (dk_at dksX4_reads_10 11 rfl rfl)
theorem dX4_reads_249 : decode cX4_reads 249 = .ok (.iload_n 1, 1) := dk_27 (dk_at dksX4_reads_10 12 rfl rfl)
theorem dX4_reads_250 : decode cX4_reads 250 = .ok (.bipush 59, 2) := dk_16 59 (dk_at dksX4_reads_10 13 rfl rfl)
theorem dX4_reads_252 : decode cX4_reads 252 = .ok (.if_icmp .ne 7, 3) := dk_160 0 7 (dk_at dksX4_reads_10 15 rfl rfl)
theorem dX4_reads_255 : decode cX4_reads 255 = .ok (.iconst 1, 1) := dk_4 (dk_at dksX4_reads_10 18 rfl rfl)
theorem dX4_reads_256 : decode cX4_reads 256 = .ok (.goto 4, 3) := dk_167 0 4 (dk_at dksX4_reads_10 19 rfl rfl)
theorem dX4_reads_259 : decode cX4_reads 259 = .ok (.iconst 0, 1) := dk_3 (dk_at dksX4_reads_10 22 rfl rfl)
theorem dX4_reads_260 : decode cX4_reads 260 = .ok (.iconst 1, 1) := dk_4 (dk_at dksX4_reads_10 23 rfl rfl)
theorem dX4_reads_261 : decode cX4_reads 261 = .ok (.invokevirtual 121, 3) := dk_182 0 121 (dk_at dksX4_reads_11 0 rfl rfl)
theorem dX4_reads_264 : decode cX4_reads 264 = .ok (.aload_n 0, 1) := dk_42 (dk_at dksX4_reads_11 3 rfl rfl)
theorem dX4_reads_265 : decode cX4_reads 265 = .ok (.dup, 1) := dk_89 (dk_at dksX4_reads_11 4 rfl rfl)
theorem dX4_reads_266 : decode cX4_reads 266 = .ok (.getfield 92, 3) := dk_180 0 92 (dk_at dksX4_reads_11 5 rfl rfl)
theorem dX4_reads_269 : decode cX4_reads 269 = .ok (.iconst 1, 1) := dk_4 (dk_at dksX4_reads_11 8 rfl rfl)
theorem dX4_reads_270 : decode cX4_reads 270 = .ok (.iadd, 1) := dk_96 (dk_at dksX4_reads_11 9 rfl rfl)
theorem dX4_reads_271 : decode cX4_reads 271 = .ok (.putfield 92, 3) := dk_181 0 92 (dk_at dksX4_reads_11 10 rfl rfl)
theorem dX4_reads_274 : decode cX4_reads 274 = .ok (.return_, 1) := dk_177 (dk_at dksX4_reads_11 13 rfl rfl)
abbrev cX4_byteAt : ByteArray := prog_12_method_12_code
def yX4_byteAt : MethodName := ⟨RX4, "byteAt", "(I)I"⟩
def dkwX4_byteAt_0 : List UInt8 := [27, 42, 180, 0, 80, 162, 0, 12, 42, 180, 0, 23, 27, 46, 167, 0, 4, 2, 172]
abbrev dktX4_byteAt_0 : List UInt8 := dkwX4_byteAt_0 ++ []
theorem dksX4_byteAt_0 : cX4_byteAt.data.toList.drop 0 = dktX4_byteAt_0 := by decide +kernel
theorem dX4_byteAt_0 : decode cX4_byteAt 0 = .ok (.iload_n 1, 1) := dk_27 (dk_at dksX4_byteAt_0 0 rfl rfl)
theorem dX4_byteAt_1 : decode cX4_byteAt 1 = .ok (.aload_n 0, 1) := dk_42 (dk_at dksX4_byteAt_0 1 rfl rfl)
theorem dX4_byteAt_2 : decode cX4_byteAt 2 = .ok (.getfield 80, 3) := dk_180 0 80 (dk_at dksX4_byteAt_0 2 rfl rfl)
theorem dX4_byteAt_5 : decode cX4_byteAt 5 = .ok (.if_icmp .ge 12, 3) := dk_162 0 12 (dk_at dksX4_byteAt_0 5 rfl rfl)
theorem dX4_byteAt_8 : decode cX4_byteAt 8 = .ok (.aload_n 0, 1) := dk_42 (dk_at dksX4_byteAt_0 8 rfl rfl)
theorem dX4_byteAt_9 : decode cX4_byteAt 9 = .ok (.getfield 23, 3) := dk_180 0 23 (dk_at dksX4_byteAt_0 9 rfl rfl)
theorem dX4_byteAt_12 : decode cX4_byteAt 12 = .ok (.iload_n 1, 1) := dk_27 (dk_at dksX4_byteAt_0 12 rfl rfl)
theorem dX4_byteAt_13 : decode cX4_byteAt 13 = .ok (.iaload, 1) := dk_46 (dk_at dksX4_byteAt_0 13 rfl rfl)
theorem dX4_byteAt_14 : decode cX4_byteAt 14 = .ok (.goto 4, 3) := dk_167 0 4 (dk_at dksX4_byteAt_0 14 rfl rfl)
theorem dX4_byteAt_17 : decode cX4_byteAt 17 = .ok (.iconst (-1), 1) := dk_2 (dk_at dksX4_byteAt_0 17 rfl rfl)
theorem dX4_byteAt_18 : decode cX4_byteAt 18 = .ok (.ireturn, 1) := dk_172 (dk_at dksX4_byteAt_0 18 rfl rfl)
abbrev cX4_requires : ByteArray := prog_12_method_11_code
def yX4_requires : MethodName := ⟨RX4, "requires", "(ZI)V"⟩
def dkwX4_requires_1 : List UInt8 := [177]
abbrev dktX4_requires_1 : List UInt8 := dkwX4_requires_1 ++ []
def dkwX4_requires_0 : List UInt8 := [27, 154, 0, 23, 42, 180, 0, 83, 154, 0, 16, 42, 28, 181, 0, 83, 42, 42, 180, 0, 86, 181, 0, 89]
abbrev dktX4_requires_0 : List UInt8 := dkwX4_requires_0 ++ dktX4_requires_1
theorem dksX4_requires_0 : cX4_requires.data.toList.drop 0 = dktX4_requires_0 := by decide +kernel
theorem dksX4_requires_1 : cX4_requires.data.toList.drop 24 = dktX4_requires_1 := dk_seg dksX4_requires_0 24 rfl rfl
theorem dX4_requires_0 : decode cX4_requires 0 = .ok (.iload_n 1, 1) := dk_27 (dk_at dksX4_requires_0 0 rfl rfl)
theorem dX4_requires_1 : decode cX4_requires 1 = .ok (.ifCond .ne 23, 3) := dk_154 0 23 (dk_at dksX4_requires_0 1 rfl rfl)
theorem dX4_requires_4 : decode cX4_requires 4 = .ok (.aload_n 0, 1) := dk_42 (dk_at dksX4_requires_0 4 rfl rfl)
theorem dX4_requires_5 : decode cX4_requires 5 = .ok (.getfield 83, 3) := dk_180 0 83 (dk_at dksX4_requires_0 5 rfl rfl)
theorem dX4_requires_8 : decode cX4_requires 8 = .ok (.ifCond .ne 16, 3) := dk_154 0 16 (dk_at dksX4_requires_0 8 rfl rfl)
theorem dX4_requires_11 : decode cX4_requires 11 = .ok (.aload_n 0, 1) := dk_42 (dk_at dksX4_requires_0 11 rfl rfl)
theorem dX4_requires_12 : decode cX4_requires 12 = .ok (.iload_n 2, 1) := dk_28 (dk_at dksX4_requires_0 12 rfl rfl)
theorem dX4_requires_13 : decode cX4_requires 13 = .ok (.putfield 83, 3) := dk_181 0 83 (dk_at dksX4_requires_0 13 rfl rfl)
theorem dX4_requires_16 : decode cX4_requires 16 = .ok (.aload_n 0, 1) := dk_42 (dk_at dksX4_requires_0 16 rfl rfl)
theorem dX4_requires_17 : decode cX4_requires 17 = .ok (.aload_n 0, 1) := dk_42 (dk_at dksX4_requires_0 17 rfl rfl)
theorem dX4_requires_18 : decode cX4_requires 18 = .ok (.getfield 86, 3) := dk_180 0 86 (dk_at dksX4_requires_0 18 rfl rfl)
theorem dX4_requires_21 : decode cX4_requires 21 = .ok (.putfield 89, 3) := dk_181 0 89 (dk_at dksX4_requires_0 21 rfl rfl)
theorem dX4_requires_24 : decode cX4_requires 24 = .ok (.return_, 1) := dk_177 (dk_at dksX4_requires_1 0 rfl rfl)
abbrev cX4_readLine : ByteArray := prog_12_method_21_code
def yX4_readLine : MethodName := ⟨RX4, "readLine", "()V"⟩
def dkwX4_readLine_9 : List UInt8 := [182, 0, 121, 42, 182, 0, 129, 177]
abbrev dktX4_readLine_9 : List UInt8 := dkwX4_readLine_9 ++ []
def dkwX4_readLine_8 : List UInt8 := [42, 180, 0, 83, 154, 0, 21, 42, 42, 180, 0, 107, 6, 160, 0, 7, 4, 167, 0, 4, 3, 5]
abbrev dktX4_readLine_8 : List UInt8 := dkwX4_readLine_8 ++ dktX4_readLine_9
def dkwX4_readLine_7 : List UInt8 := [167, 0, 4, 3, 181, 0, 65, 42, 182, 0, 129, 42, 180, 0, 83, 158, 0, 4, 177, 42, 27, 182, 0, 142]
abbrev dktX4_readLine_7 : List UInt8 := dkwX4_readLine_7 ++ dktX4_readLine_8
def dkwX4_readLine_6 : List UInt8 := [167, 0, 4, 3, 181, 0, 61, 42, 42, 180, 0, 65, 154, 0, 9, 27, 16, 6, 160, 0, 7, 4]
abbrev dktX4_readLine_6 : List UInt8 := dkwX4_readLine_6 ++ dktX4_readLine_7
def dkwX4_readLine_5 : List UInt8 := [167, 0, 4, 3, 7, 182, 0, 121, 42, 42, 180, 0, 61, 154, 0, 8, 27, 8, 160, 0, 7, 4]
abbrev dktX4_readLine_5 : List UInt8 := dkwX4_readLine_5 ++ dktX4_readLine_6
def dkwX4_readLine_4 : List UInt8 := [167, 0, 4, 3, 7, 182, 0, 121, 42, 27, 16, 6, 160, 0, 10, 42, 180, 0, 65, 154, 0, 7, 4]
abbrev dktX4_readLine_4 : List UInt8 := dkwX4_readLine_4 ++ dktX4_readLine_5
def dkwX4_readLine_3 : List UInt8 := [4, 167, 0, 4, 3, 8, 182, 0, 121, 42, 27, 8, 160, 0, 10, 42, 180, 0, 61, 154, 0, 7, 4]
abbrev dktX4_readLine_3 : List UInt8 := dkwX4_readLine_3 ++ dktX4_readLine_4
def dkwX4_readLine_2 : List UInt8 := [162, 0, 7, 4, 167, 0, 25, 3, 167, 0, 21, 27, 7, 160, 0, 11, 42, 180, 0, 58, 7, 162, 0, 7]
abbrev dktX4_readLine_2 : List UInt8 := dkwX4_readLine_2 ++ dktX4_readLine_3
def dkwX4_readLine_1 : List UInt8 := [159, 0, 7, 4, 167, 0, 4, 3, 5, 182, 0, 121, 42, 27, 7, 162, 0, 20, 42, 180, 0, 54, 16, 6]
abbrev dktX4_readLine_1 : List UInt8 := dkwX4_readLine_1 ++ dktX4_readLine_2
def dkwX4_readLine_0 : List UInt8 := [42, 180, 0, 107, 4, 160, 0, 10, 42, 182, 0, 138, 167, 0, 5, 16, 252, 60, 42, 27, 16, 252]
abbrev dktX4_readLine_0 : List UInt8 := dkwX4_readLine_0 ++ dktX4_readLine_1
theorem dksX4_readLine_0 : cX4_readLine.data.toList.drop 0 = dktX4_readLine_0 := by decide +kernel
theorem dksX4_readLine_1 : cX4_readLine.data.toList.drop 22 = dktX4_readLine_1 := dk_seg dksX4_readLine_0 22 rfl rfl
theorem dksX4_readLine_2 : cX4_readLine.data.toList.drop 46 = dktX4_readLine_2 := dk_seg dksX4_readLine_1 24 rfl rfl
theorem dksX4_readLine_3 : cX4_readLine.data.toList.drop 70 = dktX4_readLine_3 := dk_seg dksX4_readLine_2 24 rfl rfl
theorem dksX4_readLine_4 : cX4_readLine.data.toList.drop 93 = dktX4_readLine_4 := dk_seg dksX4_readLine_3 23 rfl rfl
theorem dksX4_readLine_5 : cX4_readLine.data.toList.drop 116 = dktX4_readLine_5 := dk_seg dksX4_readLine_4 23 rfl rfl
theorem dksX4_readLine_6 : cX4_readLine.data.toList.drop 138 = dktX4_readLine_6 := dk_seg dksX4_readLine_5 22 rfl rfl
theorem dksX4_readLine_7 : cX4_readLine.data.toList.drop 160 = dktX4_readLine_7 := dk_seg dksX4_readLine_6 22 rfl rfl
theorem dksX4_readLine_8 : cX4_readLine.data.toList.drop 184 = dktX4_readLine_8 := dk_seg dksX4_readLine_7 24 rfl rfl
theorem dksX4_readLine_9 : cX4_readLine.data.toList.drop 206 = dktX4_readLine_9 := dk_seg dksX4_readLine_8 22 rfl rfl
theorem dX4_readLine_0 : decode cX4_readLine 0 = .ok (.aload_n 0, 1) := dk_42 (dk_at dksX4_readLine_0 0 rfl rfl)
theorem dX4_readLine_1 : decode cX4_readLine 1 = .ok (.getfield 107, 3) := dk_180 0 107 (dk_at dksX4_readLine_0 1 rfl rfl)
theorem dX4_readLine_4 : decode cX4_readLine 4 = .ok (.iconst 1, 1) := dk_4 (dk_at dksX4_readLine_0 4 rfl rfl)
theorem dX4_readLine_5 : decode cX4_readLine 5 = .ok (.if_icmp .ne 10, 3) := dk_160 0 10 (dk_at dksX4_readLine_0 5 rfl rfl)
theorem dX4_readLine_8 : decode cX4_readLine 8 = .ok (.aload_n 0, 1) := dk_42 (dk_at dksX4_readLine_0 8 rfl rfl)
theorem dX4_readLine_9 : decode cX4_readLine 9 = .ok (.invokevirtual 138, 3) := dk_182 0 138 (dk_at dksX4_readLine_0 9 rfl rfl)
theorem dX4_readLine_12 : decode cX4_readLine 12 = .ok (.goto 5, 3) := dk_167 0 5 (dk_at dksX4_readLine_0 12 rfl rfl)
theorem dX4_readLine_15 : decode cX4_readLine 15 = .ok (.bipush (-4), 2) := dk_16 252 (dk_at dksX4_readLine_0 15 rfl rfl)
theorem dX4_readLine_17 : decode cX4_readLine 17 = .ok (.istore_n 1, 1) := dk_60 (dk_at dksX4_readLine_0 17 rfl rfl)
theorem dX4_readLine_18 : decode cX4_readLine 18 = .ok (.aload_n 0, 1) := dk_42 (dk_at dksX4_readLine_0 18 rfl rfl)
theorem dX4_readLine_19 : decode cX4_readLine 19 = .ok (.iload_n 1, 1) := dk_27 (dk_at dksX4_readLine_0 19 rfl rfl)
theorem dX4_readLine_20 : decode cX4_readLine 20 = .ok (.bipush (-4), 2) := dk_16 252 (dk_at dksX4_readLine_0 20 rfl rfl)
theorem dX4_readLine_22 : decode cX4_readLine 22 = .ok (.if_icmp .eq 7, 3) := dk_159 0 7 (dk_at dksX4_readLine_1 0 rfl rfl)
theorem dX4_readLine_25 : decode cX4_readLine 25 = .ok (.iconst 1, 1) := dk_4 (dk_at dksX4_readLine_1 3 rfl rfl)
theorem dX4_readLine_26 : decode cX4_readLine 26 = .ok (.goto 4, 3) := dk_167 0 4 (dk_at dksX4_readLine_1 4 rfl rfl)
theorem dX4_readLine_29 : decode cX4_readLine 29 = .ok (.iconst 0, 1) := dk_3 (dk_at dksX4_readLine_1 7 rfl rfl)
theorem dX4_readLine_30 : decode cX4_readLine 30 = .ok (.iconst 2, 1) := dk_5 (dk_at dksX4_readLine_1 8 rfl rfl)
theorem dX4_readLine_31 : decode cX4_readLine 31 = .ok (.invokevirtual 121, 3) := dk_182 0 121 (dk_at dksX4_readLine_1 9 rfl rfl)
theorem dX4_readLine_34 : decode cX4_readLine 34 = .ok (.aload_n 0, 1) := dk_42 (dk_at dksX4_readLine_1 12 rfl rfl)
theorem dX4_readLine_35 : decode cX4_readLine 35 = .ok (.iload_n 1, 1) := dk_27 (dk_at dksX4_readLine_1 13 rfl rfl)
theorem dX4_readLine_36 : decode cX4_readLine 36 = .ok (.iconst 4, 1) := dk_7 (dk_at dksX4_readLine_1 14 rfl rfl)
theorem dX4_readLine_37 : decode cX4_readLine 37 = .ok (.if_icmp .ge 20, 3) := dk_162 0 20 (dk_at dksX4_readLine_1 15 rfl rfl)
theorem dX4_readLine_40 : decode cX4_readLine 40 = .ok (.aload_n 0, 1) := dk_42 (dk_at dksX4_readLine_1 18 rfl rfl)
theorem dX4_readLine_41 : decode cX4_readLine 41 = .ok (.getfield 54, 3) := dk_180 0 54 (dk_at dksX4_readLine_1 19 rfl rfl)
theorem dX4_readLine_44 : decode cX4_readLine 44 = .ok (.bipush 6, 2) := dk_16 6 (dk_at dksX4_readLine_1 22 rfl rfl)
theorem dX4_readLine_46 : decode cX4_readLine 46 = .ok (.if_icmp .ge 7, 3) := dk_162 0 7 (dk_at dksX4_readLine_2 0 rfl rfl)
theorem dX4_readLine_49 : decode cX4_readLine 49 = .ok (.iconst 1, 1) := dk_4 (dk_at dksX4_readLine_2 3 rfl rfl)
theorem dX4_readLine_50 : decode cX4_readLine 50 = .ok (.goto 25, 3) := dk_167 0 25 (dk_at dksX4_readLine_2 4 rfl rfl)
theorem dX4_readLine_53 : decode cX4_readLine 53 = .ok (.iconst 0, 1) := dk_3 (dk_at dksX4_readLine_2 7 rfl rfl)
theorem dX4_readLine_54 : decode cX4_readLine 54 = .ok (.goto 21, 3) := dk_167 0 21 (dk_at dksX4_readLine_2 8 rfl rfl)
theorem dX4_readLine_57 : decode cX4_readLine 57 = .ok (.iload_n 1, 1) := dk_27 (dk_at dksX4_readLine_2 11 rfl rfl)
theorem dX4_readLine_58 : decode cX4_readLine 58 = .ok (.iconst 4, 1) := dk_7 (dk_at dksX4_readLine_2 12 rfl rfl)
theorem dX4_readLine_59 : decode cX4_readLine 59 = .ok (.if_icmp .ne 11, 3) := dk_160 0 11 (dk_at dksX4_readLine_2 13 rfl rfl)
theorem dX4_readLine_62 : decode cX4_readLine 62 = .ok (.aload_n 0, 1) := dk_42 (dk_at dksX4_readLine_2 16 rfl rfl)
theorem dX4_readLine_63 : decode cX4_readLine 63 = .ok (.getfield 58, 3) := dk_180 0 58 (dk_at dksX4_readLine_2 17 rfl rfl)
theorem dX4_readLine_66 : decode cX4_readLine 66 = .ok (.iconst 4, 1) := dk_7 (dk_at dksX4_readLine_2 20 rfl rfl)
theorem dX4_readLine_67 : decode cX4_readLine 67 = .ok (.if_icmp .ge 7, 3) := dk_162 0 7 (dk_at dksX4_readLine_2 21 rfl rfl)
theorem dX4_readLine_70 : decode cX4_readLine 70 = .ok (.iconst 1, 1) := dk_4 (dk_at dksX4_readLine_3 0 rfl rfl)
theorem dX4_readLine_71 : decode cX4_readLine 71 = .ok (.goto 4, 3) := dk_167 0 4 (dk_at dksX4_readLine_3 1 rfl rfl)
theorem dX4_readLine_74 : decode cX4_readLine 74 = .ok (.iconst 0, 1) := dk_3 (dk_at dksX4_readLine_3 4 rfl rfl)
theorem dX4_readLine_75 : decode cX4_readLine 75 = .ok (.iconst 5, 1) := dk_8 (dk_at dksX4_readLine_3 5 rfl rfl)
theorem dX4_readLine_76 : decode cX4_readLine 76 = .ok (.invokevirtual 121, 3) := dk_182 0 121 (dk_at dksX4_readLine_3 6 rfl rfl)
theorem dX4_readLine_79 : decode cX4_readLine 79 = .ok (.aload_n 0, 1) := dk_42 (dk_at dksX4_readLine_3 9 rfl rfl)
theorem dX4_readLine_80 : decode cX4_readLine 80 = .ok (.iload_n 1, 1) := dk_27 (dk_at dksX4_readLine_3 10 rfl rfl)
theorem dX4_readLine_81 : decode cX4_readLine 81 = .ok (.iconst 5, 1) := dk_8 (dk_at dksX4_readLine_3 11 rfl rfl)
theorem dX4_readLine_82 : decode cX4_readLine 82 = .ok (.if_icmp .ne 10, 3) := dk_160 0 10 (dk_at dksX4_readLine_3 12 rfl rfl)
theorem dX4_readLine_85 : decode cX4_readLine 85 = .ok (.aload_n 0, 1) := dk_42 (dk_at dksX4_readLine_3 15 rfl rfl)
theorem dX4_readLine_86 : decode cX4_readLine 86 = .ok (.getfield 61, 3) := dk_180 0 61 (dk_at dksX4_readLine_3 16 rfl rfl)
theorem dX4_readLine_89 : decode cX4_readLine 89 = .ok (.ifCond .ne 7, 3) := dk_154 0 7 (dk_at dksX4_readLine_3 19 rfl rfl)
theorem dX4_readLine_92 : decode cX4_readLine 92 = .ok (.iconst 1, 1) := dk_4 (dk_at dksX4_readLine_3 22 rfl rfl)
theorem dX4_readLine_93 : decode cX4_readLine 93 = .ok (.goto 4, 3) := dk_167 0 4 (dk_at dksX4_readLine_4 0 rfl rfl)
theorem dX4_readLine_96 : decode cX4_readLine 96 = .ok (.iconst 0, 1) := dk_3 (dk_at dksX4_readLine_4 3 rfl rfl)
theorem dX4_readLine_97 : decode cX4_readLine 97 = .ok (.iconst 4, 1) := dk_7 (dk_at dksX4_readLine_4 4 rfl rfl)
theorem dX4_readLine_98 : decode cX4_readLine 98 = .ok (.invokevirtual 121, 3) := dk_182 0 121 (dk_at dksX4_readLine_4 5 rfl rfl)
theorem dX4_readLine_101 : decode cX4_readLine 101 = .ok (.aload_n 0, 1) := dk_42 (dk_at dksX4_readLine_4 8 rfl rfl)
theorem dX4_readLine_102 : decode cX4_readLine 102 = .ok (.iload_n 1, 1) := dk_27 (dk_at dksX4_readLine_4 9 rfl rfl)
theorem dX4_readLine_103 : decode cX4_readLine 103 = .ok (.bipush 6, 2) := dk_16 6 (dk_at dksX4_readLine_4 10 rfl rfl)
theorem dX4_readLine_105 : decode cX4_readLine 105 = .ok (.if_icmp .ne 10, 3) := dk_160 0 10 (dk_at dksX4_readLine_4 12 rfl rfl)
theorem dX4_readLine_108 : decode cX4_readLine 108 = .ok (.aload_n 0, 1) := dk_42 (dk_at dksX4_readLine_4 15 rfl rfl)
theorem dX4_readLine_109 : decode cX4_readLine 109 = .ok (.getfield 65, 3) := dk_180 0 65 (dk_at dksX4_readLine_4 16 rfl rfl)
theorem dX4_readLine_112 : decode cX4_readLine 112 = .ok (.ifCond .ne 7, 3) := dk_154 0 7 (dk_at dksX4_readLine_4 19 rfl rfl)
theorem dX4_readLine_115 : decode cX4_readLine 115 = .ok (.iconst 1, 1) := dk_4 (dk_at dksX4_readLine_4 22 rfl rfl)
theorem dX4_readLine_116 : decode cX4_readLine 116 = .ok (.goto 4, 3) := dk_167 0 4 (dk_at dksX4_readLine_5 0 rfl rfl)
theorem dX4_readLine_119 : decode cX4_readLine 119 = .ok (.iconst 0, 1) := dk_3 (dk_at dksX4_readLine_5 3 rfl rfl)
theorem dX4_readLine_120 : decode cX4_readLine 120 = .ok (.iconst 4, 1) := dk_7 (dk_at dksX4_readLine_5 4 rfl rfl)
theorem dX4_readLine_121 : decode cX4_readLine 121 = .ok (.invokevirtual 121, 3) := dk_182 0 121 (dk_at dksX4_readLine_5 5 rfl rfl)
theorem dX4_readLine_124 : decode cX4_readLine 124 = .ok (.aload_n 0, 1) := dk_42 (dk_at dksX4_readLine_5 8 rfl rfl)
theorem dX4_readLine_125 : decode cX4_readLine 125 = .ok (.aload_n 0, 1) := dk_42 (dk_at dksX4_readLine_5 9 rfl rfl)
theorem dX4_readLine_126 : decode cX4_readLine 126 = .ok (.getfield 61, 3) := dk_180 0 61 (dk_at dksX4_readLine_5 10 rfl rfl)
theorem dX4_readLine_129 : decode cX4_readLine 129 = .ok (.ifCond .ne 8, 3) := dk_154 0 8 (dk_at dksX4_readLine_5 13 rfl rfl)
theorem dX4_readLine_132 : decode cX4_readLine 132 = .ok (.iload_n 1, 1) := dk_27 (dk_at dksX4_readLine_5 16 rfl rfl)
theorem dX4_readLine_133 : decode cX4_readLine 133 = .ok (.iconst 5, 1) := dk_8 (dk_at dksX4_readLine_5 17 rfl rfl)
theorem dX4_readLine_134 : decode cX4_readLine 134 = .ok (.if_icmp .ne 7, 3) := dk_160 0 7 (dk_at dksX4_readLine_5 18 rfl rfl)
theorem dX4_readLine_137 : decode cX4_readLine 137 = .ok (.iconst 1, 1) := dk_4 (dk_at dksX4_readLine_5 21 rfl rfl)
theorem dX4_readLine_138 : decode cX4_readLine 138 = .ok (.goto 4, 3) := dk_167 0 4 (dk_at dksX4_readLine_6 0 rfl rfl)
theorem dX4_readLine_141 : decode cX4_readLine 141 = .ok (.iconst 0, 1) := dk_3 (dk_at dksX4_readLine_6 3 rfl rfl)
theorem dX4_readLine_142 : decode cX4_readLine 142 = .ok (.putfield 61, 3) := dk_181 0 61 (dk_at dksX4_readLine_6 4 rfl rfl)
theorem dX4_readLine_145 : decode cX4_readLine 145 = .ok (.aload_n 0, 1) := dk_42 (dk_at dksX4_readLine_6 7 rfl rfl)
theorem dX4_readLine_146 : decode cX4_readLine 146 = .ok (.aload_n 0, 1) := dk_42 (dk_at dksX4_readLine_6 8 rfl rfl)
theorem dX4_readLine_147 : decode cX4_readLine 147 = .ok (.getfield 65, 3) := dk_180 0 65 (dk_at dksX4_readLine_6 9 rfl rfl)
theorem dX4_readLine_150 : decode cX4_readLine 150 = .ok (.ifCond .ne 9, 3) := dk_154 0 9 (dk_at dksX4_readLine_6 12 rfl rfl)
theorem dX4_readLine_153 : decode cX4_readLine 153 = .ok (.iload_n 1, 1) := dk_27 (dk_at dksX4_readLine_6 15 rfl rfl)
theorem dX4_readLine_154 : decode cX4_readLine 154 = .ok (.bipush 6, 2) := dk_16 6 (dk_at dksX4_readLine_6 16 rfl rfl)
theorem dX4_readLine_156 : decode cX4_readLine 156 = .ok (.if_icmp .ne 7, 3) := dk_160 0 7 (dk_at dksX4_readLine_6 18 rfl rfl)
theorem dX4_readLine_159 : decode cX4_readLine 159 = .ok (.iconst 1, 1) := dk_4 (dk_at dksX4_readLine_6 21 rfl rfl)
theorem dX4_readLine_160 : decode cX4_readLine 160 = .ok (.goto 4, 3) := dk_167 0 4 (dk_at dksX4_readLine_7 0 rfl rfl)
theorem dX4_readLine_163 : decode cX4_readLine 163 = .ok (.iconst 0, 1) := dk_3 (dk_at dksX4_readLine_7 3 rfl rfl)
theorem dX4_readLine_164 : decode cX4_readLine 164 = .ok (.putfield 65, 3) := dk_181 0 65 (dk_at dksX4_readLine_7 4 rfl rfl)
theorem dX4_readLine_167 : decode cX4_readLine 167 = .ok (.aload_n 0, 1) := dk_42 (dk_at dksX4_readLine_7 7 rfl rfl)
theorem dX4_readLine_168 : decode cX4_readLine 168 = .ok (.invokevirtual 129, 3) := dk_182 0 129 (dk_at dksX4_readLine_7 8 rfl rfl)
theorem dX4_readLine_171 : decode cX4_readLine 171 = .ok (.aload_n 0, 1) := dk_42 (dk_at dksX4_readLine_7 11 rfl rfl)
theorem dX4_readLine_172 : decode cX4_readLine 172 = .ok (.getfield 83, 3) := dk_180 0 83 (dk_at dksX4_readLine_7 12 rfl rfl)
theorem dX4_readLine_175 : decode cX4_readLine 175 = .ok (.ifCond .le 4, 3) := dk_158 0 4 (dk_at dksX4_readLine_7 15 rfl rfl)
theorem dX4_readLine_178 : decode cX4_readLine 178 = .ok (.return_, 1) := dk_177 (dk_at dksX4_readLine_7 18 rfl rfl)
theorem dX4_readLine_179 : decode cX4_readLine 179 = .ok (.aload_n 0, 1) := dk_42 (dk_at dksX4_readLine_7 19 rfl rfl)
theorem dX4_readLine_180 : decode cX4_readLine 180 = .ok (.iload_n 1, 1) := dk_27 (dk_at dksX4_readLine_7 20 rfl rfl)
theorem dX4_readLine_181 : decode cX4_readLine 181 = .ok (.invokevirtual 142, 3) := dk_182 0 142 (dk_at dksX4_readLine_7 21 rfl rfl)
theorem dX4_readLine_184 : decode cX4_readLine 184 = .ok (.aload_n 0, 1) := dk_42 (dk_at dksX4_readLine_8 0 rfl rfl)
theorem dX4_readLine_185 : decode cX4_readLine 185 = .ok (.getfield 83, 3) := dk_180 0 83 (dk_at dksX4_readLine_8 1 rfl rfl)
theorem dX4_readLine_188 : decode cX4_readLine 188 = .ok (.ifCond .ne 21, 3) := dk_154 0 21 (dk_at dksX4_readLine_8 4 rfl rfl)
theorem dX4_readLine_191 : decode cX4_readLine 191 = .ok (.aload_n 0, 1) := dk_42 (dk_at dksX4_readLine_8 7 rfl rfl)
theorem dX4_readLine_192 : decode cX4_readLine 192 = .ok (.aload_n 0, 1) := dk_42 (dk_at dksX4_readLine_8 8 rfl rfl)
theorem dX4_readLine_193 : decode cX4_readLine 193 = .ok (.getfield 107, 3) := dk_180 0 107 (dk_at dksX4_readLine_8 9 rfl rfl)
theorem dX4_readLine_196 : decode cX4_readLine 196 = .ok (.iconst 3, 1) := dk_6 (dk_at dksX4_readLine_8 12 rfl rfl)
theorem dX4_readLine_197 : decode cX4_readLine 197 = .ok (.if_icmp .ne 7, 3) := dk_160 0 7 (dk_at dksX4_readLine_8 13 rfl rfl)
theorem dX4_readLine_200 : decode cX4_readLine 200 = .ok (.iconst 1, 1) := dk_4 (dk_at dksX4_readLine_8 16 rfl rfl)
theorem dX4_readLine_201 : decode cX4_readLine 201 = .ok (.goto 4, 3) := dk_167 0 4 (dk_at dksX4_readLine_8 17 rfl rfl)
theorem dX4_readLine_204 : decode cX4_readLine 204 = .ok (.iconst 0, 1) := dk_3 (dk_at dksX4_readLine_8 20 rfl rfl)
theorem dX4_readLine_205 : decode cX4_readLine 205 = .ok (.iconst 2, 1) := dk_5 (dk_at dksX4_readLine_8 21 rfl rfl)
theorem dX4_readLine_206 : decode cX4_readLine 206 = .ok (.invokevirtual 121, 3) := dk_182 0 121 (dk_at dksX4_readLine_9 0 rfl rfl)
theorem dX4_readLine_209 : decode cX4_readLine 209 = .ok (.aload_n 0, 1) := dk_42 (dk_at dksX4_readLine_9 3 rfl rfl)
theorem dX4_readLine_210 : decode cX4_readLine 210 = .ok (.invokevirtual 129, 3) := dk_182 0 129 (dk_at dksX4_readLine_9 4 rfl rfl)
theorem dX4_readLine_213 : decode cX4_readLine 213 = .ok (.return_, 1) := dk_177 (dk_at dksX4_readLine_9 7 rfl rfl)
abbrev cX4_lineNow : ByteArray := prog_12_method_15_code
def yX4_lineNow : MethodName := ⟨RX4, "lineNow", "()I"⟩
def dkwX4_lineNow_7 : List UInt8 := [153, 0, 19, 42, 16, 100, 16, 115, 182, 0, 103, 153, 0, 8, 16, 6, 167, 0, 5, 16, 252, 172]
abbrev dktX4_lineNow_7 : List UInt8 := dkwX4_lineNow_7 ++ []
def dkwX4_lineNow_6 : List UInt8 := [16, 116, 3, 182, 0, 103, 153, 0, 7, 8, 167, 0, 35, 42, 8, 16, 110, 16, 101, 16, 101, 182, 0, 99]
abbrev dktX4_lineNow_6 : List UInt8 := dkwX4_lineNow_6 ++ dktX4_lineNow_7
def dkwX4_lineNow_5 : List UInt8 := [182, 0, 103, 153, 0, 5, 7, 172, 42, 7, 16, 114, 16, 117, 16, 115, 182, 0, 99, 153, 0, 17, 42]
abbrev dktX4_lineNow_5 : List UInt8 := dkwX4_lineNow_5 ++ dktX4_lineNow_6
def dkwX4_lineNow_4 : List UInt8 := [153, 0, 5, 6, 172, 42, 8, 16, 98, 16, 111, 16, 111, 182, 0, 99, 153, 0, 16, 42, 16, 116, 16, 115]
abbrev dktX4_lineNow_4 : List UInt8 := dkwX4_lineNow_4 ++ dktX4_lineNow_5
def dkwX4_lineNow_3 : List UInt8 := [172, 42, 8, 16, 109, 16, 111, 16, 117, 182, 0, 99, 153, 0, 16, 42, 16, 115, 16, 101, 182, 0, 103]
abbrev dktX4_lineNow_3 : List UInt8 := dkwX4_lineNow_3 ++ dktX4_lineNow_4
def dkwX4_lineNow_2 : List UInt8 := [16, 108, 16, 111, 16, 121, 182, 0, 99, 153, 0, 16, 42, 16, 97, 16, 108, 182, 0, 103, 153, 0, 5, 5]
abbrev dktX4_lineNow_2 : List UInt8 := dkwX4_lineNow_2 ++ dktX4_lineNow_3
def dkwX4_lineNow_1 : List UInt8 := [153, 0, 5, 3, 172, 42, 6, 16, 115, 16, 108, 16, 121, 182, 0, 99, 153, 0, 5, 4, 172, 42, 8]
abbrev dktX4_lineNow_1 : List UInt8 := dkwX4_lineNow_1 ++ dktX4_lineNow_2
def dkwX4_lineNow_0 : List UInt8 := [42, 8, 16, 112, 16, 108, 16, 97, 182, 0, 99, 153, 0, 16, 42, 16, 105, 16, 110, 182, 0, 103]
abbrev dktX4_lineNow_0 : List UInt8 := dkwX4_lineNow_0 ++ dktX4_lineNow_1
theorem dksX4_lineNow_0 : cX4_lineNow.data.toList.drop 0 = dktX4_lineNow_0 := by decide +kernel
theorem dksX4_lineNow_1 : cX4_lineNow.data.toList.drop 22 = dktX4_lineNow_1 := dk_seg dksX4_lineNow_0 22 rfl rfl
theorem dksX4_lineNow_2 : cX4_lineNow.data.toList.drop 45 = dktX4_lineNow_2 := dk_seg dksX4_lineNow_1 23 rfl rfl
theorem dksX4_lineNow_3 : cX4_lineNow.data.toList.drop 69 = dktX4_lineNow_3 := dk_seg dksX4_lineNow_2 24 rfl rfl
theorem dksX4_lineNow_4 : cX4_lineNow.data.toList.drop 92 = dktX4_lineNow_4 := dk_seg dksX4_lineNow_3 23 rfl rfl
theorem dksX4_lineNow_5 : cX4_lineNow.data.toList.drop 116 = dktX4_lineNow_5 := dk_seg dksX4_lineNow_4 24 rfl rfl
theorem dksX4_lineNow_6 : cX4_lineNow.data.toList.drop 139 = dktX4_lineNow_6 := dk_seg dksX4_lineNow_5 23 rfl rfl
theorem dksX4_lineNow_7 : cX4_lineNow.data.toList.drop 163 = dktX4_lineNow_7 := dk_seg dksX4_lineNow_6 24 rfl rfl
theorem dX4_lineNow_0 : decode cX4_lineNow 0 = .ok (.aload_n 0, 1) := dk_42 (dk_at dksX4_lineNow_0 0 rfl rfl)
theorem dX4_lineNow_1 : decode cX4_lineNow 1 = .ok (.iconst 5, 1) := dk_8 (dk_at dksX4_lineNow_0 1 rfl rfl)
theorem dX4_lineNow_2 : decode cX4_lineNow 2 = .ok (.bipush 112, 2) := dk_16 112 (dk_at dksX4_lineNow_0 2 rfl rfl)
theorem dX4_lineNow_4 : decode cX4_lineNow 4 = .ok (.bipush 108, 2) := dk_16 108 (dk_at dksX4_lineNow_0 4 rfl rfl)
theorem dX4_lineNow_6 : decode cX4_lineNow 6 = .ok (.bipush 97, 2) := dk_16 97 (dk_at dksX4_lineNow_0 6 rfl rfl)
theorem dX4_lineNow_8 : decode cX4_lineNow 8 = .ok (.invokevirtual 99, 3) := dk_182 0 99 (dk_at dksX4_lineNow_0 8 rfl rfl)
theorem dX4_lineNow_11 : decode cX4_lineNow 11 = .ok (.ifCond .eq 16, 3) := dk_153 0 16 (dk_at dksX4_lineNow_0 11 rfl rfl)
theorem dX4_lineNow_14 : decode cX4_lineNow 14 = .ok (.aload_n 0, 1) := dk_42 (dk_at dksX4_lineNow_0 14 rfl rfl)
theorem dX4_lineNow_15 : decode cX4_lineNow 15 = .ok (.bipush 105, 2) := dk_16 105 (dk_at dksX4_lineNow_0 15 rfl rfl)
theorem dX4_lineNow_17 : decode cX4_lineNow 17 = .ok (.bipush 110, 2) := dk_16 110 (dk_at dksX4_lineNow_0 17 rfl rfl)
theorem dX4_lineNow_19 : decode cX4_lineNow 19 = .ok (.invokevirtual 103, 3) := dk_182 0 103 (dk_at dksX4_lineNow_0 19 rfl rfl)
theorem dX4_lineNow_22 : decode cX4_lineNow 22 = .ok (.ifCond .eq 5, 3) := dk_153 0 5 (dk_at dksX4_lineNow_1 0 rfl rfl)
theorem dX4_lineNow_25 : decode cX4_lineNow 25 = .ok (.iconst 0, 1) := dk_3 (dk_at dksX4_lineNow_1 3 rfl rfl)
theorem dX4_lineNow_26 : decode cX4_lineNow 26 = .ok (.ireturn, 1) := dk_172 (dk_at dksX4_lineNow_1 4 rfl rfl)
theorem dX4_lineNow_27 : decode cX4_lineNow 27 = .ok (.aload_n 0, 1) := dk_42 (dk_at dksX4_lineNow_1 5 rfl rfl)
theorem dX4_lineNow_28 : decode cX4_lineNow 28 = .ok (.iconst 3, 1) := dk_6 (dk_at dksX4_lineNow_1 6 rfl rfl)
theorem dX4_lineNow_29 : decode cX4_lineNow 29 = .ok (.bipush 115, 2) := dk_16 115 (dk_at dksX4_lineNow_1 7 rfl rfl)
theorem dX4_lineNow_31 : decode cX4_lineNow 31 = .ok (.bipush 108, 2) := dk_16 108 (dk_at dksX4_lineNow_1 9 rfl rfl)
theorem dX4_lineNow_33 : decode cX4_lineNow 33 = .ok (.bipush 121, 2) := dk_16 121 (dk_at dksX4_lineNow_1 11 rfl rfl)
theorem dX4_lineNow_35 : decode cX4_lineNow 35 = .ok (.invokevirtual 99, 3) := dk_182 0 99 (dk_at dksX4_lineNow_1 13 rfl rfl)
theorem dX4_lineNow_38 : decode cX4_lineNow 38 = .ok (.ifCond .eq 5, 3) := dk_153 0 5 (dk_at dksX4_lineNow_1 16 rfl rfl)
theorem dX4_lineNow_41 : decode cX4_lineNow 41 = .ok (.iconst 1, 1) := dk_4 (dk_at dksX4_lineNow_1 19 rfl rfl)
theorem dX4_lineNow_42 : decode cX4_lineNow 42 = .ok (.ireturn, 1) := dk_172 (dk_at dksX4_lineNow_1 20 rfl rfl)
theorem dX4_lineNow_43 : decode cX4_lineNow 43 = .ok (.aload_n 0, 1) := dk_42 (dk_at dksX4_lineNow_1 21 rfl rfl)
theorem dX4_lineNow_44 : decode cX4_lineNow 44 = .ok (.iconst 5, 1) := dk_8 (dk_at dksX4_lineNow_1 22 rfl rfl)
theorem dX4_lineNow_45 : decode cX4_lineNow 45 = .ok (.bipush 108, 2) := dk_16 108 (dk_at dksX4_lineNow_2 0 rfl rfl)
theorem dX4_lineNow_47 : decode cX4_lineNow 47 = .ok (.bipush 111, 2) := dk_16 111 (dk_at dksX4_lineNow_2 2 rfl rfl)
theorem dX4_lineNow_49 : decode cX4_lineNow 49 = .ok (.bipush 121, 2) := dk_16 121 (dk_at dksX4_lineNow_2 4 rfl rfl)
theorem dX4_lineNow_51 : decode cX4_lineNow 51 = .ok (.invokevirtual 99, 3) := dk_182 0 99 (dk_at dksX4_lineNow_2 6 rfl rfl)
theorem dX4_lineNow_54 : decode cX4_lineNow 54 = .ok (.ifCond .eq 16, 3) := dk_153 0 16 (dk_at dksX4_lineNow_2 9 rfl rfl)
theorem dX4_lineNow_57 : decode cX4_lineNow 57 = .ok (.aload_n 0, 1) := dk_42 (dk_at dksX4_lineNow_2 12 rfl rfl)
theorem dX4_lineNow_58 : decode cX4_lineNow 58 = .ok (.bipush 97, 2) := dk_16 97 (dk_at dksX4_lineNow_2 13 rfl rfl)
theorem dX4_lineNow_60 : decode cX4_lineNow 60 = .ok (.bipush 108, 2) := dk_16 108 (dk_at dksX4_lineNow_2 15 rfl rfl)
theorem dX4_lineNow_62 : decode cX4_lineNow 62 = .ok (.invokevirtual 103, 3) := dk_182 0 103 (dk_at dksX4_lineNow_2 17 rfl rfl)
theorem dX4_lineNow_65 : decode cX4_lineNow 65 = .ok (.ifCond .eq 5, 3) := dk_153 0 5 (dk_at dksX4_lineNow_2 20 rfl rfl)
theorem dX4_lineNow_68 : decode cX4_lineNow 68 = .ok (.iconst 2, 1) := dk_5 (dk_at dksX4_lineNow_2 23 rfl rfl)
theorem dX4_lineNow_69 : decode cX4_lineNow 69 = .ok (.ireturn, 1) := dk_172 (dk_at dksX4_lineNow_3 0 rfl rfl)
theorem dX4_lineNow_70 : decode cX4_lineNow 70 = .ok (.aload_n 0, 1) := dk_42 (dk_at dksX4_lineNow_3 1 rfl rfl)
theorem dX4_lineNow_71 : decode cX4_lineNow 71 = .ok (.iconst 5, 1) := dk_8 (dk_at dksX4_lineNow_3 2 rfl rfl)
theorem dX4_lineNow_72 : decode cX4_lineNow 72 = .ok (.bipush 109, 2) := dk_16 109 (dk_at dksX4_lineNow_3 3 rfl rfl)
theorem dX4_lineNow_74 : decode cX4_lineNow 74 = .ok (.bipush 111, 2) := dk_16 111 (dk_at dksX4_lineNow_3 5 rfl rfl)
theorem dX4_lineNow_76 : decode cX4_lineNow 76 = .ok (.bipush 117, 2) := dk_16 117 (dk_at dksX4_lineNow_3 7 rfl rfl)
theorem dX4_lineNow_78 : decode cX4_lineNow 78 = .ok (.invokevirtual 99, 3) := dk_182 0 99 (dk_at dksX4_lineNow_3 9 rfl rfl)
theorem dX4_lineNow_81 : decode cX4_lineNow 81 = .ok (.ifCond .eq 16, 3) := dk_153 0 16 (dk_at dksX4_lineNow_3 12 rfl rfl)
theorem dX4_lineNow_84 : decode cX4_lineNow 84 = .ok (.aload_n 0, 1) := dk_42 (dk_at dksX4_lineNow_3 15 rfl rfl)
theorem dX4_lineNow_85 : decode cX4_lineNow 85 = .ok (.bipush 115, 2) := dk_16 115 (dk_at dksX4_lineNow_3 16 rfl rfl)
theorem dX4_lineNow_87 : decode cX4_lineNow 87 = .ok (.bipush 101, 2) := dk_16 101 (dk_at dksX4_lineNow_3 18 rfl rfl)
theorem dX4_lineNow_89 : decode cX4_lineNow 89 = .ok (.invokevirtual 103, 3) := dk_182 0 103 (dk_at dksX4_lineNow_3 20 rfl rfl)
theorem dX4_lineNow_92 : decode cX4_lineNow 92 = .ok (.ifCond .eq 5, 3) := dk_153 0 5 (dk_at dksX4_lineNow_4 0 rfl rfl)
theorem dX4_lineNow_95 : decode cX4_lineNow 95 = .ok (.iconst 3, 1) := dk_6 (dk_at dksX4_lineNow_4 3 rfl rfl)
theorem dX4_lineNow_96 : decode cX4_lineNow 96 = .ok (.ireturn, 1) := dk_172 (dk_at dksX4_lineNow_4 4 rfl rfl)
theorem dX4_lineNow_97 : decode cX4_lineNow 97 = .ok (.aload_n 0, 1) := dk_42 (dk_at dksX4_lineNow_4 5 rfl rfl)
theorem dX4_lineNow_98 : decode cX4_lineNow 98 = .ok (.iconst 5, 1) := dk_8 (dk_at dksX4_lineNow_4 6 rfl rfl)
theorem dX4_lineNow_99 : decode cX4_lineNow 99 = .ok (.bipush 98, 2) := dk_16 98 (dk_at dksX4_lineNow_4 7 rfl rfl)
theorem dX4_lineNow_101 : decode cX4_lineNow 101 = .ok (.bipush 111, 2) := dk_16 111 (dk_at dksX4_lineNow_4 9 rfl rfl)
theorem dX4_lineNow_103 : decode cX4_lineNow 103 = .ok (.bipush 111, 2) := dk_16 111 (dk_at dksX4_lineNow_4 11 rfl rfl)
theorem dX4_lineNow_105 : decode cX4_lineNow 105 = .ok (.invokevirtual 99, 3) := dk_182 0 99 (dk_at dksX4_lineNow_4 13 rfl rfl)
theorem dX4_lineNow_108 : decode cX4_lineNow 108 = .ok (.ifCond .eq 16, 3) := dk_153 0 16 (dk_at dksX4_lineNow_4 16 rfl rfl)
theorem dX4_lineNow_111 : decode cX4_lineNow 111 = .ok (.aload_n 0, 1) := dk_42 (dk_at dksX4_lineNow_4 19 rfl rfl)
theorem dX4_lineNow_112 : decode cX4_lineNow 112 = .ok (.bipush 116, 2) := dk_16 116 (dk_at dksX4_lineNow_4 20 rfl rfl)
theorem dX4_lineNow_114 : decode cX4_lineNow 114 = .ok (.bipush 115, 2) := dk_16 115 (dk_at dksX4_lineNow_4 22 rfl rfl)
theorem dX4_lineNow_116 : decode cX4_lineNow 116 = .ok (.invokevirtual 103, 3) := dk_182 0 103 (dk_at dksX4_lineNow_5 0 rfl rfl)
theorem dX4_lineNow_119 : decode cX4_lineNow 119 = .ok (.ifCond .eq 5, 3) := dk_153 0 5 (dk_at dksX4_lineNow_5 3 rfl rfl)
theorem dX4_lineNow_122 : decode cX4_lineNow 122 = .ok (.iconst 4, 1) := dk_7 (dk_at dksX4_lineNow_5 6 rfl rfl)
theorem dX4_lineNow_123 : decode cX4_lineNow 123 = .ok (.ireturn, 1) := dk_172 (dk_at dksX4_lineNow_5 7 rfl rfl)
theorem dX4_lineNow_124 : decode cX4_lineNow 124 = .ok (.aload_n 0, 1) := dk_42 (dk_at dksX4_lineNow_5 8 rfl rfl)
theorem dX4_lineNow_125 : decode cX4_lineNow 125 = .ok (.iconst 4, 1) := dk_7 (dk_at dksX4_lineNow_5 9 rfl rfl)
theorem dX4_lineNow_126 : decode cX4_lineNow 126 = .ok (.bipush 114, 2) := dk_16 114 (dk_at dksX4_lineNow_5 10 rfl rfl)
theorem dX4_lineNow_128 : decode cX4_lineNow 128 = .ok (.bipush 117, 2) := dk_16 117 (dk_at dksX4_lineNow_5 12 rfl rfl)
theorem dX4_lineNow_130 : decode cX4_lineNow 130 = .ok (.bipush 115, 2) := dk_16 115 (dk_at dksX4_lineNow_5 14 rfl rfl)
theorem dX4_lineNow_132 : decode cX4_lineNow 132 = .ok (.invokevirtual 99, 3) := dk_182 0 99 (dk_at dksX4_lineNow_5 16 rfl rfl)
theorem dX4_lineNow_135 : decode cX4_lineNow 135 = .ok (.ifCond .eq 17, 3) := dk_153 0 17 (dk_at dksX4_lineNow_5 19 rfl rfl)
theorem dX4_lineNow_138 : decode cX4_lineNow 138 = .ok (.aload_n 0, 1) := dk_42 (dk_at dksX4_lineNow_5 22 rfl rfl)
theorem dX4_lineNow_139 : decode cX4_lineNow 139 = .ok (.bipush 116, 2) := dk_16 116 (dk_at dksX4_lineNow_6 0 rfl rfl)
theorem dX4_lineNow_141 : decode cX4_lineNow 141 = .ok (.iconst 0, 1) := dk_3 (dk_at dksX4_lineNow_6 2 rfl rfl)
theorem dX4_lineNow_142 : decode cX4_lineNow 142 = .ok (.invokevirtual 103, 3) := dk_182 0 103 (dk_at dksX4_lineNow_6 3 rfl rfl)
theorem dX4_lineNow_145 : decode cX4_lineNow 145 = .ok (.ifCond .eq 7, 3) := dk_153 0 7 (dk_at dksX4_lineNow_6 6 rfl rfl)
theorem dX4_lineNow_148 : decode cX4_lineNow 148 = .ok (.iconst 5, 1) := dk_8 (dk_at dksX4_lineNow_6 9 rfl rfl)
theorem dX4_lineNow_149 : decode cX4_lineNow 149 = .ok (.goto 35, 3) := dk_167 0 35 (dk_at dksX4_lineNow_6 10 rfl rfl)
theorem dX4_lineNow_152 : decode cX4_lineNow 152 = .ok (.aload_n 0, 1) := dk_42 (dk_at dksX4_lineNow_6 13 rfl rfl)
theorem dX4_lineNow_153 : decode cX4_lineNow 153 = .ok (.iconst 5, 1) := dk_8 (dk_at dksX4_lineNow_6 14 rfl rfl)
theorem dX4_lineNow_154 : decode cX4_lineNow 154 = .ok (.bipush 110, 2) := dk_16 110 (dk_at dksX4_lineNow_6 15 rfl rfl)
theorem dX4_lineNow_156 : decode cX4_lineNow 156 = .ok (.bipush 101, 2) := dk_16 101 (dk_at dksX4_lineNow_6 17 rfl rfl)
theorem dX4_lineNow_158 : decode cX4_lineNow 158 = .ok (.bipush 101, 2) := dk_16 101 (dk_at dksX4_lineNow_6 19 rfl rfl)
theorem dX4_lineNow_160 : decode cX4_lineNow 160 = .ok (.invokevirtual 99, 3) := dk_182 0 99 (dk_at dksX4_lineNow_6 21 rfl rfl)
theorem dX4_lineNow_163 : decode cX4_lineNow 163 = .ok (.ifCond .eq 19, 3) := dk_153 0 19 (dk_at dksX4_lineNow_7 0 rfl rfl)
theorem dX4_lineNow_166 : decode cX4_lineNow 166 = .ok (.aload_n 0, 1) := dk_42 (dk_at dksX4_lineNow_7 3 rfl rfl)
theorem dX4_lineNow_167 : decode cX4_lineNow 167 = .ok (.bipush 100, 2) := dk_16 100 (dk_at dksX4_lineNow_7 4 rfl rfl)
theorem dX4_lineNow_169 : decode cX4_lineNow 169 = .ok (.bipush 115, 2) := dk_16 115 (dk_at dksX4_lineNow_7 6 rfl rfl)
theorem dX4_lineNow_171 : decode cX4_lineNow 171 = .ok (.invokevirtual 103, 3) := dk_182 0 103 (dk_at dksX4_lineNow_7 8 rfl rfl)
theorem dX4_lineNow_174 : decode cX4_lineNow 174 = .ok (.ifCond .eq 8, 3) := dk_153 0 8 (dk_at dksX4_lineNow_7 11 rfl rfl)
theorem dX4_lineNow_177 : decode cX4_lineNow 177 = .ok (.bipush 6, 2) := dk_16 6 (dk_at dksX4_lineNow_7 14 rfl rfl)
theorem dX4_lineNow_179 : decode cX4_lineNow 179 = .ok (.goto 5, 3) := dk_167 0 5 (dk_at dksX4_lineNow_7 16 rfl rfl)
theorem dX4_lineNow_182 : decode cX4_lineNow 182 = .ok (.bipush (-4), 2) := dk_16 252 (dk_at dksX4_lineNow_7 19 rfl rfl)
theorem dX4_lineNow_184 : decode cX4_lineNow 184 = .ok (.ireturn, 1) := dk_172 (dk_at dksX4_lineNow_7 21 rfl rfl)
abbrev cX4_is : ByteArray := prog_12_method_13_code
def yX4_is : MethodName := ⟨RX4, "is", "(IIII)Z"⟩
def dkwX4_is_2 : List UInt8 := [182, 0, 95, 21, 4, 160, 0, 7, 4, 167, 0, 4, 3, 172]
abbrev dktX4_is_2 : List UInt8 := dkwX4_is_2 ++ []
def dkwX4_is_1 : List UInt8 := [160, 0, 36, 42, 42, 180, 0, 86, 4, 96, 182, 0, 95, 29, 160, 0, 22, 42, 42, 180, 0, 86, 5, 96]
abbrev dktX4_is_1 : List UInt8 := dkwX4_is_1 ++ dktX4_is_2
def dkwX4_is_0 : List UInt8 := [42, 180, 0, 92, 42, 180, 0, 86, 100, 27, 160, 0, 48, 42, 42, 180, 0, 86, 182, 0, 95, 28]
abbrev dktX4_is_0 : List UInt8 := dkwX4_is_0 ++ dktX4_is_1
theorem dksX4_is_0 : cX4_is.data.toList.drop 0 = dktX4_is_0 := by decide +kernel
theorem dksX4_is_1 : cX4_is.data.toList.drop 22 = dktX4_is_1 := dk_seg dksX4_is_0 22 rfl rfl
theorem dksX4_is_2 : cX4_is.data.toList.drop 46 = dktX4_is_2 := dk_seg dksX4_is_1 24 rfl rfl
theorem dX4_is_0 : decode cX4_is 0 = .ok (.aload_n 0, 1) := dk_42 (dk_at dksX4_is_0 0 rfl rfl)
theorem dX4_is_1 : decode cX4_is 1 = .ok (.getfield 92, 3) := dk_180 0 92 (dk_at dksX4_is_0 1 rfl rfl)
theorem dX4_is_4 : decode cX4_is 4 = .ok (.aload_n 0, 1) := dk_42 (dk_at dksX4_is_0 4 rfl rfl)
theorem dX4_is_5 : decode cX4_is 5 = .ok (.getfield 86, 3) := dk_180 0 86 (dk_at dksX4_is_0 5 rfl rfl)
theorem dX4_is_8 : decode cX4_is 8 = .ok (.isub, 1) := dk_100 (dk_at dksX4_is_0 8 rfl rfl)
theorem dX4_is_9 : decode cX4_is 9 = .ok (.iload_n 1, 1) := dk_27 (dk_at dksX4_is_0 9 rfl rfl)
theorem dX4_is_10 : decode cX4_is 10 = .ok (.if_icmp .ne 48, 3) := dk_160 0 48 (dk_at dksX4_is_0 10 rfl rfl)
theorem dX4_is_13 : decode cX4_is 13 = .ok (.aload_n 0, 1) := dk_42 (dk_at dksX4_is_0 13 rfl rfl)
theorem dX4_is_14 : decode cX4_is 14 = .ok (.aload_n 0, 1) := dk_42 (dk_at dksX4_is_0 14 rfl rfl)
theorem dX4_is_15 : decode cX4_is 15 = .ok (.getfield 86, 3) := dk_180 0 86 (dk_at dksX4_is_0 15 rfl rfl)
theorem dX4_is_18 : decode cX4_is 18 = .ok (.invokevirtual 95, 3) := dk_182 0 95 (dk_at dksX4_is_0 18 rfl rfl)
theorem dX4_is_21 : decode cX4_is 21 = .ok (.iload_n 2, 1) := dk_28 (dk_at dksX4_is_0 21 rfl rfl)
theorem dX4_is_22 : decode cX4_is 22 = .ok (.if_icmp .ne 36, 3) := dk_160 0 36 (dk_at dksX4_is_1 0 rfl rfl)
theorem dX4_is_25 : decode cX4_is 25 = .ok (.aload_n 0, 1) := dk_42 (dk_at dksX4_is_1 3 rfl rfl)
theorem dX4_is_26 : decode cX4_is 26 = .ok (.aload_n 0, 1) := dk_42 (dk_at dksX4_is_1 4 rfl rfl)
theorem dX4_is_27 : decode cX4_is 27 = .ok (.getfield 86, 3) := dk_180 0 86 (dk_at dksX4_is_1 5 rfl rfl)
theorem dX4_is_30 : decode cX4_is 30 = .ok (.iconst 1, 1) := dk_4 (dk_at dksX4_is_1 8 rfl rfl)
theorem dX4_is_31 : decode cX4_is 31 = .ok (.iadd, 1) := dk_96 (dk_at dksX4_is_1 9 rfl rfl)
theorem dX4_is_32 : decode cX4_is 32 = .ok (.invokevirtual 95, 3) := dk_182 0 95 (dk_at dksX4_is_1 10 rfl rfl)
theorem dX4_is_35 : decode cX4_is 35 = .ok (.iload_n 3, 1) := dk_29 (dk_at dksX4_is_1 13 rfl rfl)
theorem dX4_is_36 : decode cX4_is 36 = .ok (.if_icmp .ne 22, 3) := dk_160 0 22 (dk_at dksX4_is_1 14 rfl rfl)
theorem dX4_is_39 : decode cX4_is 39 = .ok (.aload_n 0, 1) := dk_42 (dk_at dksX4_is_1 17 rfl rfl)
theorem dX4_is_40 : decode cX4_is 40 = .ok (.aload_n 0, 1) := dk_42 (dk_at dksX4_is_1 18 rfl rfl)
theorem dX4_is_41 : decode cX4_is 41 = .ok (.getfield 86, 3) := dk_180 0 86 (dk_at dksX4_is_1 19 rfl rfl)
theorem dX4_is_44 : decode cX4_is 44 = .ok (.iconst 2, 1) := dk_5 (dk_at dksX4_is_1 22 rfl rfl)
theorem dX4_is_45 : decode cX4_is 45 = .ok (.iadd, 1) := dk_96 (dk_at dksX4_is_1 23 rfl rfl)
theorem dX4_is_46 : decode cX4_is 46 = .ok (.invokevirtual 95, 3) := dk_182 0 95 (dk_at dksX4_is_2 0 rfl rfl)
theorem dX4_is_49 : decode cX4_is 49 = .ok (.iload 4, 2) := dk_21 4 (dk_at dksX4_is_2 3 rfl rfl)
theorem dX4_is_51 : decode cX4_is 51 = .ok (.if_icmp .ne 7, 3) := dk_160 0 7 (dk_at dksX4_is_2 5 rfl rfl)
theorem dX4_is_54 : decode cX4_is 54 = .ok (.iconst 1, 1) := dk_4 (dk_at dksX4_is_2 8 rfl rfl)
theorem dX4_is_55 : decode cX4_is 55 = .ok (.goto 4, 3) := dk_167 0 4 (dk_at dksX4_is_2 9 rfl rfl)
theorem dX4_is_58 : decode cX4_is 58 = .ok (.iconst 0, 1) := dk_3 (dk_at dksX4_is_2 12 rfl rfl)
theorem dX4_is_59 : decode cX4_is 59 = .ok (.ireturn, 1) := dk_172 (dk_at dksX4_is_2 13 rfl rfl)
abbrev cX4_ends : ByteArray := prog_12_method_14_code
def yX4_ends : MethodName := ⟨RX4, "ends", "(II)Z"⟩
def dkwX4_ends_1 : List UInt8 := [96, 182, 0, 95, 28, 160, 0, 7, 4, 167, 0, 4, 3, 172]
abbrev dktX4_ends_1 : List UInt8 := dkwX4_ends_1 ++ []
def dkwX4_ends_0 : List UInt8 := [42, 42, 180, 0, 86, 6, 96, 182, 0, 95, 27, 160, 0, 25, 28, 153, 0, 17, 42, 42, 180, 0, 86, 7]
abbrev dktX4_ends_0 : List UInt8 := dkwX4_ends_0 ++ dktX4_ends_1
theorem dksX4_ends_0 : cX4_ends.data.toList.drop 0 = dktX4_ends_0 := by decide +kernel
theorem dksX4_ends_1 : cX4_ends.data.toList.drop 24 = dktX4_ends_1 := dk_seg dksX4_ends_0 24 rfl rfl
theorem dX4_ends_0 : decode cX4_ends 0 = .ok (.aload_n 0, 1) := dk_42 (dk_at dksX4_ends_0 0 rfl rfl)
theorem dX4_ends_1 : decode cX4_ends 1 = .ok (.aload_n 0, 1) := dk_42 (dk_at dksX4_ends_0 1 rfl rfl)
theorem dX4_ends_2 : decode cX4_ends 2 = .ok (.getfield 86, 3) := dk_180 0 86 (dk_at dksX4_ends_0 2 rfl rfl)
theorem dX4_ends_5 : decode cX4_ends 5 = .ok (.iconst 3, 1) := dk_6 (dk_at dksX4_ends_0 5 rfl rfl)
theorem dX4_ends_6 : decode cX4_ends 6 = .ok (.iadd, 1) := dk_96 (dk_at dksX4_ends_0 6 rfl rfl)
theorem dX4_ends_7 : decode cX4_ends 7 = .ok (.invokevirtual 95, 3) := dk_182 0 95 (dk_at dksX4_ends_0 7 rfl rfl)
theorem dX4_ends_10 : decode cX4_ends 10 = .ok (.iload_n 1, 1) := dk_27 (dk_at dksX4_ends_0 10 rfl rfl)
theorem dX4_ends_11 : decode cX4_ends 11 = .ok (.if_icmp .ne 25, 3) := dk_160 0 25 (dk_at dksX4_ends_0 11 rfl rfl)
theorem dX4_ends_14 : decode cX4_ends 14 = .ok (.iload_n 2, 1) := dk_28 (dk_at dksX4_ends_0 14 rfl rfl)
theorem dX4_ends_15 : decode cX4_ends 15 = .ok (.ifCond .eq 17, 3) := dk_153 0 17 (dk_at dksX4_ends_0 15 rfl rfl)
theorem dX4_ends_18 : decode cX4_ends 18 = .ok (.aload_n 0, 1) := dk_42 (dk_at dksX4_ends_0 18 rfl rfl)
theorem dX4_ends_19 : decode cX4_ends 19 = .ok (.aload_n 0, 1) := dk_42 (dk_at dksX4_ends_0 19 rfl rfl)
theorem dX4_ends_20 : decode cX4_ends 20 = .ok (.getfield 86, 3) := dk_180 0 86 (dk_at dksX4_ends_0 20 rfl rfl)
theorem dX4_ends_23 : decode cX4_ends 23 = .ok (.iconst 4, 1) := dk_7 (dk_at dksX4_ends_0 23 rfl rfl)
theorem dX4_ends_24 : decode cX4_ends 24 = .ok (.iadd, 1) := dk_96 (dk_at dksX4_ends_1 0 rfl rfl)
theorem dX4_ends_25 : decode cX4_ends 25 = .ok (.invokevirtual 95, 3) := dk_182 0 95 (dk_at dksX4_ends_1 1 rfl rfl)
theorem dX4_ends_28 : decode cX4_ends 28 = .ok (.iload_n 2, 1) := dk_28 (dk_at dksX4_ends_1 4 rfl rfl)
theorem dX4_ends_29 : decode cX4_ends 29 = .ok (.if_icmp .ne 7, 3) := dk_160 0 7 (dk_at dksX4_ends_1 5 rfl rfl)
theorem dX4_ends_32 : decode cX4_ends 32 = .ok (.iconst 1, 1) := dk_4 (dk_at dksX4_ends_1 8 rfl rfl)
theorem dX4_ends_33 : decode cX4_ends 33 = .ok (.goto 4, 3) := dk_167 0 4 (dk_at dksX4_ends_1 9 rfl rfl)
theorem dX4_ends_36 : decode cX4_ends 36 = .ok (.iconst 0, 1) := dk_3 (dk_at dksX4_ends_1 12 rfl rfl)
theorem dX4_ends_37 : decode cX4_ends 37 = .ok (.ireturn, 1) := dk_172 (dk_at dksX4_ends_1 13 rfl rfl)
abbrev cX4_readLineOf : ByteArray := prog_12_method_20_code
def yX4_readLineOf : MethodName := ⟨RX4, "readLineOf", "(I)V"⟩
def dkwX4_readLineOf_6 : List UInt8 := [182, 0, 132, 79, 42, 89, 180, 0, 54, 4, 96, 181, 0, 54, 177]
abbrev dktX4_readLineOf_6 : List UInt8 := dkwX4_readLineOf_6 ++ []
def dkwX4_readLineOf_5 : List UInt8 := [182, 0, 132, 79, 42, 180, 0, 20, 16, 12, 6, 42, 180, 0, 54, 104, 96, 5, 96, 42, 3, 16, 99]
abbrev dktX4_readLineOf_5 : List UInt8 := dkwX4_readLineOf_5 ++ dktX4_readLineOf_6
def dkwX4_readLineOf_4 : List UInt8 := [96, 3, 96, 27, 79, 42, 180, 0, 20, 16, 12, 6, 42, 180, 0, 54, 104, 96, 4, 96, 42, 3, 8]
abbrev dktX4_readLineOf_4 : List UInt8 := dkwX4_readLineOf_4 ++ dktX4_readLineOf_5
def dkwX4_readLineOf_3 : List UInt8 := [42, 4, 6, 182, 0, 132, 182, 0, 50, 167, 0, 75, 42, 180, 0, 20, 16, 12, 6, 42, 180, 0, 54, 104]
abbrev dktX4_readLineOf_3 : List UInt8 := dkwX4_readLineOf_3 ++ dktX4_readLineOf_4
def dkwX4_readLineOf_2 : List UInt8 := [42, 182, 0, 135, 167, 0, 104, 42, 3, 42, 3, 16, 20, 182, 0, 132, 182, 0, 50, 167, 0, 89, 42, 4]
abbrev dktX4_readLineOf_2 : List UInt8 := dkwX4_readLineOf_2 ++ dktX4_readLineOf_3
def dkwX4_readLineOf_1 : List UInt8 := [170, 0, 0, 0, 0, 0, 63, 0, 0, 0, 4, 0, 0, 0, 6, 0, 0, 0, 27, 0, 0, 0, 34, 0, 0, 0, 49]
abbrev dktX4_readLineOf_1 : List UInt8 := dkwX4_readLineOf_1 ++ dktX4_readLineOf_2
def dkwX4_readLineOf_0 : List UInt8 := [27]
abbrev dktX4_readLineOf_0 : List UInt8 := dkwX4_readLineOf_0 ++ dktX4_readLineOf_1
theorem dksX4_readLineOf_0 : cX4_readLineOf.data.toList.drop 0 = dktX4_readLineOf_0 := by decide +kernel
theorem dksX4_readLineOf_1 : cX4_readLineOf.data.toList.drop 1 = dktX4_readLineOf_1 := dk_seg dksX4_readLineOf_0 1 rfl rfl
theorem dksX4_readLineOf_2 : cX4_readLineOf.data.toList.drop 28 = dktX4_readLineOf_2 := dk_seg dksX4_readLineOf_1 27 rfl rfl
theorem dksX4_readLineOf_3 : cX4_readLineOf.data.toList.drop 52 = dktX4_readLineOf_3 := dk_seg dksX4_readLineOf_2 24 rfl rfl
theorem dksX4_readLineOf_4 : cX4_readLineOf.data.toList.drop 76 = dktX4_readLineOf_4 := dk_seg dksX4_readLineOf_3 24 rfl rfl
theorem dksX4_readLineOf_5 : cX4_readLineOf.data.toList.drop 99 = dktX4_readLineOf_5 := dk_seg dksX4_readLineOf_4 23 rfl rfl
theorem dksX4_readLineOf_6 : cX4_readLineOf.data.toList.drop 122 = dktX4_readLineOf_6 := dk_seg dksX4_readLineOf_5 23 rfl rfl
theorem dX4_readLineOf_0 : decode cX4_readLineOf 0 = .ok (.iload_n 1, 1) := dk_27 (dk_at dksX4_readLineOf_0 0 rfl rfl)
theorem dX4_readLineOf_1 : decode cX4_readLineOf 1 = .ok (.tableswitch 63 4 6 #[27, 34, 49], 27) := by decide +kernel
theorem dX4_readLineOf_28 : decode cX4_readLineOf 28 = .ok (.aload_n 0, 1) := dk_42 (dk_at dksX4_readLineOf_2 0 rfl rfl)
theorem dX4_readLineOf_29 : decode cX4_readLineOf 29 = .ok (.invokevirtual 135, 3) := dk_182 0 135 (dk_at dksX4_readLineOf_2 1 rfl rfl)
theorem dX4_readLineOf_32 : decode cX4_readLineOf 32 = .ok (.goto 104, 3) := dk_167 0 104 (dk_at dksX4_readLineOf_2 4 rfl rfl)
theorem dX4_readLineOf_35 : decode cX4_readLineOf 35 = .ok (.aload_n 0, 1) := dk_42 (dk_at dksX4_readLineOf_2 7 rfl rfl)
theorem dX4_readLineOf_36 : decode cX4_readLineOf 36 = .ok (.iconst 0, 1) := dk_3 (dk_at dksX4_readLineOf_2 8 rfl rfl)
theorem dX4_readLineOf_37 : decode cX4_readLineOf 37 = .ok (.aload_n 0, 1) := dk_42 (dk_at dksX4_readLineOf_2 9 rfl rfl)
theorem dX4_readLineOf_38 : decode cX4_readLineOf 38 = .ok (.iconst 0, 1) := dk_3 (dk_at dksX4_readLineOf_2 10 rfl rfl)
theorem dX4_readLineOf_39 : decode cX4_readLineOf 39 = .ok (.bipush 20, 2) := dk_16 20 (dk_at dksX4_readLineOf_2 11 rfl rfl)
theorem dX4_readLineOf_41 : decode cX4_readLineOf 41 = .ok (.invokevirtual 132, 3) := dk_182 0 132 (dk_at dksX4_readLineOf_2 13 rfl rfl)
theorem dX4_readLineOf_44 : decode cX4_readLineOf 44 = .ok (.invokevirtual 50, 3) := dk_182 0 50 (dk_at dksX4_readLineOf_2 16 rfl rfl)
theorem dX4_readLineOf_47 : decode cX4_readLineOf 47 = .ok (.goto 89, 3) := dk_167 0 89 (dk_at dksX4_readLineOf_2 19 rfl rfl)
theorem dX4_readLineOf_50 : decode cX4_readLineOf 50 = .ok (.aload_n 0, 1) := dk_42 (dk_at dksX4_readLineOf_2 22 rfl rfl)
theorem dX4_readLineOf_51 : decode cX4_readLineOf 51 = .ok (.iconst 1, 1) := dk_4 (dk_at dksX4_readLineOf_2 23 rfl rfl)
theorem dX4_readLineOf_52 : decode cX4_readLineOf 52 = .ok (.aload_n 0, 1) := dk_42 (dk_at dksX4_readLineOf_3 0 rfl rfl)
theorem dX4_readLineOf_53 : decode cX4_readLineOf 53 = .ok (.iconst 1, 1) := dk_4 (dk_at dksX4_readLineOf_3 1 rfl rfl)
theorem dX4_readLineOf_54 : decode cX4_readLineOf 54 = .ok (.iconst 3, 1) := dk_6 (dk_at dksX4_readLineOf_3 2 rfl rfl)
theorem dX4_readLineOf_55 : decode cX4_readLineOf 55 = .ok (.invokevirtual 132, 3) := dk_182 0 132 (dk_at dksX4_readLineOf_3 3 rfl rfl)
theorem dX4_readLineOf_58 : decode cX4_readLineOf 58 = .ok (.invokevirtual 50, 3) := dk_182 0 50 (dk_at dksX4_readLineOf_3 6 rfl rfl)
theorem dX4_readLineOf_61 : decode cX4_readLineOf 61 = .ok (.goto 75, 3) := dk_167 0 75 (dk_at dksX4_readLineOf_3 9 rfl rfl)
theorem dX4_readLineOf_64 : decode cX4_readLineOf 64 = .ok (.aload_n 0, 1) := dk_42 (dk_at dksX4_readLineOf_3 12 rfl rfl)
theorem dX4_readLineOf_65 : decode cX4_readLineOf 65 = .ok (.getfield 20, 3) := dk_180 0 20 (dk_at dksX4_readLineOf_3 13 rfl rfl)
theorem dX4_readLineOf_68 : decode cX4_readLineOf 68 = .ok (.bipush 12, 2) := dk_16 12 (dk_at dksX4_readLineOf_3 16 rfl rfl)
theorem dX4_readLineOf_70 : decode cX4_readLineOf 70 = .ok (.iconst 3, 1) := dk_6 (dk_at dksX4_readLineOf_3 18 rfl rfl)
theorem dX4_readLineOf_71 : decode cX4_readLineOf 71 = .ok (.aload_n 0, 1) := dk_42 (dk_at dksX4_readLineOf_3 19 rfl rfl)
theorem dX4_readLineOf_72 : decode cX4_readLineOf 72 = .ok (.getfield 54, 3) := dk_180 0 54 (dk_at dksX4_readLineOf_3 20 rfl rfl)
theorem dX4_readLineOf_75 : decode cX4_readLineOf 75 = .ok (.imul, 1) := dk_104 (dk_at dksX4_readLineOf_3 23 rfl rfl)
theorem dX4_readLineOf_76 : decode cX4_readLineOf 76 = .ok (.iadd, 1) := dk_96 (dk_at dksX4_readLineOf_4 0 rfl rfl)
theorem dX4_readLineOf_77 : decode cX4_readLineOf 77 = .ok (.iconst 0, 1) := dk_3 (dk_at dksX4_readLineOf_4 1 rfl rfl)
theorem dX4_readLineOf_78 : decode cX4_readLineOf 78 = .ok (.iadd, 1) := dk_96 (dk_at dksX4_readLineOf_4 2 rfl rfl)
theorem dX4_readLineOf_79 : decode cX4_readLineOf 79 = .ok (.iload_n 1, 1) := dk_27 (dk_at dksX4_readLineOf_4 3 rfl rfl)
theorem dX4_readLineOf_80 : decode cX4_readLineOf 80 = .ok (.iastore, 1) := dk_79 (dk_at dksX4_readLineOf_4 4 rfl rfl)
theorem dX4_readLineOf_81 : decode cX4_readLineOf 81 = .ok (.aload_n 0, 1) := dk_42 (dk_at dksX4_readLineOf_4 5 rfl rfl)
theorem dX4_readLineOf_82 : decode cX4_readLineOf 82 = .ok (.getfield 20, 3) := dk_180 0 20 (dk_at dksX4_readLineOf_4 6 rfl rfl)
theorem dX4_readLineOf_85 : decode cX4_readLineOf 85 = .ok (.bipush 12, 2) := dk_16 12 (dk_at dksX4_readLineOf_4 9 rfl rfl)
theorem dX4_readLineOf_87 : decode cX4_readLineOf 87 = .ok (.iconst 3, 1) := dk_6 (dk_at dksX4_readLineOf_4 11 rfl rfl)
theorem dX4_readLineOf_88 : decode cX4_readLineOf 88 = .ok (.aload_n 0, 1) := dk_42 (dk_at dksX4_readLineOf_4 12 rfl rfl)
theorem dX4_readLineOf_89 : decode cX4_readLineOf 89 = .ok (.getfield 54, 3) := dk_180 0 54 (dk_at dksX4_readLineOf_4 13 rfl rfl)
theorem dX4_readLineOf_92 : decode cX4_readLineOf 92 = .ok (.imul, 1) := dk_104 (dk_at dksX4_readLineOf_4 16 rfl rfl)
theorem dX4_readLineOf_93 : decode cX4_readLineOf 93 = .ok (.iadd, 1) := dk_96 (dk_at dksX4_readLineOf_4 17 rfl rfl)
theorem dX4_readLineOf_94 : decode cX4_readLineOf 94 = .ok (.iconst 1, 1) := dk_4 (dk_at dksX4_readLineOf_4 18 rfl rfl)
theorem dX4_readLineOf_95 : decode cX4_readLineOf 95 = .ok (.iadd, 1) := dk_96 (dk_at dksX4_readLineOf_4 19 rfl rfl)
theorem dX4_readLineOf_96 : decode cX4_readLineOf 96 = .ok (.aload_n 0, 1) := dk_42 (dk_at dksX4_readLineOf_4 20 rfl rfl)
theorem dX4_readLineOf_97 : decode cX4_readLineOf 97 = .ok (.iconst 0, 1) := dk_3 (dk_at dksX4_readLineOf_4 21 rfl rfl)
theorem dX4_readLineOf_98 : decode cX4_readLineOf 98 = .ok (.iconst 5, 1) := dk_8 (dk_at dksX4_readLineOf_4 22 rfl rfl)
theorem dX4_readLineOf_99 : decode cX4_readLineOf 99 = .ok (.invokevirtual 132, 3) := dk_182 0 132 (dk_at dksX4_readLineOf_5 0 rfl rfl)
theorem dX4_readLineOf_102 : decode cX4_readLineOf 102 = .ok (.iastore, 1) := dk_79 (dk_at dksX4_readLineOf_5 3 rfl rfl)
theorem dX4_readLineOf_103 : decode cX4_readLineOf 103 = .ok (.aload_n 0, 1) := dk_42 (dk_at dksX4_readLineOf_5 4 rfl rfl)
theorem dX4_readLineOf_104 : decode cX4_readLineOf 104 = .ok (.getfield 20, 3) := dk_180 0 20 (dk_at dksX4_readLineOf_5 5 rfl rfl)
theorem dX4_readLineOf_107 : decode cX4_readLineOf 107 = .ok (.bipush 12, 2) := dk_16 12 (dk_at dksX4_readLineOf_5 8 rfl rfl)
theorem dX4_readLineOf_109 : decode cX4_readLineOf 109 = .ok (.iconst 3, 1) := dk_6 (dk_at dksX4_readLineOf_5 10 rfl rfl)
theorem dX4_readLineOf_110 : decode cX4_readLineOf 110 = .ok (.aload_n 0, 1) := dk_42 (dk_at dksX4_readLineOf_5 11 rfl rfl)
theorem dX4_readLineOf_111 : decode cX4_readLineOf 111 = .ok (.getfield 54, 3) := dk_180 0 54 (dk_at dksX4_readLineOf_5 12 rfl rfl)
theorem dX4_readLineOf_114 : decode cX4_readLineOf 114 = .ok (.imul, 1) := dk_104 (dk_at dksX4_readLineOf_5 15 rfl rfl)
theorem dX4_readLineOf_115 : decode cX4_readLineOf 115 = .ok (.iadd, 1) := dk_96 (dk_at dksX4_readLineOf_5 16 rfl rfl)
theorem dX4_readLineOf_116 : decode cX4_readLineOf 116 = .ok (.iconst 2, 1) := dk_5 (dk_at dksX4_readLineOf_5 17 rfl rfl)
theorem dX4_readLineOf_117 : decode cX4_readLineOf 117 = .ok (.iadd, 1) := dk_96 (dk_at dksX4_readLineOf_5 18 rfl rfl)
theorem dX4_readLineOf_118 : decode cX4_readLineOf 118 = .ok (.aload_n 0, 1) := dk_42 (dk_at dksX4_readLineOf_5 19 rfl rfl)
theorem dX4_readLineOf_119 : decode cX4_readLineOf 119 = .ok (.iconst 0, 1) := dk_3 (dk_at dksX4_readLineOf_5 20 rfl rfl)
theorem dX4_readLineOf_120 : decode cX4_readLineOf 120 = .ok (.bipush 99, 2) := dk_16 99 (dk_at dksX4_readLineOf_5 21 rfl rfl)
theorem dX4_readLineOf_122 : decode cX4_readLineOf 122 = .ok (.invokevirtual 132, 3) := dk_182 0 132 (dk_at dksX4_readLineOf_6 0 rfl rfl)
theorem dX4_readLineOf_125 : decode cX4_readLineOf 125 = .ok (.iastore, 1) := dk_79 (dk_at dksX4_readLineOf_6 3 rfl rfl)
theorem dX4_readLineOf_126 : decode cX4_readLineOf 126 = .ok (.aload_n 0, 1) := dk_42 (dk_at dksX4_readLineOf_6 4 rfl rfl)
theorem dX4_readLineOf_127 : decode cX4_readLineOf 127 = .ok (.dup, 1) := dk_89 (dk_at dksX4_readLineOf_6 5 rfl rfl)
theorem dX4_readLineOf_128 : decode cX4_readLineOf 128 = .ok (.getfield 54, 3) := dk_180 0 54 (dk_at dksX4_readLineOf_6 6 rfl rfl)
theorem dX4_readLineOf_131 : decode cX4_readLineOf 131 = .ok (.iconst 1, 1) := dk_4 (dk_at dksX4_readLineOf_6 9 rfl rfl)
theorem dX4_readLineOf_132 : decode cX4_readLineOf 132 = .ok (.iadd, 1) := dk_96 (dk_at dksX4_readLineOf_6 10 rfl rfl)
theorem dX4_readLineOf_133 : decode cX4_readLineOf 133 = .ok (.putfield 54, 3) := dk_181 0 54 (dk_at dksX4_readLineOf_6 11 rfl rfl)
theorem dX4_readLineOf_136 : decode cX4_readLineOf 136 = .ok (.return_, 1) := dk_177 (dk_at dksX4_readLineOf_6 14 rfl rfl)
abbrev cX4_readBoots : ByteArray := prog_12_method_19_code
def yX4_readBoots : MethodName := ⟨RX4, "readBoots", "()V"⟩
def dkwX4_readBoots_3 : List UInt8 := [160, 0, 8, 16, 252, 167, 0, 4, 28, 79, 42, 89, 180, 0, 58, 4, 96, 181, 0, 58, 177]
abbrev dktX4_readBoots_3 : List UInt8 := dkwX4_readBoots_3 ++ []
def dkwX4_readBoots_2 : List UInt8 := [167, 0, 4, 3, 6, 182, 0, 121, 42, 182, 0, 129, 42, 180, 0, 20, 27, 4, 96, 28, 16, 9]
abbrev dktX4_readBoots_2 : List UInt8 := dkwX4_readBoots_2 ++ dktX4_readBoots_3
def dkwX4_readBoots_1 : List UInt8 := [79, 42, 3, 16, 9, 182, 0, 125, 61, 42, 28, 16, 6, 161, 0, 9, 28, 16, 9, 160, 0, 7, 4]
abbrev dktX4_readBoots_1 : List UInt8 := dkwX4_readBoots_1 ++ dktX4_readBoots_2
def dkwX4_readBoots_0 : List UInt8 := [16, 30, 5, 42, 180, 0, 58, 104, 96, 60, 42, 180, 0, 20, 27, 3, 96, 42, 3, 16, 9, 182, 0, 132]
abbrev dktX4_readBoots_0 : List UInt8 := dkwX4_readBoots_0 ++ dktX4_readBoots_1
theorem dksX4_readBoots_0 : cX4_readBoots.data.toList.drop 0 = dktX4_readBoots_0 := by decide +kernel
theorem dksX4_readBoots_1 : cX4_readBoots.data.toList.drop 24 = dktX4_readBoots_1 := dk_seg dksX4_readBoots_0 24 rfl rfl
theorem dksX4_readBoots_2 : cX4_readBoots.data.toList.drop 47 = dktX4_readBoots_2 := dk_seg dksX4_readBoots_1 23 rfl rfl
theorem dksX4_readBoots_3 : cX4_readBoots.data.toList.drop 69 = dktX4_readBoots_3 := dk_seg dksX4_readBoots_2 22 rfl rfl
theorem dX4_readBoots_0 : decode cX4_readBoots 0 = .ok (.bipush 30, 2) := dk_16 30 (dk_at dksX4_readBoots_0 0 rfl rfl)
theorem dX4_readBoots_2 : decode cX4_readBoots 2 = .ok (.iconst 2, 1) := dk_5 (dk_at dksX4_readBoots_0 2 rfl rfl)
theorem dX4_readBoots_3 : decode cX4_readBoots 3 = .ok (.aload_n 0, 1) := dk_42 (dk_at dksX4_readBoots_0 3 rfl rfl)
theorem dX4_readBoots_4 : decode cX4_readBoots 4 = .ok (.getfield 58, 3) := dk_180 0 58 (dk_at dksX4_readBoots_0 4 rfl rfl)
theorem dX4_readBoots_7 : decode cX4_readBoots 7 = .ok (.imul, 1) := dk_104 (dk_at dksX4_readBoots_0 7 rfl rfl)
theorem dX4_readBoots_8 : decode cX4_readBoots 8 = .ok (.iadd, 1) := dk_96 (dk_at dksX4_readBoots_0 8 rfl rfl)
theorem dX4_readBoots_9 : decode cX4_readBoots 9 = .ok (.istore_n 1, 1) := dk_60 (dk_at dksX4_readBoots_0 9 rfl rfl)
theorem dX4_readBoots_10 : decode cX4_readBoots 10 = .ok (.aload_n 0, 1) := dk_42 (dk_at dksX4_readBoots_0 10 rfl rfl)
theorem dX4_readBoots_11 : decode cX4_readBoots 11 = .ok (.getfield 20, 3) := dk_180 0 20 (dk_at dksX4_readBoots_0 11 rfl rfl)
theorem dX4_readBoots_14 : decode cX4_readBoots 14 = .ok (.iload_n 1, 1) := dk_27 (dk_at dksX4_readBoots_0 14 rfl rfl)
theorem dX4_readBoots_15 : decode cX4_readBoots 15 = .ok (.iconst 0, 1) := dk_3 (dk_at dksX4_readBoots_0 15 rfl rfl)
theorem dX4_readBoots_16 : decode cX4_readBoots 16 = .ok (.iadd, 1) := dk_96 (dk_at dksX4_readBoots_0 16 rfl rfl)
theorem dX4_readBoots_17 : decode cX4_readBoots 17 = .ok (.aload_n 0, 1) := dk_42 (dk_at dksX4_readBoots_0 17 rfl rfl)
theorem dX4_readBoots_18 : decode cX4_readBoots 18 = .ok (.iconst 0, 1) := dk_3 (dk_at dksX4_readBoots_0 18 rfl rfl)
theorem dX4_readBoots_19 : decode cX4_readBoots 19 = .ok (.bipush 9, 2) := dk_16 9 (dk_at dksX4_readBoots_0 19 rfl rfl)
theorem dX4_readBoots_21 : decode cX4_readBoots 21 = .ok (.invokevirtual 132, 3) := dk_182 0 132 (dk_at dksX4_readBoots_0 21 rfl rfl)
theorem dX4_readBoots_24 : decode cX4_readBoots 24 = .ok (.iastore, 1) := dk_79 (dk_at dksX4_readBoots_1 0 rfl rfl)
theorem dX4_readBoots_25 : decode cX4_readBoots 25 = .ok (.aload_n 0, 1) := dk_42 (dk_at dksX4_readBoots_1 1 rfl rfl)
theorem dX4_readBoots_26 : decode cX4_readBoots 26 = .ok (.iconst 0, 1) := dk_3 (dk_at dksX4_readBoots_1 2 rfl rfl)
theorem dX4_readBoots_27 : decode cX4_readBoots 27 = .ok (.bipush 9, 2) := dk_16 9 (dk_at dksX4_readBoots_1 3 rfl rfl)
theorem dX4_readBoots_29 : decode cX4_readBoots 29 = .ok (.invokevirtual 125, 3) := dk_182 0 125 (dk_at dksX4_readBoots_1 5 rfl rfl)
theorem dX4_readBoots_32 : decode cX4_readBoots 32 = .ok (.istore_n 2, 1) := dk_61 (dk_at dksX4_readBoots_1 8 rfl rfl)
theorem dX4_readBoots_33 : decode cX4_readBoots 33 = .ok (.aload_n 0, 1) := dk_42 (dk_at dksX4_readBoots_1 9 rfl rfl)
theorem dX4_readBoots_34 : decode cX4_readBoots 34 = .ok (.iload_n 2, 1) := dk_28 (dk_at dksX4_readBoots_1 10 rfl rfl)
theorem dX4_readBoots_35 : decode cX4_readBoots 35 = .ok (.bipush 6, 2) := dk_16 6 (dk_at dksX4_readBoots_1 11 rfl rfl)
theorem dX4_readBoots_37 : decode cX4_readBoots 37 = .ok (.if_icmp .lt 9, 3) := dk_161 0 9 (dk_at dksX4_readBoots_1 13 rfl rfl)
theorem dX4_readBoots_40 : decode cX4_readBoots 40 = .ok (.iload_n 2, 1) := dk_28 (dk_at dksX4_readBoots_1 16 rfl rfl)
theorem dX4_readBoots_41 : decode cX4_readBoots 41 = .ok (.bipush 9, 2) := dk_16 9 (dk_at dksX4_readBoots_1 17 rfl rfl)
theorem dX4_readBoots_43 : decode cX4_readBoots 43 = .ok (.if_icmp .ne 7, 3) := dk_160 0 7 (dk_at dksX4_readBoots_1 19 rfl rfl)
theorem dX4_readBoots_46 : decode cX4_readBoots 46 = .ok (.iconst 1, 1) := dk_4 (dk_at dksX4_readBoots_1 22 rfl rfl)
theorem dX4_readBoots_47 : decode cX4_readBoots 47 = .ok (.goto 4, 3) := dk_167 0 4 (dk_at dksX4_readBoots_2 0 rfl rfl)
theorem dX4_readBoots_50 : decode cX4_readBoots 50 = .ok (.iconst 0, 1) := dk_3 (dk_at dksX4_readBoots_2 3 rfl rfl)
theorem dX4_readBoots_51 : decode cX4_readBoots 51 = .ok (.iconst 3, 1) := dk_6 (dk_at dksX4_readBoots_2 4 rfl rfl)
theorem dX4_readBoots_52 : decode cX4_readBoots 52 = .ok (.invokevirtual 121, 3) := dk_182 0 121 (dk_at dksX4_readBoots_2 5 rfl rfl)
theorem dX4_readBoots_55 : decode cX4_readBoots 55 = .ok (.aload_n 0, 1) := dk_42 (dk_at dksX4_readBoots_2 8 rfl rfl)
theorem dX4_readBoots_56 : decode cX4_readBoots 56 = .ok (.invokevirtual 129, 3) := dk_182 0 129 (dk_at dksX4_readBoots_2 9 rfl rfl)
theorem dX4_readBoots_59 : decode cX4_readBoots 59 = .ok (.aload_n 0, 1) := dk_42 (dk_at dksX4_readBoots_2 12 rfl rfl)
theorem dX4_readBoots_60 : decode cX4_readBoots 60 = .ok (.getfield 20, 3) := dk_180 0 20 (dk_at dksX4_readBoots_2 13 rfl rfl)
theorem dX4_readBoots_63 : decode cX4_readBoots 63 = .ok (.iload_n 1, 1) := dk_27 (dk_at dksX4_readBoots_2 16 rfl rfl)
theorem dX4_readBoots_64 : decode cX4_readBoots 64 = .ok (.iconst 1, 1) := dk_4 (dk_at dksX4_readBoots_2 17 rfl rfl)
theorem dX4_readBoots_65 : decode cX4_readBoots 65 = .ok (.iadd, 1) := dk_96 (dk_at dksX4_readBoots_2 18 rfl rfl)
theorem dX4_readBoots_66 : decode cX4_readBoots 66 = .ok (.iload_n 2, 1) := dk_28 (dk_at dksX4_readBoots_2 19 rfl rfl)
theorem dX4_readBoots_67 : decode cX4_readBoots 67 = .ok (.bipush 9, 2) := dk_16 9 (dk_at dksX4_readBoots_2 20 rfl rfl)
theorem dX4_readBoots_69 : decode cX4_readBoots 69 = .ok (.if_icmp .ne 8, 3) := dk_160 0 8 (dk_at dksX4_readBoots_3 0 rfl rfl)
theorem dX4_readBoots_72 : decode cX4_readBoots 72 = .ok (.bipush (-4), 2) := dk_16 252 (dk_at dksX4_readBoots_3 3 rfl rfl)
theorem dX4_readBoots_74 : decode cX4_readBoots 74 = .ok (.goto 4, 3) := dk_167 0 4 (dk_at dksX4_readBoots_3 5 rfl rfl)
theorem dX4_readBoots_77 : decode cX4_readBoots 77 = .ok (.iload_n 2, 1) := dk_28 (dk_at dksX4_readBoots_3 8 rfl rfl)
theorem dX4_readBoots_78 : decode cX4_readBoots 78 = .ok (.iastore, 1) := dk_79 (dk_at dksX4_readBoots_3 9 rfl rfl)
theorem dX4_readBoots_79 : decode cX4_readBoots 79 = .ok (.aload_n 0, 1) := dk_42 (dk_at dksX4_readBoots_3 10 rfl rfl)
theorem dX4_readBoots_80 : decode cX4_readBoots 80 = .ok (.dup, 1) := dk_89 (dk_at dksX4_readBoots_3 11 rfl rfl)
theorem dX4_readBoots_81 : decode cX4_readBoots 81 = .ok (.getfield 58, 3) := dk_180 0 58 (dk_at dksX4_readBoots_3 12 rfl rfl)
theorem dX4_readBoots_84 : decode cX4_readBoots 84 = .ok (.iconst 1, 1) := dk_4 (dk_at dksX4_readBoots_3 15 rfl rfl)
theorem dX4_readBoots_85 : decode cX4_readBoots 85 = .ok (.iadd, 1) := dk_96 (dk_at dksX4_readBoots_3 16 rfl rfl)
theorem dX4_readBoots_86 : decode cX4_readBoots 86 = .ok (.putfield 58, 3) := dk_181 0 58 (dk_at dksX4_readBoots_3 17 rfl rfl)
theorem dX4_readBoots_89 : decode cX4_readBoots 89 = .ok (.return_, 1) := dk_177 (dk_at dksX4_readBoots_3 20 rfl rfl)
abbrev cX4_readNumber : ByteArray := prog_12_method_18_code
def yX4_readNumber : MethodName := ⟨RX4, "readNumber", "(II)I"⟩
def dkwX4_readNumber_0 : List UInt8 := [42, 27, 28, 182, 0, 125, 62, 42, 182, 0, 129, 29, 172]
abbrev dktX4_readNumber_0 : List UInt8 := dkwX4_readNumber_0 ++ []
theorem dksX4_readNumber_0 : cX4_readNumber.data.toList.drop 0 = dktX4_readNumber_0 := by decide +kernel
theorem dX4_readNumber_0 : decode cX4_readNumber 0 = .ok (.aload_n 0, 1) := dk_42 (dk_at dksX4_readNumber_0 0 rfl rfl)
theorem dX4_readNumber_1 : decode cX4_readNumber 1 = .ok (.iload_n 1, 1) := dk_27 (dk_at dksX4_readNumber_0 1 rfl rfl)
theorem dX4_readNumber_2 : decode cX4_readNumber 2 = .ok (.iload_n 2, 1) := dk_28 (dk_at dksX4_readNumber_0 2 rfl rfl)
theorem dX4_readNumber_3 : decode cX4_readNumber 3 = .ok (.invokevirtual 125, 3) := dk_182 0 125 (dk_at dksX4_readNumber_0 3 rfl rfl)
theorem dX4_readNumber_6 : decode cX4_readNumber 6 = .ok (.istore_n 3, 1) := dk_62 (dk_at dksX4_readNumber_0 6 rfl rfl)
theorem dX4_readNumber_7 : decode cX4_readNumber 7 = .ok (.aload_n 0, 1) := dk_42 (dk_at dksX4_readNumber_0 7 rfl rfl)
theorem dX4_readNumber_8 : decode cX4_readNumber 8 = .ok (.invokevirtual 129, 3) := dk_182 0 129 (dk_at dksX4_readNumber_0 8 rfl rfl)
theorem dX4_readNumber_11 : decode cX4_readNumber 11 = .ok (.iload_n 3, 1) := dk_29 (dk_at dksX4_readNumber_0 11 rfl rfl)
theorem dX4_readNumber_12 : decode cX4_readNumber 12 = .ok (.ireturn, 1) := dk_172 (dk_at dksX4_readNumber_0 12 rfl rfl)
abbrev cX4_looked : ByteArray := prog_12_method_17_code
def yX4_looked : MethodName := ⟨RX4, "looked", "(II)I"⟩
def dkwX4_looked_2 : List UInt8 := [182, 0, 121, 42, 180, 0, 83, 154, 0, 10, 42, 180, 0, 118, 167, 0, 4, 3, 172]
abbrev dktX4_looked_2 : List UInt8 := dkwX4_looked_2 ++ []
def dkwX4_looked_1 : List UInt8 := [182, 0, 121, 42, 180, 0, 83, 154, 0, 20, 42, 42, 180, 0, 118, 133, 27, 133, 28, 133, 184, 0, 76, 6]
abbrev dktX4_looked_1 : List UInt8 := dkwX4_looked_1 ++ dktX4_looked_2
def dkwX4_looked_0 : List UInt8 := [42, 180, 0, 83, 154, 0, 21, 42, 42, 180, 0, 107, 5, 160, 0, 7, 4, 167, 0, 4, 3, 5]
abbrev dktX4_looked_0 : List UInt8 := dkwX4_looked_0 ++ dktX4_looked_1
theorem dksX4_looked_0 : cX4_looked.data.toList.drop 0 = dktX4_looked_0 := by decide +kernel
theorem dksX4_looked_1 : cX4_looked.data.toList.drop 22 = dktX4_looked_1 := dk_seg dksX4_looked_0 22 rfl rfl
theorem dksX4_looked_2 : cX4_looked.data.toList.drop 46 = dktX4_looked_2 := dk_seg dksX4_looked_1 24 rfl rfl
theorem dX4_looked_0 : decode cX4_looked 0 = .ok (.aload_n 0, 1) := dk_42 (dk_at dksX4_looked_0 0 rfl rfl)
theorem dX4_looked_1 : decode cX4_looked 1 = .ok (.getfield 83, 3) := dk_180 0 83 (dk_at dksX4_looked_0 1 rfl rfl)
theorem dX4_looked_4 : decode cX4_looked 4 = .ok (.ifCond .ne 21, 3) := dk_154 0 21 (dk_at dksX4_looked_0 4 rfl rfl)
theorem dX4_looked_7 : decode cX4_looked 7 = .ok (.aload_n 0, 1) := dk_42 (dk_at dksX4_looked_0 7 rfl rfl)
theorem dX4_looked_8 : decode cX4_looked 8 = .ok (.aload_n 0, 1) := dk_42 (dk_at dksX4_looked_0 8 rfl rfl)
theorem dX4_looked_9 : decode cX4_looked 9 = .ok (.getfield 107, 3) := dk_180 0 107 (dk_at dksX4_looked_0 9 rfl rfl)
theorem dX4_looked_12 : decode cX4_looked 12 = .ok (.iconst 2, 1) := dk_5 (dk_at dksX4_looked_0 12 rfl rfl)
theorem dX4_looked_13 : decode cX4_looked 13 = .ok (.if_icmp .ne 7, 3) := dk_160 0 7 (dk_at dksX4_looked_0 13 rfl rfl)
theorem dX4_looked_16 : decode cX4_looked 16 = .ok (.iconst 1, 1) := dk_4 (dk_at dksX4_looked_0 16 rfl rfl)
theorem dX4_looked_17 : decode cX4_looked 17 = .ok (.goto 4, 3) := dk_167 0 4 (dk_at dksX4_looked_0 17 rfl rfl)
theorem dX4_looked_20 : decode cX4_looked 20 = .ok (.iconst 0, 1) := dk_3 (dk_at dksX4_looked_0 20 rfl rfl)
theorem dX4_looked_21 : decode cX4_looked 21 = .ok (.iconst 2, 1) := dk_5 (dk_at dksX4_looked_0 21 rfl rfl)
theorem dX4_looked_22 : decode cX4_looked 22 = .ok (.invokevirtual 121, 3) := dk_182 0 121 (dk_at dksX4_looked_1 0 rfl rfl)
theorem dX4_looked_25 : decode cX4_looked 25 = .ok (.aload_n 0, 1) := dk_42 (dk_at dksX4_looked_1 3 rfl rfl)
theorem dX4_looked_26 : decode cX4_looked 26 = .ok (.getfield 83, 3) := dk_180 0 83 (dk_at dksX4_looked_1 4 rfl rfl)
theorem dX4_looked_29 : decode cX4_looked 29 = .ok (.ifCond .ne 20, 3) := dk_154 0 20 (dk_at dksX4_looked_1 7 rfl rfl)
theorem dX4_looked_32 : decode cX4_looked 32 = .ok (.aload_n 0, 1) := dk_42 (dk_at dksX4_looked_1 10 rfl rfl)
theorem dX4_looked_33 : decode cX4_looked 33 = .ok (.aload_n 0, 1) := dk_42 (dk_at dksX4_looked_1 11 rfl rfl)
theorem dX4_looked_34 : decode cX4_looked 34 = .ok (.getfield 118, 3) := dk_180 0 118 (dk_at dksX4_looked_1 12 rfl rfl)
theorem dX4_looked_37 : decode cX4_looked 37 = .ok (.i2l, 1) := dk_133 (dk_at dksX4_looked_1 15 rfl rfl)
theorem dX4_looked_38 : decode cX4_looked 38 = .ok (.iload_n 1, 1) := dk_27 (dk_at dksX4_looked_1 16 rfl rfl)
theorem dX4_looked_39 : decode cX4_looked 39 = .ok (.i2l, 1) := dk_133 (dk_at dksX4_looked_1 17 rfl rfl)
theorem dX4_looked_40 : decode cX4_looked 40 = .ok (.iload_n 2, 1) := dk_28 (dk_at dksX4_looked_1 18 rfl rfl)
theorem dX4_looked_41 : decode cX4_looked 41 = .ok (.i2l, 1) := dk_133 (dk_at dksX4_looked_1 19 rfl rfl)
theorem dX4_looked_42 : decode cX4_looked 42 = .ok (.invokestatic 76, 3) := dk_184 0 76 (dk_at dksX4_looked_1 20 rfl rfl)
theorem dX4_looked_45 : decode cX4_looked 45 = .ok (.iconst 3, 1) := dk_6 (dk_at dksX4_looked_1 23 rfl rfl)
theorem dX4_looked_46 : decode cX4_looked 46 = .ok (.invokevirtual 121, 3) := dk_182 0 121 (dk_at dksX4_looked_2 0 rfl rfl)
theorem dX4_looked_49 : decode cX4_looked 49 = .ok (.aload_n 0, 1) := dk_42 (dk_at dksX4_looked_2 3 rfl rfl)
theorem dX4_looked_50 : decode cX4_looked 50 = .ok (.getfield 83, 3) := dk_180 0 83 (dk_at dksX4_looked_2 4 rfl rfl)
theorem dX4_looked_53 : decode cX4_looked 53 = .ok (.ifCond .ne 10, 3) := dk_154 0 10 (dk_at dksX4_looked_2 7 rfl rfl)
theorem dX4_looked_56 : decode cX4_looked 56 = .ok (.aload_n 0, 1) := dk_42 (dk_at dksX4_looked_2 10 rfl rfl)
theorem dX4_looked_57 : decode cX4_looked 57 = .ok (.getfield 118, 3) := dk_180 0 118 (dk_at dksX4_looked_2 11 rfl rfl)
theorem dX4_looked_60 : decode cX4_looked 60 = .ok (.goto 4, 3) := dk_167 0 4 (dk_at dksX4_looked_2 14 rfl rfl)
theorem dX4_looked_63 : decode cX4_looked 63 = .ok (.iconst 0, 1) := dk_3 (dk_at dksX4_looked_2 17 rfl rfl)
theorem dX4_looked_64 : decode cX4_looked 64 = .ok (.ireturn, 1) := dk_172 (dk_at dksX4_looked_2 18 rfl rfl)
abbrev cX4_fault : ByteArray := prog_12_method_23_code
def yX4_fault : MethodName := ⟨RX4, "fault", "()I"⟩
theorem dX4_fault_0 : decode cX4_fault 0 = .ok (.aload_n 0, 1) := by decide +kernel
theorem dX4_fault_1 : decode cX4_fault 1 = .ok (.getfield 83, 3) := by decide +kernel
theorem dX4_fault_4 : decode cX4_fault 4 = .ok (.ireturn, 1) := by decide +kernel
abbrev cX4_rule : ByteArray := prog_12_method_44_code
def yX4_rule : MethodName := ⟨RX4, "rule", "(I)I"⟩
def dkwX4_rule_4 : List UInt8 := [172, 42, 182, 0, 206, 172, 2, 172]
abbrev dktX4_rule_4 : List UInt8 := dkwX4_rule_4 ++ []
def dkwX4_rule_3 : List UInt8 := [42, 180, 0, 68, 172, 42, 180, 0, 71, 172, 42, 180, 0, 7, 16, 38, 46, 172, 42, 182, 0, 203, 172, 28]
abbrev dktX4_rule_3 : List UInt8 := dkwX4_rule_3 ++ dktX4_rule_4
def dkwX4_rule_2 : List UInt8 := [170, 0, 0, 0, 0, 0, 0, 70, 0, 0, 0, 0, 0, 0, 0, 5, 0, 0, 0, 40, 0, 0, 0, 45, 0, 0, 0, 50, 0, 0, 0, 58, 0, 0, 0, 63, 0, 0, 0, 65]
abbrev dktX4_rule_2 : List UInt8 := dkwX4_rule_2 ++ dktX4_rule_3
def dkwX4_rule_1 : List UInt8 := [154, 0, 7, 4, 167, 0, 4, 3, 184, 0, 169, 29, 120, 128, 61, 132, 3, 1, 167, 255, 224, 27]
abbrev dktX4_rule_1 : List UInt8 := dkwX4_rule_1 ++ dktX4_rule_2
def dkwX4_rule_0 : List UInt8 := [42, 182, 0, 200, 3, 61, 3, 62, 29, 42, 180, 0, 68, 162, 0, 30, 28, 42, 29, 182, 0, 166]
abbrev dktX4_rule_0 : List UInt8 := dkwX4_rule_0 ++ dktX4_rule_1
theorem dksX4_rule_0 : cX4_rule.data.toList.drop 0 = dktX4_rule_0 := by decide +kernel
theorem dksX4_rule_1 : cX4_rule.data.toList.drop 22 = dktX4_rule_1 := dk_seg dksX4_rule_0 22 rfl rfl
theorem dksX4_rule_2 : cX4_rule.data.toList.drop 44 = dktX4_rule_2 := dk_seg dksX4_rule_1 22 rfl rfl
theorem dksX4_rule_3 : cX4_rule.data.toList.drop 84 = dktX4_rule_3 := dk_seg dksX4_rule_2 40 rfl rfl
theorem dksX4_rule_4 : cX4_rule.data.toList.drop 108 = dktX4_rule_4 := dk_seg dksX4_rule_3 24 rfl rfl
theorem dX4_rule_0 : decode cX4_rule 0 = .ok (.aload_n 0, 1) := dk_42 (dk_at dksX4_rule_0 0 rfl rfl)
theorem dX4_rule_1 : decode cX4_rule 1 = .ok (.invokevirtual 200, 3) := dk_182 0 200 (dk_at dksX4_rule_0 1 rfl rfl)
theorem dX4_rule_4 : decode cX4_rule 4 = .ok (.iconst 0, 1) := dk_3 (dk_at dksX4_rule_0 4 rfl rfl)
theorem dX4_rule_5 : decode cX4_rule 5 = .ok (.istore_n 2, 1) := dk_61 (dk_at dksX4_rule_0 5 rfl rfl)
theorem dX4_rule_6 : decode cX4_rule 6 = .ok (.iconst 0, 1) := dk_3 (dk_at dksX4_rule_0 6 rfl rfl)
theorem dX4_rule_7 : decode cX4_rule 7 = .ok (.istore_n 3, 1) := dk_62 (dk_at dksX4_rule_0 7 rfl rfl)
theorem dX4_rule_8 : decode cX4_rule 8 = .ok (.iload_n 3, 1) := dk_29 (dk_at dksX4_rule_0 8 rfl rfl)
theorem dX4_rule_9 : decode cX4_rule 9 = .ok (.aload_n 0, 1) := dk_42 (dk_at dksX4_rule_0 9 rfl rfl)
theorem dX4_rule_10 : decode cX4_rule 10 = .ok (.getfield 68, 3) := dk_180 0 68 (dk_at dksX4_rule_0 10 rfl rfl)
theorem dX4_rule_13 : decode cX4_rule 13 = .ok (.if_icmp .ge 30, 3) := dk_162 0 30 (dk_at dksX4_rule_0 13 rfl rfl)
theorem dX4_rule_16 : decode cX4_rule 16 = .ok (.iload_n 2, 1) := dk_28 (dk_at dksX4_rule_0 16 rfl rfl)
theorem dX4_rule_17 : decode cX4_rule 17 = .ok (.aload_n 0, 1) := dk_42 (dk_at dksX4_rule_0 17 rfl rfl)
theorem dX4_rule_18 : decode cX4_rule 18 = .ok (.iload_n 3, 1) := dk_29 (dk_at dksX4_rule_0 18 rfl rfl)
theorem dX4_rule_19 : decode cX4_rule 19 = .ok (.invokevirtual 166, 3) := dk_182 0 166 (dk_at dksX4_rule_0 19 rfl rfl)
theorem dX4_rule_22 : decode cX4_rule 22 = .ok (.ifCond .ne 7, 3) := dk_154 0 7 (dk_at dksX4_rule_1 0 rfl rfl)
theorem dX4_rule_25 : decode cX4_rule 25 = .ok (.iconst 1, 1) := dk_4 (dk_at dksX4_rule_1 3 rfl rfl)
theorem dX4_rule_26 : decode cX4_rule 26 = .ok (.goto 4, 3) := dk_167 0 4 (dk_at dksX4_rule_1 4 rfl rfl)
theorem dX4_rule_29 : decode cX4_rule 29 = .ok (.iconst 0, 1) := dk_3 (dk_at dksX4_rule_1 7 rfl rfl)
theorem dX4_rule_30 : decode cX4_rule 30 = .ok (.invokestatic 169, 3) := dk_184 0 169 (dk_at dksX4_rule_1 8 rfl rfl)
theorem dX4_rule_33 : decode cX4_rule 33 = .ok (.iload_n 3, 1) := dk_29 (dk_at dksX4_rule_1 11 rfl rfl)
theorem dX4_rule_34 : decode cX4_rule 34 = .ok (.ishl, 1) := dk_120 (dk_at dksX4_rule_1 12 rfl rfl)
theorem dX4_rule_35 : decode cX4_rule 35 = .ok (.ior, 1) := dk_128 (dk_at dksX4_rule_1 13 rfl rfl)
theorem dX4_rule_36 : decode cX4_rule 36 = .ok (.istore_n 2, 1) := dk_61 (dk_at dksX4_rule_1 14 rfl rfl)
theorem dX4_rule_37 : decode cX4_rule 37 = .ok (.iinc 3 1, 3) := dk_132 3 1 (dk_at dksX4_rule_1 15 rfl rfl)
theorem dX4_rule_40 : decode cX4_rule 40 = .ok (.goto (-32), 3) := dk_167 255 224 (dk_at dksX4_rule_1 18 rfl rfl)
theorem dX4_rule_43 : decode cX4_rule 43 = .ok (.iload_n 1, 1) := dk_27 (dk_at dksX4_rule_1 21 rfl rfl)
theorem dX4_rule_44 : decode cX4_rule 44 = .ok (.tableswitch 70 0 5 #[40, 45, 50, 58, 63, 65], 40) := by decide +kernel
theorem dX4_rule_84 : decode cX4_rule 84 = .ok (.aload_n 0, 1) := dk_42 (dk_at dksX4_rule_3 0 rfl rfl)
theorem dX4_rule_85 : decode cX4_rule 85 = .ok (.getfield 68, 3) := dk_180 0 68 (dk_at dksX4_rule_3 1 rfl rfl)
theorem dX4_rule_88 : decode cX4_rule 88 = .ok (.ireturn, 1) := dk_172 (dk_at dksX4_rule_3 4 rfl rfl)
theorem dX4_rule_89 : decode cX4_rule 89 = .ok (.aload_n 0, 1) := dk_42 (dk_at dksX4_rule_3 5 rfl rfl)
theorem dX4_rule_90 : decode cX4_rule 90 = .ok (.getfield 71, 3) := dk_180 0 71 (dk_at dksX4_rule_3 6 rfl rfl)
theorem dX4_rule_93 : decode cX4_rule 93 = .ok (.ireturn, 1) := dk_172 (dk_at dksX4_rule_3 9 rfl rfl)
theorem dX4_rule_94 : decode cX4_rule 94 = .ok (.aload_n 0, 1) := dk_42 (dk_at dksX4_rule_3 10 rfl rfl)
theorem dX4_rule_95 : decode cX4_rule 95 = .ok (.getfield 7, 3) := dk_180 0 7 (dk_at dksX4_rule_3 11 rfl rfl)
theorem dX4_rule_98 : decode cX4_rule 98 = .ok (.bipush 38, 2) := dk_16 38 (dk_at dksX4_rule_3 14 rfl rfl)
theorem dX4_rule_100 : decode cX4_rule 100 = .ok (.iaload, 1) := dk_46 (dk_at dksX4_rule_3 16 rfl rfl)
theorem dX4_rule_101 : decode cX4_rule 101 = .ok (.ireturn, 1) := dk_172 (dk_at dksX4_rule_3 17 rfl rfl)
theorem dX4_rule_102 : decode cX4_rule 102 = .ok (.aload_n 0, 1) := dk_42 (dk_at dksX4_rule_3 18 rfl rfl)
theorem dX4_rule_103 : decode cX4_rule 103 = .ok (.invokevirtual 203, 3) := dk_182 0 203 (dk_at dksX4_rule_3 19 rfl rfl)
theorem dX4_rule_106 : decode cX4_rule 106 = .ok (.ireturn, 1) := dk_172 (dk_at dksX4_rule_3 22 rfl rfl)
theorem dX4_rule_107 : decode cX4_rule 107 = .ok (.iload_n 2, 1) := dk_28 (dk_at dksX4_rule_3 23 rfl rfl)
theorem dX4_rule_108 : decode cX4_rule 108 = .ok (.ireturn, 1) := dk_172 (dk_at dksX4_rule_4 0 rfl rfl)
theorem dX4_rule_109 : decode cX4_rule 109 = .ok (.aload_n 0, 1) := dk_42 (dk_at dksX4_rule_4 1 rfl rfl)
theorem dX4_rule_110 : decode cX4_rule 110 = .ok (.invokevirtual 206, 3) := dk_182 0 206 (dk_at dksX4_rule_4 2 rfl rfl)
theorem dX4_rule_113 : decode cX4_rule 113 = .ok (.ireturn, 1) := dk_172 (dk_at dksX4_rule_4 5 rfl rfl)
theorem dX4_rule_114 : decode cX4_rule 114 = .ok (.iconst (-1), 1) := dk_2 (dk_at dksX4_rule_4 6 rfl rfl)
theorem dX4_rule_115 : decode cX4_rule 115 = .ok (.ireturn, 1) := dk_172 (dk_at dksX4_rule_4 7 rfl rfl)
abbrev cX4_starts : ByteArray := prog_12_method_28_code
def yX4_starts : MethodName := ⟨RX4, "starts", "()V"⟩
def dkwX4_starts_1 : List UInt8 := [167, 255, 235, 42, 16, 252, 181, 0, 151, 42, 3, 181, 0, 154, 177]
abbrev dktX4_starts_1 : List UInt8 := dkwX4_starts_1 ++ []
def dkwX4_starts_0 : List UInt8 := [3, 60, 27, 16, 58, 162, 0, 21, 42, 180, 0, 13, 27, 42, 180, 0, 7, 27, 46, 79, 132, 1, 1]
abbrev dktX4_starts_0 : List UInt8 := dkwX4_starts_0 ++ dktX4_starts_1
theorem dksX4_starts_0 : cX4_starts.data.toList.drop 0 = dktX4_starts_0 := by decide +kernel
theorem dksX4_starts_1 : cX4_starts.data.toList.drop 23 = dktX4_starts_1 := dk_seg dksX4_starts_0 23 rfl rfl
theorem dX4_starts_0 : decode cX4_starts 0 = .ok (.iconst 0, 1) := dk_3 (dk_at dksX4_starts_0 0 rfl rfl)
theorem dX4_starts_1 : decode cX4_starts 1 = .ok (.istore_n 1, 1) := dk_60 (dk_at dksX4_starts_0 1 rfl rfl)
theorem dX4_starts_2 : decode cX4_starts 2 = .ok (.iload_n 1, 1) := dk_27 (dk_at dksX4_starts_0 2 rfl rfl)
theorem dX4_starts_3 : decode cX4_starts 3 = .ok (.bipush 58, 2) := dk_16 58 (dk_at dksX4_starts_0 3 rfl rfl)
theorem dX4_starts_5 : decode cX4_starts 5 = .ok (.if_icmp .ge 21, 3) := dk_162 0 21 (dk_at dksX4_starts_0 5 rfl rfl)
theorem dX4_starts_8 : decode cX4_starts 8 = .ok (.aload_n 0, 1) := dk_42 (dk_at dksX4_starts_0 8 rfl rfl)
theorem dX4_starts_9 : decode cX4_starts 9 = .ok (.getfield 13, 3) := dk_180 0 13 (dk_at dksX4_starts_0 9 rfl rfl)
theorem dX4_starts_12 : decode cX4_starts 12 = .ok (.iload_n 1, 1) := dk_27 (dk_at dksX4_starts_0 12 rfl rfl)
theorem dX4_starts_13 : decode cX4_starts 13 = .ok (.aload_n 0, 1) := dk_42 (dk_at dksX4_starts_0 13 rfl rfl)
theorem dX4_starts_14 : decode cX4_starts 14 = .ok (.getfield 7, 3) := dk_180 0 7 (dk_at dksX4_starts_0 14 rfl rfl)
theorem dX4_starts_17 : decode cX4_starts 17 = .ok (.iload_n 1, 1) := dk_27 (dk_at dksX4_starts_0 17 rfl rfl)
theorem dX4_starts_18 : decode cX4_starts 18 = .ok (.iaload, 1) := dk_46 (dk_at dksX4_starts_0 18 rfl rfl)
theorem dX4_starts_19 : decode cX4_starts 19 = .ok (.iastore, 1) := dk_79 (dk_at dksX4_starts_0 19 rfl rfl)
theorem dX4_starts_20 : decode cX4_starts 20 = .ok (.iinc 1 1, 3) := dk_132 1 1 (dk_at dksX4_starts_0 20 rfl rfl)
theorem dX4_starts_23 : decode cX4_starts 23 = .ok (.goto (-21), 3) := dk_167 255 235 (dk_at dksX4_starts_1 0 rfl rfl)
theorem dX4_starts_26 : decode cX4_starts 26 = .ok (.aload_n 0, 1) := dk_42 (dk_at dksX4_starts_1 3 rfl rfl)
theorem dX4_starts_27 : decode cX4_starts 27 = .ok (.bipush (-4), 2) := dk_16 252 (dk_at dksX4_starts_1 4 rfl rfl)
theorem dX4_starts_29 : decode cX4_starts 29 = .ok (.putfield 151, 3) := dk_181 0 151 (dk_at dksX4_starts_1 6 rfl rfl)
theorem dX4_starts_32 : decode cX4_starts 32 = .ok (.aload_n 0, 1) := dk_42 (dk_at dksX4_starts_1 9 rfl rfl)
theorem dX4_starts_33 : decode cX4_starts 33 = .ok (.iconst 0, 1) := dk_3 (dk_at dksX4_starts_1 10 rfl rfl)
theorem dX4_starts_34 : decode cX4_starts 34 = .ok (.putfield 154, 3) := dk_181 0 154 (dk_at dksX4_starts_1 11 rfl rfl)
theorem dX4_starts_37 : decode cX4_starts 37 = .ok (.return_, 1) := dk_177 (dk_at dksX4_starts_1 14 rfl rfl)
abbrev cX4_wants : ByteArray := prog_12_method_37_code
def yX4_wants : MethodName := ⟨RX4, "wants", "(I)I"⟩
def dkwX4_wants_1 : List UInt8 := [182, 0, 160, 28, 162, 0, 14, 28, 42, 27, 5, 182, 0, 160, 100, 167, 0, 4, 3, 172]
abbrev dktX4_wants_1 : List UInt8 := dkwX4_wants_1 ++ []
def dkwX4_wants_0 : List UInt8 := [16, 10, 42, 180, 0, 13, 5, 42, 27, 4, 182, 0, 160, 104, 3, 96, 46, 96, 61, 42, 27, 5]
abbrev dktX4_wants_0 : List UInt8 := dkwX4_wants_0 ++ dktX4_wants_1
theorem dksX4_wants_0 : cX4_wants.data.toList.drop 0 = dktX4_wants_0 := by decide +kernel
theorem dksX4_wants_1 : cX4_wants.data.toList.drop 22 = dktX4_wants_1 := dk_seg dksX4_wants_0 22 rfl rfl
theorem dX4_wants_0 : decode cX4_wants 0 = .ok (.bipush 10, 2) := dk_16 10 (dk_at dksX4_wants_0 0 rfl rfl)
theorem dX4_wants_2 : decode cX4_wants 2 = .ok (.aload_n 0, 1) := dk_42 (dk_at dksX4_wants_0 2 rfl rfl)
theorem dX4_wants_3 : decode cX4_wants 3 = .ok (.getfield 13, 3) := dk_180 0 13 (dk_at dksX4_wants_0 3 rfl rfl)
theorem dX4_wants_6 : decode cX4_wants 6 = .ok (.iconst 2, 1) := dk_5 (dk_at dksX4_wants_0 6 rfl rfl)
theorem dX4_wants_7 : decode cX4_wants 7 = .ok (.aload_n 0, 1) := dk_42 (dk_at dksX4_wants_0 7 rfl rfl)
theorem dX4_wants_8 : decode cX4_wants 8 = .ok (.iload_n 1, 1) := dk_27 (dk_at dksX4_wants_0 8 rfl rfl)
theorem dX4_wants_9 : decode cX4_wants 9 = .ok (.iconst 1, 1) := dk_4 (dk_at dksX4_wants_0 9 rfl rfl)
theorem dX4_wants_10 : decode cX4_wants 10 = .ok (.invokevirtual 160, 3) := dk_182 0 160 (dk_at dksX4_wants_0 10 rfl rfl)
theorem dX4_wants_13 : decode cX4_wants 13 = .ok (.imul, 1) := dk_104 (dk_at dksX4_wants_0 13 rfl rfl)
theorem dX4_wants_14 : decode cX4_wants 14 = .ok (.iconst 0, 1) := dk_3 (dk_at dksX4_wants_0 14 rfl rfl)
theorem dX4_wants_15 : decode cX4_wants 15 = .ok (.iadd, 1) := dk_96 (dk_at dksX4_wants_0 15 rfl rfl)
theorem dX4_wants_16 : decode cX4_wants 16 = .ok (.iaload, 1) := dk_46 (dk_at dksX4_wants_0 16 rfl rfl)
theorem dX4_wants_17 : decode cX4_wants 17 = .ok (.iadd, 1) := dk_96 (dk_at dksX4_wants_0 17 rfl rfl)
theorem dX4_wants_18 : decode cX4_wants 18 = .ok (.istore_n 2, 1) := dk_61 (dk_at dksX4_wants_0 18 rfl rfl)
theorem dX4_wants_19 : decode cX4_wants 19 = .ok (.aload_n 0, 1) := dk_42 (dk_at dksX4_wants_0 19 rfl rfl)
theorem dX4_wants_20 : decode cX4_wants 20 = .ok (.iload_n 1, 1) := dk_27 (dk_at dksX4_wants_0 20 rfl rfl)
theorem dX4_wants_21 : decode cX4_wants 21 = .ok (.iconst 2, 1) := dk_5 (dk_at dksX4_wants_0 21 rfl rfl)
theorem dX4_wants_22 : decode cX4_wants 22 = .ok (.invokevirtual 160, 3) := dk_182 0 160 (dk_at dksX4_wants_1 0 rfl rfl)
theorem dX4_wants_25 : decode cX4_wants 25 = .ok (.iload_n 2, 1) := dk_28 (dk_at dksX4_wants_1 3 rfl rfl)
theorem dX4_wants_26 : decode cX4_wants 26 = .ok (.if_icmp .ge 14, 3) := dk_162 0 14 (dk_at dksX4_wants_1 4 rfl rfl)
theorem dX4_wants_29 : decode cX4_wants 29 = .ok (.iload_n 2, 1) := dk_28 (dk_at dksX4_wants_1 7 rfl rfl)
theorem dX4_wants_30 : decode cX4_wants 30 = .ok (.aload_n 0, 1) := dk_42 (dk_at dksX4_wants_1 8 rfl rfl)
theorem dX4_wants_31 : decode cX4_wants 31 = .ok (.iload_n 1, 1) := dk_27 (dk_at dksX4_wants_1 9 rfl rfl)
theorem dX4_wants_32 : decode cX4_wants 32 = .ok (.iconst 2, 1) := dk_5 (dk_at dksX4_wants_1 10 rfl rfl)
theorem dX4_wants_33 : decode cX4_wants 33 = .ok (.invokevirtual 160, 3) := dk_182 0 160 (dk_at dksX4_wants_1 11 rfl rfl)
theorem dX4_wants_36 : decode cX4_wants 36 = .ok (.isub, 1) := dk_100 (dk_at dksX4_wants_1 14 rfl rfl)
theorem dX4_wants_37 : decode cX4_wants 37 = .ok (.goto 4, 3) := dk_167 0 4 (dk_at dksX4_wants_1 15 rfl rfl)
theorem dX4_wants_40 : decode cX4_wants 40 = .ok (.iconst 0, 1) := dk_3 (dk_at dksX4_wants_1 18 rfl rfl)
theorem dX4_wants_41 : decode cX4_wants 41 = .ok (.ireturn, 1) := dk_172 (dk_at dksX4_wants_1 19 rfl rfl)
abbrev cX4_of : ByteArray := prog_12_method_30_code
def yX4_of : MethodName := ⟨RX4, "of", "(II)I"⟩
def dkwX4_of_0 : List UInt8 := [42, 180, 0, 13, 16, 12, 6, 27, 104, 96, 28, 96, 46, 172]
abbrev dktX4_of_0 : List UInt8 := dkwX4_of_0 ++ []
theorem dksX4_of_0 : cX4_of.data.toList.drop 0 = dktX4_of_0 := by decide +kernel
theorem dX4_of_0 : decode cX4_of 0 = .ok (.aload_n 0, 1) := dk_42 (dk_at dksX4_of_0 0 rfl rfl)
theorem dX4_of_1 : decode cX4_of 1 = .ok (.getfield 13, 3) := dk_180 0 13 (dk_at dksX4_of_0 1 rfl rfl)
theorem dX4_of_4 : decode cX4_of 4 = .ok (.bipush 12, 2) := dk_16 12 (dk_at dksX4_of_0 4 rfl rfl)
theorem dX4_of_6 : decode cX4_of 6 = .ok (.iconst 3, 1) := dk_6 (dk_at dksX4_of_0 6 rfl rfl)
theorem dX4_of_7 : decode cX4_of 7 = .ok (.iload_n 1, 1) := dk_27 (dk_at dksX4_of_0 7 rfl rfl)
theorem dX4_of_8 : decode cX4_of 8 = .ok (.imul, 1) := dk_104 (dk_at dksX4_of_0 8 rfl rfl)
theorem dX4_of_9 : decode cX4_of 9 = .ok (.iadd, 1) := dk_96 (dk_at dksX4_of_0 9 rfl rfl)
theorem dX4_of_10 : decode cX4_of 10 = .ok (.iload_n 2, 1) := dk_28 (dk_at dksX4_of_0 10 rfl rfl)
theorem dX4_of_11 : decode cX4_of 11 = .ok (.iadd, 1) := dk_96 (dk_at dksX4_of_0 11 rfl rfl)
theorem dX4_of_12 : decode cX4_of 12 = .ok (.iaload, 1) := dk_46 (dk_at dksX4_of_0 12 rfl rfl)
theorem dX4_of_13 : decode cX4_of 13 = .ok (.ireturn, 1) := dk_172 (dk_at dksX4_of_0 13 rfl rfl)
abbrev cX4_flag : ByteArray := prog_12_method_4_code
def yX4_flag : MethodName := ⟨RX4, "flag", "(Z)I"⟩
def dkwX4_flag_0 : List UInt8 := [26, 153, 0, 7, 4, 167, 0, 4, 3, 172]
abbrev dktX4_flag_0 : List UInt8 := dkwX4_flag_0 ++ []
theorem dksX4_flag_0 : cX4_flag.data.toList.drop 0 = dktX4_flag_0 := by decide +kernel
theorem dX4_flag_0 : decode cX4_flag 0 = .ok (.iload_n 0, 1) := dk_26 (dk_at dksX4_flag_0 0 rfl rfl)
theorem dX4_flag_1 : decode cX4_flag 1 = .ok (.ifCond .eq 7, 3) := dk_153 0 7 (dk_at dksX4_flag_0 1 rfl rfl)
theorem dX4_flag_4 : decode cX4_flag 4 = .ok (.iconst 1, 1) := dk_4 (dk_at dksX4_flag_0 4 rfl rfl)
theorem dX4_flag_5 : decode cX4_flag 5 = .ok (.goto 4, 3) := dk_167 0 4 (dk_at dksX4_flag_0 5 rfl rfl)
theorem dX4_flag_8 : decode cX4_flag 8 = .ok (.iconst 0, 1) := dk_3 (dk_at dksX4_flag_0 8 rfl rfl)
theorem dX4_flag_9 : decode cX4_flag 9 = .ok (.ireturn, 1) := dk_172 (dk_at dksX4_flag_0 9 rfl rfl)
abbrev cX4_upNow : ByteArray := prog_12_method_42_code
def yX4_upNow : MethodName := ⟨RX4, "upNow", "()I"⟩
def dkwX4_upNow_1 : List UInt8 := [167, 0, 4, 3, 184, 0, 169, 28, 120, 128, 60, 132, 2, 1, 167, 255, 224, 27, 172]
abbrev dktX4_upNow_1 : List UInt8 := dkwX4_upNow_1 ++ []
def dkwX4_upNow_0 : List UInt8 := [3, 60, 3, 61, 28, 42, 180, 0, 71, 162, 0, 30, 27, 42, 28, 182, 0, 189, 154, 0, 7, 4]
abbrev dktX4_upNow_0 : List UInt8 := dkwX4_upNow_0 ++ dktX4_upNow_1
theorem dksX4_upNow_0 : cX4_upNow.data.toList.drop 0 = dktX4_upNow_0 := by decide +kernel
theorem dksX4_upNow_1 : cX4_upNow.data.toList.drop 22 = dktX4_upNow_1 := dk_seg dksX4_upNow_0 22 rfl rfl
theorem dX4_upNow_0 : decode cX4_upNow 0 = .ok (.iconst 0, 1) := dk_3 (dk_at dksX4_upNow_0 0 rfl rfl)
theorem dX4_upNow_1 : decode cX4_upNow 1 = .ok (.istore_n 1, 1) := dk_60 (dk_at dksX4_upNow_0 1 rfl rfl)
theorem dX4_upNow_2 : decode cX4_upNow 2 = .ok (.iconst 0, 1) := dk_3 (dk_at dksX4_upNow_0 2 rfl rfl)
theorem dX4_upNow_3 : decode cX4_upNow 3 = .ok (.istore_n 2, 1) := dk_61 (dk_at dksX4_upNow_0 3 rfl rfl)
theorem dX4_upNow_4 : decode cX4_upNow 4 = .ok (.iload_n 2, 1) := dk_28 (dk_at dksX4_upNow_0 4 rfl rfl)
theorem dX4_upNow_5 : decode cX4_upNow 5 = .ok (.aload_n 0, 1) := dk_42 (dk_at dksX4_upNow_0 5 rfl rfl)
theorem dX4_upNow_6 : decode cX4_upNow 6 = .ok (.getfield 71, 3) := dk_180 0 71 (dk_at dksX4_upNow_0 6 rfl rfl)
theorem dX4_upNow_9 : decode cX4_upNow 9 = .ok (.if_icmp .ge 30, 3) := dk_162 0 30 (dk_at dksX4_upNow_0 9 rfl rfl)
theorem dX4_upNow_12 : decode cX4_upNow 12 = .ok (.iload_n 1, 1) := dk_27 (dk_at dksX4_upNow_0 12 rfl rfl)
theorem dX4_upNow_13 : decode cX4_upNow 13 = .ok (.aload_n 0, 1) := dk_42 (dk_at dksX4_upNow_0 13 rfl rfl)
theorem dX4_upNow_14 : decode cX4_upNow 14 = .ok (.iload_n 2, 1) := dk_28 (dk_at dksX4_upNow_0 14 rfl rfl)
theorem dX4_upNow_15 : decode cX4_upNow 15 = .ok (.invokevirtual 189, 3) := dk_182 0 189 (dk_at dksX4_upNow_0 15 rfl rfl)
theorem dX4_upNow_18 : decode cX4_upNow 18 = .ok (.ifCond .ne 7, 3) := dk_154 0 7 (dk_at dksX4_upNow_0 18 rfl rfl)
theorem dX4_upNow_21 : decode cX4_upNow 21 = .ok (.iconst 1, 1) := dk_4 (dk_at dksX4_upNow_0 21 rfl rfl)
theorem dX4_upNow_22 : decode cX4_upNow 22 = .ok (.goto 4, 3) := dk_167 0 4 (dk_at dksX4_upNow_1 0 rfl rfl)
theorem dX4_upNow_25 : decode cX4_upNow 25 = .ok (.iconst 0, 1) := dk_3 (dk_at dksX4_upNow_1 3 rfl rfl)
theorem dX4_upNow_26 : decode cX4_upNow 26 = .ok (.invokestatic 169, 3) := dk_184 0 169 (dk_at dksX4_upNow_1 4 rfl rfl)
theorem dX4_upNow_29 : decode cX4_upNow 29 = .ok (.iload_n 2, 1) := dk_28 (dk_at dksX4_upNow_1 7 rfl rfl)
theorem dX4_upNow_30 : decode cX4_upNow 30 = .ok (.ishl, 1) := dk_120 (dk_at dksX4_upNow_1 8 rfl rfl)
theorem dX4_upNow_31 : decode cX4_upNow 31 = .ok (.ior, 1) := dk_128 (dk_at dksX4_upNow_1 9 rfl rfl)
theorem dX4_upNow_32 : decode cX4_upNow 32 = .ok (.istore_n 1, 1) := dk_60 (dk_at dksX4_upNow_1 10 rfl rfl)
theorem dX4_upNow_33 : decode cX4_upNow 33 = .ok (.iinc 2 1, 3) := dk_132 2 1 (dk_at dksX4_upNow_1 11 rfl rfl)
theorem dX4_upNow_36 : decode cX4_upNow 36 = .ok (.goto (-32), 3) := dk_167 255 224 (dk_at dksX4_upNow_1 14 rfl rfl)
theorem dX4_upNow_39 : decode cX4_upNow 39 = .ok (.iload_n 1, 1) := dk_27 (dk_at dksX4_upNow_1 17 rfl rfl)
theorem dX4_upNow_40 : decode cX4_upNow 40 = .ok (.ireturn, 1) := dk_172 (dk_at dksX4_upNow_1 18 rfl rfl)
abbrev cX4_isDown : ByteArray := prog_12_method_34_code
def yX4_isDown : MethodName := ⟨RX4, "isDown", "(I)Z"⟩
def dkwX4_isDown_0 : List UInt8 := [42, 27, 4, 182, 0, 157, 16, 252, 160, 0, 7, 4, 167, 0, 4, 3, 172]
abbrev dktX4_isDown_0 : List UInt8 := dkwX4_isDown_0 ++ []
theorem dksX4_isDown_0 : cX4_isDown.data.toList.drop 0 = dktX4_isDown_0 := by decide +kernel
theorem dX4_isDown_0 : decode cX4_isDown 0 = .ok (.aload_n 0, 1) := dk_42 (dk_at dksX4_isDown_0 0 rfl rfl)
theorem dX4_isDown_1 : decode cX4_isDown 1 = .ok (.iload_n 1, 1) := dk_27 (dk_at dksX4_isDown_0 1 rfl rfl)
theorem dX4_isDown_2 : decode cX4_isDown 2 = .ok (.iconst 1, 1) := dk_4 (dk_at dksX4_isDown_0 2 rfl rfl)
theorem dX4_isDown_3 : decode cX4_isDown 3 = .ok (.invokevirtual 157, 3) := dk_182 0 157 (dk_at dksX4_isDown_0 3 rfl rfl)
theorem dX4_isDown_6 : decode cX4_isDown 6 = .ok (.bipush (-4), 2) := dk_16 252 (dk_at dksX4_isDown_0 6 rfl rfl)
theorem dX4_isDown_8 : decode cX4_isDown 8 = .ok (.if_icmp .ne 7, 3) := dk_160 0 7 (dk_at dksX4_isDown_0 8 rfl rfl)
theorem dX4_isDown_11 : decode cX4_isDown 11 = .ok (.iconst 1, 1) := dk_4 (dk_at dksX4_isDown_0 11 rfl rfl)
theorem dX4_isDown_12 : decode cX4_isDown 12 = .ok (.goto 4, 3) := dk_167 0 4 (dk_at dksX4_isDown_0 12 rfl rfl)
theorem dX4_isDown_15 : decode cX4_isDown 15 = .ok (.iconst 0, 1) := dk_3 (dk_at dksX4_isDown_0 15 rfl rfl)
theorem dX4_isDown_16 : decode cX4_isDown 16 = .ok (.ireturn, 1) := dk_172 (dk_at dksX4_isDown_0 16 rfl rfl)
abbrev cX4_ofMinister : ByteArray := prog_12_method_32_code
def yX4_ofMinister : MethodName := ⟨RX4, "ofMinister", "(II)I"⟩
def dkwX4_ofMinister_0 : List UInt8 := [42, 180, 0, 13, 16, 30, 5, 27, 104, 96, 28, 96, 46, 172]
abbrev dktX4_ofMinister_0 : List UInt8 := dkwX4_ofMinister_0 ++ []
theorem dksX4_ofMinister_0 : cX4_ofMinister.data.toList.drop 0 = dktX4_ofMinister_0 := by decide +kernel
theorem dX4_ofMinister_0 : decode cX4_ofMinister 0 = .ok (.aload_n 0, 1) := dk_42 (dk_at dksX4_ofMinister_0 0 rfl rfl)
theorem dX4_ofMinister_1 : decode cX4_ofMinister 1 = .ok (.getfield 13, 3) := dk_180 0 13 (dk_at dksX4_ofMinister_0 1 rfl rfl)
theorem dX4_ofMinister_4 : decode cX4_ofMinister 4 = .ok (.bipush 30, 2) := dk_16 30 (dk_at dksX4_ofMinister_0 4 rfl rfl)
theorem dX4_ofMinister_6 : decode cX4_ofMinister 6 = .ok (.iconst 2, 1) := dk_5 (dk_at dksX4_ofMinister_0 6 rfl rfl)
theorem dX4_ofMinister_7 : decode cX4_ofMinister 7 = .ok (.iload_n 1, 1) := dk_27 (dk_at dksX4_ofMinister_0 7 rfl rfl)
theorem dX4_ofMinister_8 : decode cX4_ofMinister 8 = .ok (.imul, 1) := dk_104 (dk_at dksX4_ofMinister_0 8 rfl rfl)
theorem dX4_ofMinister_9 : decode cX4_ofMinister 9 = .ok (.iadd, 1) := dk_96 (dk_at dksX4_ofMinister_0 9 rfl rfl)
theorem dX4_ofMinister_10 : decode cX4_ofMinister 10 = .ok (.iload_n 2, 1) := dk_28 (dk_at dksX4_ofMinister_0 10 rfl rfl)
theorem dX4_ofMinister_11 : decode cX4_ofMinister 11 = .ok (.iadd, 1) := dk_96 (dk_at dksX4_ofMinister_0 11 rfl rfl)
theorem dX4_ofMinister_12 : decode cX4_ofMinister 12 = .ok (.iaload, 1) := dk_46 (dk_at dksX4_ofMinister_0 12 rfl rfl)
theorem dX4_ofMinister_13 : decode cX4_ofMinister 13 = .ok (.ireturn, 1) := dk_172 (dk_at dksX4_ofMinister_0 13 rfl rfl)
abbrev cX4_temperOfAll : ByteArray := prog_12_method_43_code
def yX4_temperOfAll : MethodName := ⟨RX4, "temperOfAll", "()I"⟩
def dkwX4_temperOfAll_1 : List UInt8 := [167, 255, 236, 27, 172]
abbrev dktX4_temperOfAll_1 : List UInt8 := dkwX4_temperOfAll_1 ++ []
def dkwX4_temperOfAll_0 : List UInt8 := [3, 60, 3, 61, 28, 42, 180, 0, 68, 162, 0, 18, 27, 42, 28, 5, 182, 0, 160, 96, 60, 132, 2, 1]
abbrev dktX4_temperOfAll_0 : List UInt8 := dkwX4_temperOfAll_0 ++ dktX4_temperOfAll_1
theorem dksX4_temperOfAll_0 : cX4_temperOfAll.data.toList.drop 0 = dktX4_temperOfAll_0 := by decide +kernel
theorem dksX4_temperOfAll_1 : cX4_temperOfAll.data.toList.drop 24 = dktX4_temperOfAll_1 := dk_seg dksX4_temperOfAll_0 24 rfl rfl
theorem dX4_temperOfAll_0 : decode cX4_temperOfAll 0 = .ok (.iconst 0, 1) := dk_3 (dk_at dksX4_temperOfAll_0 0 rfl rfl)
theorem dX4_temperOfAll_1 : decode cX4_temperOfAll 1 = .ok (.istore_n 1, 1) := dk_60 (dk_at dksX4_temperOfAll_0 1 rfl rfl)
theorem dX4_temperOfAll_2 : decode cX4_temperOfAll 2 = .ok (.iconst 0, 1) := dk_3 (dk_at dksX4_temperOfAll_0 2 rfl rfl)
theorem dX4_temperOfAll_3 : decode cX4_temperOfAll 3 = .ok (.istore_n 2, 1) := dk_61 (dk_at dksX4_temperOfAll_0 3 rfl rfl)
theorem dX4_temperOfAll_4 : decode cX4_temperOfAll 4 = .ok (.iload_n 2, 1) := dk_28 (dk_at dksX4_temperOfAll_0 4 rfl rfl)
theorem dX4_temperOfAll_5 : decode cX4_temperOfAll 5 = .ok (.aload_n 0, 1) := dk_42 (dk_at dksX4_temperOfAll_0 5 rfl rfl)
theorem dX4_temperOfAll_6 : decode cX4_temperOfAll 6 = .ok (.getfield 68, 3) := dk_180 0 68 (dk_at dksX4_temperOfAll_0 6 rfl rfl)
theorem dX4_temperOfAll_9 : decode cX4_temperOfAll 9 = .ok (.if_icmp .ge 18, 3) := dk_162 0 18 (dk_at dksX4_temperOfAll_0 9 rfl rfl)
theorem dX4_temperOfAll_12 : decode cX4_temperOfAll 12 = .ok (.iload_n 1, 1) := dk_27 (dk_at dksX4_temperOfAll_0 12 rfl rfl)
theorem dX4_temperOfAll_13 : decode cX4_temperOfAll 13 = .ok (.aload_n 0, 1) := dk_42 (dk_at dksX4_temperOfAll_0 13 rfl rfl)
theorem dX4_temperOfAll_14 : decode cX4_temperOfAll 14 = .ok (.iload_n 2, 1) := dk_28 (dk_at dksX4_temperOfAll_0 14 rfl rfl)
theorem dX4_temperOfAll_15 : decode cX4_temperOfAll 15 = .ok (.iconst 2, 1) := dk_5 (dk_at dksX4_temperOfAll_0 15 rfl rfl)
theorem dX4_temperOfAll_16 : decode cX4_temperOfAll 16 = .ok (.invokevirtual 160, 3) := dk_182 0 160 (dk_at dksX4_temperOfAll_0 16 rfl rfl)
theorem dX4_temperOfAll_19 : decode cX4_temperOfAll 19 = .ok (.iadd, 1) := dk_96 (dk_at dksX4_temperOfAll_0 19 rfl rfl)
theorem dX4_temperOfAll_20 : decode cX4_temperOfAll 20 = .ok (.istore_n 1, 1) := dk_60 (dk_at dksX4_temperOfAll_0 20 rfl rfl)
theorem dX4_temperOfAll_21 : decode cX4_temperOfAll 21 = .ok (.iinc 2 1, 3) := dk_132 2 1 (dk_at dksX4_temperOfAll_0 21 rfl rfl)
theorem dX4_temperOfAll_24 : decode cX4_temperOfAll 24 = .ok (.goto (-20), 3) := dk_167 255 236 (dk_at dksX4_temperOfAll_1 0 rfl rfl)
theorem dX4_temperOfAll_27 : decode cX4_temperOfAll 27 = .ok (.iload_n 1, 1) := dk_27 (dk_at dksX4_temperOfAll_1 3 rfl rfl)
theorem dX4_temperOfAll_28 : decode cX4_temperOfAll 28 = .ok (.ireturn, 1) := dk_172 (dk_at dksX4_temperOfAll_1 4 rfl rfl)
abbrev cX4_square : ByteArray := prog_12_method_46_code
def yX4_square : MethodName := ⟨RX4, "square", "(II)I"⟩
def dkwX4_square_4 : List UInt8 := [160, 0, 11, 42, 27, 182, 0, 214, 167, 0, 4, 29, 172]
abbrev dktX4_square_4 : List UInt8 := dkwX4_square_4 ++ []
def dkwX4_square_3 : List UInt8 := [167, 255, 219, 28, 5, 162, 0, 16, 42, 180, 0, 7, 5, 27, 104, 28, 96, 46, 167, 0, 17, 28, 5]
abbrev dktX4_square_3 : List UInt8 := dkwX4_square_3 ++ dktX4_square_4
def dkwX4_square_2 : List UInt8 := [182, 0, 157, 27, 160, 0, 7, 4, 167, 0, 4, 3, 184, 0, 169, 21, 4, 120, 128, 62, 132, 4, 1]
abbrev dktX4_square_2 : List UInt8 := dkwX4_square_2 ++ dktX4_square_3
def dkwX4_square_1 : List UInt8 := [182, 0, 200, 3, 62, 3, 54, 4, 21, 4, 42, 180, 0, 71, 162, 0, 34, 29, 42, 21, 4, 4]
abbrev dktX4_square_1 : List UInt8 := dkwX4_square_1 ++ dktX4_square_2
def dkwX4_square_0 : List UInt8 := [27, 184, 0, 209, 153, 0, 15, 28, 133, 9, 20, 0, 212, 184, 0, 76, 154, 0, 5, 2, 172, 42]
abbrev dktX4_square_0 : List UInt8 := dkwX4_square_0 ++ dktX4_square_1
theorem dksX4_square_0 : cX4_square.data.toList.drop 0 = dktX4_square_0 := by decide +kernel
theorem dksX4_square_1 : cX4_square.data.toList.drop 22 = dktX4_square_1 := dk_seg dksX4_square_0 22 rfl rfl
theorem dksX4_square_2 : cX4_square.data.toList.drop 44 = dktX4_square_2 := dk_seg dksX4_square_1 22 rfl rfl
theorem dksX4_square_3 : cX4_square.data.toList.drop 67 = dktX4_square_3 := dk_seg dksX4_square_2 23 rfl rfl
theorem dksX4_square_4 : cX4_square.data.toList.drop 90 = dktX4_square_4 := dk_seg dksX4_square_3 23 rfl rfl
theorem dX4_square_0 : decode cX4_square 0 = .ok (.iload_n 1, 1) := dk_27 (dk_at dksX4_square_0 0 rfl rfl)
theorem dX4_square_1 : decode cX4_square 1 = .ok (.invokestatic 209, 3) := dk_184 0 209 (dk_at dksX4_square_0 1 rfl rfl)
theorem dX4_square_4 : decode cX4_square 4 = .ok (.ifCond .eq 15, 3) := dk_153 0 15 (dk_at dksX4_square_0 4 rfl rfl)
theorem dX4_square_7 : decode cX4_square 7 = .ok (.iload_n 2, 1) := dk_28 (dk_at dksX4_square_0 7 rfl rfl)
theorem dX4_square_8 : decode cX4_square 8 = .ok (.i2l, 1) := dk_133 (dk_at dksX4_square_0 8 rfl rfl)
theorem dX4_square_9 : decode cX4_square 9 = .ok (.lconst 0, 1) := dk_9 (dk_at dksX4_square_0 9 rfl rfl)
theorem dX4_square_10 : decode cX4_square 10 = .ok (.ldc2_w 212, 3) := dk_20 0 212 (dk_at dksX4_square_0 10 rfl rfl)
theorem dX4_square_13 : decode cX4_square 13 = .ok (.invokestatic 76, 3) := dk_184 0 76 (dk_at dksX4_square_0 13 rfl rfl)
theorem dX4_square_16 : decode cX4_square 16 = .ok (.ifCond .ne 5, 3) := dk_154 0 5 (dk_at dksX4_square_0 16 rfl rfl)
theorem dX4_square_19 : decode cX4_square 19 = .ok (.iconst (-1), 1) := dk_2 (dk_at dksX4_square_0 19 rfl rfl)
theorem dX4_square_20 : decode cX4_square 20 = .ok (.ireturn, 1) := dk_172 (dk_at dksX4_square_0 20 rfl rfl)
theorem dX4_square_21 : decode cX4_square 21 = .ok (.aload_n 0, 1) := dk_42 (dk_at dksX4_square_0 21 rfl rfl)
theorem dX4_square_22 : decode cX4_square 22 = .ok (.invokevirtual 200, 3) := dk_182 0 200 (dk_at dksX4_square_1 0 rfl rfl)
theorem dX4_square_25 : decode cX4_square 25 = .ok (.iconst 0, 1) := dk_3 (dk_at dksX4_square_1 3 rfl rfl)
theorem dX4_square_26 : decode cX4_square 26 = .ok (.istore_n 3, 1) := dk_62 (dk_at dksX4_square_1 4 rfl rfl)
theorem dX4_square_27 : decode cX4_square 27 = .ok (.iconst 0, 1) := dk_3 (dk_at dksX4_square_1 5 rfl rfl)
theorem dX4_square_28 : decode cX4_square 28 = .ok (.istore 4, 2) := dk_54 4 (dk_at dksX4_square_1 6 rfl rfl)
theorem dX4_square_30 : decode cX4_square 30 = .ok (.iload 4, 2) := dk_21 4 (dk_at dksX4_square_1 8 rfl rfl)
theorem dX4_square_32 : decode cX4_square 32 = .ok (.aload_n 0, 1) := dk_42 (dk_at dksX4_square_1 10 rfl rfl)
theorem dX4_square_33 : decode cX4_square 33 = .ok (.getfield 71, 3) := dk_180 0 71 (dk_at dksX4_square_1 11 rfl rfl)
theorem dX4_square_36 : decode cX4_square 36 = .ok (.if_icmp .ge 34, 3) := dk_162 0 34 (dk_at dksX4_square_1 14 rfl rfl)
theorem dX4_square_39 : decode cX4_square 39 = .ok (.iload_n 3, 1) := dk_29 (dk_at dksX4_square_1 17 rfl rfl)
theorem dX4_square_40 : decode cX4_square 40 = .ok (.aload_n 0, 1) := dk_42 (dk_at dksX4_square_1 18 rfl rfl)
theorem dX4_square_41 : decode cX4_square 41 = .ok (.iload 4, 2) := dk_21 4 (dk_at dksX4_square_1 19 rfl rfl)
theorem dX4_square_43 : decode cX4_square 43 = .ok (.iconst 1, 1) := dk_4 (dk_at dksX4_square_1 21 rfl rfl)
theorem dX4_square_44 : decode cX4_square 44 = .ok (.invokevirtual 157, 3) := dk_182 0 157 (dk_at dksX4_square_2 0 rfl rfl)
theorem dX4_square_47 : decode cX4_square 47 = .ok (.iload_n 1, 1) := dk_27 (dk_at dksX4_square_2 3 rfl rfl)
theorem dX4_square_48 : decode cX4_square 48 = .ok (.if_icmp .ne 7, 3) := dk_160 0 7 (dk_at dksX4_square_2 4 rfl rfl)
theorem dX4_square_51 : decode cX4_square 51 = .ok (.iconst 1, 1) := dk_4 (dk_at dksX4_square_2 7 rfl rfl)
theorem dX4_square_52 : decode cX4_square 52 = .ok (.goto 4, 3) := dk_167 0 4 (dk_at dksX4_square_2 8 rfl rfl)
theorem dX4_square_55 : decode cX4_square 55 = .ok (.iconst 0, 1) := dk_3 (dk_at dksX4_square_2 11 rfl rfl)
theorem dX4_square_56 : decode cX4_square 56 = .ok (.invokestatic 169, 3) := dk_184 0 169 (dk_at dksX4_square_2 12 rfl rfl)
theorem dX4_square_59 : decode cX4_square 59 = .ok (.iload 4, 2) := dk_21 4 (dk_at dksX4_square_2 15 rfl rfl)
theorem dX4_square_61 : decode cX4_square 61 = .ok (.ishl, 1) := dk_120 (dk_at dksX4_square_2 17 rfl rfl)
theorem dX4_square_62 : decode cX4_square 62 = .ok (.ior, 1) := dk_128 (dk_at dksX4_square_2 18 rfl rfl)
theorem dX4_square_63 : decode cX4_square 63 = .ok (.istore_n 3, 1) := dk_62 (dk_at dksX4_square_2 19 rfl rfl)
theorem dX4_square_64 : decode cX4_square 64 = .ok (.iinc 4 1, 3) := dk_132 4 1 (dk_at dksX4_square_2 20 rfl rfl)
theorem dX4_square_67 : decode cX4_square 67 = .ok (.goto (-37), 3) := dk_167 255 219 (dk_at dksX4_square_3 0 rfl rfl)
theorem dX4_square_70 : decode cX4_square 70 = .ok (.iload_n 2, 1) := dk_28 (dk_at dksX4_square_3 3 rfl rfl)
theorem dX4_square_71 : decode cX4_square 71 = .ok (.iconst 2, 1) := dk_5 (dk_at dksX4_square_3 4 rfl rfl)
theorem dX4_square_72 : decode cX4_square 72 = .ok (.if_icmp .ge 16, 3) := dk_162 0 16 (dk_at dksX4_square_3 5 rfl rfl)
theorem dX4_square_75 : decode cX4_square 75 = .ok (.aload_n 0, 1) := dk_42 (dk_at dksX4_square_3 8 rfl rfl)
theorem dX4_square_76 : decode cX4_square 76 = .ok (.getfield 7, 3) := dk_180 0 7 (dk_at dksX4_square_3 9 rfl rfl)
theorem dX4_square_79 : decode cX4_square 79 = .ok (.iconst 2, 1) := dk_5 (dk_at dksX4_square_3 12 rfl rfl)
theorem dX4_square_80 : decode cX4_square 80 = .ok (.iload_n 1, 1) := dk_27 (dk_at dksX4_square_3 13 rfl rfl)
theorem dX4_square_81 : decode cX4_square 81 = .ok (.imul, 1) := dk_104 (dk_at dksX4_square_3 14 rfl rfl)
theorem dX4_square_82 : decode cX4_square 82 = .ok (.iload_n 2, 1) := dk_28 (dk_at dksX4_square_3 15 rfl rfl)
theorem dX4_square_83 : decode cX4_square 83 = .ok (.iadd, 1) := dk_96 (dk_at dksX4_square_3 16 rfl rfl)
theorem dX4_square_84 : decode cX4_square 84 = .ok (.iaload, 1) := dk_46 (dk_at dksX4_square_3 17 rfl rfl)
theorem dX4_square_85 : decode cX4_square 85 = .ok (.goto 17, 3) := dk_167 0 17 (dk_at dksX4_square_3 18 rfl rfl)
theorem dX4_square_88 : decode cX4_square 88 = .ok (.iload_n 2, 1) := dk_28 (dk_at dksX4_square_3 21 rfl rfl)
theorem dX4_square_89 : decode cX4_square 89 = .ok (.iconst 2, 1) := dk_5 (dk_at dksX4_square_3 22 rfl rfl)
theorem dX4_square_90 : decode cX4_square 90 = .ok (.if_icmp .ne 11, 3) := dk_160 0 11 (dk_at dksX4_square_4 0 rfl rfl)
theorem dX4_square_93 : decode cX4_square 93 = .ok (.aload_n 0, 1) := dk_42 (dk_at dksX4_square_4 3 rfl rfl)
theorem dX4_square_94 : decode cX4_square 94 = .ok (.iload_n 1, 1) := dk_27 (dk_at dksX4_square_4 4 rfl rfl)
theorem dX4_square_95 : decode cX4_square 95 = .ok (.invokevirtual 214, 3) := dk_182 0 214 (dk_at dksX4_square_4 5 rfl rfl)
theorem dX4_square_98 : decode cX4_square 98 = .ok (.goto 4, 3) := dk_167 0 4 (dk_at dksX4_square_4 8 rfl rfl)
theorem dX4_square_101 : decode cX4_square 101 = .ok (.iload_n 3, 1) := dk_29 (dk_at dksX4_square_4 11 rfl rfl)
theorem dX4_square_102 : decode cX4_square 102 = .ok (.ireturn, 1) := dk_172 (dk_at dksX4_square_4 12 rfl rfl)
abbrev cX4_isSquare : ByteArray := prog_12_method_26_code
def yX4_isSquare : MethodName := ⟨RX4, "isSquare", "(I)Z"⟩
def dkwX4_isSquare_0 : List UInt8 := [26, 133, 9, 20, 0, 149, 184, 0, 76, 172]
abbrev dktX4_isSquare_0 : List UInt8 := dkwX4_isSquare_0 ++ []
theorem dksX4_isSquare_0 : cX4_isSquare.data.toList.drop 0 = dktX4_isSquare_0 := by decide +kernel
theorem dX4_isSquare_0 : decode cX4_isSquare 0 = .ok (.iload_n 0, 1) := dk_26 (dk_at dksX4_isSquare_0 0 rfl rfl)
theorem dX4_isSquare_1 : decode cX4_isSquare 1 = .ok (.i2l, 1) := dk_133 (dk_at dksX4_isSquare_0 1 rfl rfl)
theorem dX4_isSquare_2 : decode cX4_isSquare 2 = .ok (.lconst 0, 1) := dk_9 (dk_at dksX4_isSquare_0 2 rfl rfl)
theorem dX4_isSquare_3 : decode cX4_isSquare 3 = .ok (.ldc2_w 149, 3) := dk_20 0 149 (dk_at dksX4_isSquare_0 3 rfl rfl)
theorem dX4_isSquare_6 : decode cX4_isSquare 6 = .ok (.invokestatic 76, 3) := dk_184 0 76 (dk_at dksX4_isSquare_0 6 rfl rfl)
theorem dX4_isSquare_9 : decode cX4_isSquare 9 = .ok (.ireturn, 1) := dk_172 (dk_at dksX4_isSquare_0 9 rfl rfl)
abbrev cX4_handsAt : ByteArray := prog_12_method_45_code
def yX4_handsAt : MethodName := ⟨RX4, "handsAt", "(I)I"⟩
def dkwX4_handsAt_1 : List UInt8 := [167, 0, 4, 3, 184, 0, 169, 29, 120, 128, 61, 132, 3, 1, 167, 255, 222, 28, 172]
abbrev dktX4_handsAt_1 : List UInt8 := dkwX4_handsAt_1 ++ []
def dkwX4_handsAt_0 : List UInt8 := [3, 61, 3, 62, 29, 42, 180, 0, 68, 162, 0, 32, 28, 42, 29, 4, 182, 0, 160, 27, 160, 0, 7, 4]
abbrev dktX4_handsAt_0 : List UInt8 := dkwX4_handsAt_0 ++ dktX4_handsAt_1
theorem dksX4_handsAt_0 : cX4_handsAt.data.toList.drop 0 = dktX4_handsAt_0 := by decide +kernel
theorem dksX4_handsAt_1 : cX4_handsAt.data.toList.drop 24 = dktX4_handsAt_1 := dk_seg dksX4_handsAt_0 24 rfl rfl
theorem dX4_handsAt_0 : decode cX4_handsAt 0 = .ok (.iconst 0, 1) := dk_3 (dk_at dksX4_handsAt_0 0 rfl rfl)
theorem dX4_handsAt_1 : decode cX4_handsAt 1 = .ok (.istore_n 2, 1) := dk_61 (dk_at dksX4_handsAt_0 1 rfl rfl)
theorem dX4_handsAt_2 : decode cX4_handsAt 2 = .ok (.iconst 0, 1) := dk_3 (dk_at dksX4_handsAt_0 2 rfl rfl)
theorem dX4_handsAt_3 : decode cX4_handsAt 3 = .ok (.istore_n 3, 1) := dk_62 (dk_at dksX4_handsAt_0 3 rfl rfl)
theorem dX4_handsAt_4 : decode cX4_handsAt 4 = .ok (.iload_n 3, 1) := dk_29 (dk_at dksX4_handsAt_0 4 rfl rfl)
theorem dX4_handsAt_5 : decode cX4_handsAt 5 = .ok (.aload_n 0, 1) := dk_42 (dk_at dksX4_handsAt_0 5 rfl rfl)
theorem dX4_handsAt_6 : decode cX4_handsAt 6 = .ok (.getfield 68, 3) := dk_180 0 68 (dk_at dksX4_handsAt_0 6 rfl rfl)
theorem dX4_handsAt_9 : decode cX4_handsAt 9 = .ok (.if_icmp .ge 32, 3) := dk_162 0 32 (dk_at dksX4_handsAt_0 9 rfl rfl)
theorem dX4_handsAt_12 : decode cX4_handsAt 12 = .ok (.iload_n 2, 1) := dk_28 (dk_at dksX4_handsAt_0 12 rfl rfl)
theorem dX4_handsAt_13 : decode cX4_handsAt 13 = .ok (.aload_n 0, 1) := dk_42 (dk_at dksX4_handsAt_0 13 rfl rfl)
theorem dX4_handsAt_14 : decode cX4_handsAt 14 = .ok (.iload_n 3, 1) := dk_29 (dk_at dksX4_handsAt_0 14 rfl rfl)
theorem dX4_handsAt_15 : decode cX4_handsAt 15 = .ok (.iconst 1, 1) := dk_4 (dk_at dksX4_handsAt_0 15 rfl rfl)
theorem dX4_handsAt_16 : decode cX4_handsAt 16 = .ok (.invokevirtual 160, 3) := dk_182 0 160 (dk_at dksX4_handsAt_0 16 rfl rfl)
theorem dX4_handsAt_19 : decode cX4_handsAt 19 = .ok (.iload_n 1, 1) := dk_27 (dk_at dksX4_handsAt_0 19 rfl rfl)
theorem dX4_handsAt_20 : decode cX4_handsAt 20 = .ok (.if_icmp .ne 7, 3) := dk_160 0 7 (dk_at dksX4_handsAt_0 20 rfl rfl)
theorem dX4_handsAt_23 : decode cX4_handsAt 23 = .ok (.iconst 1, 1) := dk_4 (dk_at dksX4_handsAt_0 23 rfl rfl)
theorem dX4_handsAt_24 : decode cX4_handsAt 24 = .ok (.goto 4, 3) := dk_167 0 4 (dk_at dksX4_handsAt_1 0 rfl rfl)
theorem dX4_handsAt_27 : decode cX4_handsAt 27 = .ok (.iconst 0, 1) := dk_3 (dk_at dksX4_handsAt_1 3 rfl rfl)
theorem dX4_handsAt_28 : decode cX4_handsAt 28 = .ok (.invokestatic 169, 3) := dk_184 0 169 (dk_at dksX4_handsAt_1 4 rfl rfl)
theorem dX4_handsAt_31 : decode cX4_handsAt 31 = .ok (.iload_n 3, 1) := dk_29 (dk_at dksX4_handsAt_1 7 rfl rfl)
theorem dX4_handsAt_32 : decode cX4_handsAt 32 = .ok (.ishl, 1) := dk_120 (dk_at dksX4_handsAt_1 8 rfl rfl)
theorem dX4_handsAt_33 : decode cX4_handsAt 33 = .ok (.ior, 1) := dk_128 (dk_at dksX4_handsAt_1 9 rfl rfl)
theorem dX4_handsAt_34 : decode cX4_handsAt 34 = .ok (.istore_n 2, 1) := dk_61 (dk_at dksX4_handsAt_1 10 rfl rfl)
theorem dX4_handsAt_35 : decode cX4_handsAt 35 = .ok (.iinc 3 1, 3) := dk_132 3 1 (dk_at dksX4_handsAt_1 11 rfl rfl)
theorem dX4_handsAt_38 : decode cX4_handsAt 38 = .ok (.goto (-34), 3) := dk_167 255 222 (dk_at dksX4_handsAt_1 14 rfl rfl)
theorem dX4_handsAt_41 : decode cX4_handsAt 41 = .ok (.iload_n 2, 1) := dk_28 (dk_at dksX4_handsAt_1 17 rfl rfl)
theorem dX4_handsAt_42 : decode cX4_handsAt 42 = .ok (.ireturn, 1) := dk_172 (dk_at dksX4_handsAt_1 18 rfl rfl)
abbrev cX4_hand : ByteArray := prog_12_method_47_code
def yX4_hand : MethodName := ⟨RX4, "hand", "(II)I"⟩
def dkwX4_hand_1 : List UInt8 := [182, 0, 200, 28, 6, 162, 0, 12, 42, 27, 28, 182, 0, 160, 167, 0, 8, 42, 27, 182, 0, 166, 172]
abbrev dktX4_hand_1 : List UInt8 := dkwX4_hand_1 ++ []
def dkwX4_hand_0 : List UInt8 := [42, 27, 182, 0, 217, 153, 0, 15, 28, 133, 9, 20, 0, 212, 184, 0, 76, 154, 0, 5, 2, 172, 42]
abbrev dktX4_hand_0 : List UInt8 := dkwX4_hand_0 ++ dktX4_hand_1
theorem dksX4_hand_0 : cX4_hand.data.toList.drop 0 = dktX4_hand_0 := by decide +kernel
theorem dksX4_hand_1 : cX4_hand.data.toList.drop 23 = dktX4_hand_1 := dk_seg dksX4_hand_0 23 rfl rfl
theorem dX4_hand_0 : decode cX4_hand 0 = .ok (.aload_n 0, 1) := dk_42 (dk_at dksX4_hand_0 0 rfl rfl)
theorem dX4_hand_1 : decode cX4_hand 1 = .ok (.iload_n 1, 1) := dk_27 (dk_at dksX4_hand_0 1 rfl rfl)
theorem dX4_hand_2 : decode cX4_hand 2 = .ok (.invokevirtual 217, 3) := dk_182 0 217 (dk_at dksX4_hand_0 2 rfl rfl)
theorem dX4_hand_5 : decode cX4_hand 5 = .ok (.ifCond .eq 15, 3) := dk_153 0 15 (dk_at dksX4_hand_0 5 rfl rfl)
theorem dX4_hand_8 : decode cX4_hand 8 = .ok (.iload_n 2, 1) := dk_28 (dk_at dksX4_hand_0 8 rfl rfl)
theorem dX4_hand_9 : decode cX4_hand 9 = .ok (.i2l, 1) := dk_133 (dk_at dksX4_hand_0 9 rfl rfl)
theorem dX4_hand_10 : decode cX4_hand 10 = .ok (.lconst 0, 1) := dk_9 (dk_at dksX4_hand_0 10 rfl rfl)
theorem dX4_hand_11 : decode cX4_hand 11 = .ok (.ldc2_w 212, 3) := dk_20 0 212 (dk_at dksX4_hand_0 11 rfl rfl)
theorem dX4_hand_14 : decode cX4_hand 14 = .ok (.invokestatic 76, 3) := dk_184 0 76 (dk_at dksX4_hand_0 14 rfl rfl)
theorem dX4_hand_17 : decode cX4_hand 17 = .ok (.ifCond .ne 5, 3) := dk_154 0 5 (dk_at dksX4_hand_0 17 rfl rfl)
theorem dX4_hand_20 : decode cX4_hand 20 = .ok (.iconst (-1), 1) := dk_2 (dk_at dksX4_hand_0 20 rfl rfl)
theorem dX4_hand_21 : decode cX4_hand 21 = .ok (.ireturn, 1) := dk_172 (dk_at dksX4_hand_0 21 rfl rfl)
theorem dX4_hand_22 : decode cX4_hand 22 = .ok (.aload_n 0, 1) := dk_42 (dk_at dksX4_hand_0 22 rfl rfl)
theorem dX4_hand_23 : decode cX4_hand 23 = .ok (.invokevirtual 200, 3) := dk_182 0 200 (dk_at dksX4_hand_1 0 rfl rfl)
theorem dX4_hand_26 : decode cX4_hand 26 = .ok (.iload_n 2, 1) := dk_28 (dk_at dksX4_hand_1 3 rfl rfl)
theorem dX4_hand_27 : decode cX4_hand 27 = .ok (.iconst 3, 1) := dk_6 (dk_at dksX4_hand_1 4 rfl rfl)
theorem dX4_hand_28 : decode cX4_hand 28 = .ok (.if_icmp .ge 12, 3) := dk_162 0 12 (dk_at dksX4_hand_1 5 rfl rfl)
theorem dX4_hand_31 : decode cX4_hand 31 = .ok (.aload_n 0, 1) := dk_42 (dk_at dksX4_hand_1 8 rfl rfl)
theorem dX4_hand_32 : decode cX4_hand 32 = .ok (.iload_n 1, 1) := dk_27 (dk_at dksX4_hand_1 9 rfl rfl)
theorem dX4_hand_33 : decode cX4_hand 33 = .ok (.iload_n 2, 1) := dk_28 (dk_at dksX4_hand_1 10 rfl rfl)
theorem dX4_hand_34 : decode cX4_hand 34 = .ok (.invokevirtual 160, 3) := dk_182 0 160 (dk_at dksX4_hand_1 11 rfl rfl)
theorem dX4_hand_37 : decode cX4_hand 37 = .ok (.goto 8, 3) := dk_167 0 8 (dk_at dksX4_hand_1 14 rfl rfl)
theorem dX4_hand_40 : decode cX4_hand 40 = .ok (.aload_n 0, 1) := dk_42 (dk_at dksX4_hand_1 17 rfl rfl)
theorem dX4_hand_41 : decode cX4_hand 41 = .ok (.iload_n 1, 1) := dk_27 (dk_at dksX4_hand_1 18 rfl rfl)
theorem dX4_hand_42 : decode cX4_hand 42 = .ok (.invokevirtual 166, 3) := dk_182 0 166 (dk_at dksX4_hand_1 19 rfl rfl)
theorem dX4_hand_45 : decode cX4_hand 45 = .ok (.ireturn, 1) := dk_172 (dk_at dksX4_hand_1 22 rfl rfl)
abbrev cX4_isHand : ByteArray := prog_12_method_24_code
def yX4_isHand : MethodName := ⟨RX4, "isHand", "(I)Z"⟩
def dkwX4_isHand_0 : List UInt8 := [27, 133, 9, 42, 180, 0, 68, 4, 100, 133, 184, 0, 76, 172]
abbrev dktX4_isHand_0 : List UInt8 := dkwX4_isHand_0 ++ []
theorem dksX4_isHand_0 : cX4_isHand.data.toList.drop 0 = dktX4_isHand_0 := by decide +kernel
theorem dX4_isHand_0 : decode cX4_isHand 0 = .ok (.iload_n 1, 1) := dk_27 (dk_at dksX4_isHand_0 0 rfl rfl)
theorem dX4_isHand_1 : decode cX4_isHand 1 = .ok (.i2l, 1) := dk_133 (dk_at dksX4_isHand_0 1 rfl rfl)
theorem dX4_isHand_2 : decode cX4_isHand 2 = .ok (.lconst 0, 1) := dk_9 (dk_at dksX4_isHand_0 2 rfl rfl)
theorem dX4_isHand_3 : decode cX4_isHand 3 = .ok (.aload_n 0, 1) := dk_42 (dk_at dksX4_isHand_0 3 rfl rfl)
theorem dX4_isHand_4 : decode cX4_isHand 4 = .ok (.getfield 68, 3) := dk_180 0 68 (dk_at dksX4_isHand_0 4 rfl rfl)
theorem dX4_isHand_7 : decode cX4_isHand 7 = .ok (.iconst 1, 1) := dk_4 (dk_at dksX4_isHand_0 7 rfl rfl)
theorem dX4_isHand_8 : decode cX4_isHand 8 = .ok (.isub, 1) := dk_100 (dk_at dksX4_isHand_0 8 rfl rfl)
theorem dX4_isHand_9 : decode cX4_isHand 9 = .ok (.i2l, 1) := dk_133 (dk_at dksX4_isHand_0 9 rfl rfl)
theorem dX4_isHand_10 : decode cX4_isHand 10 = .ok (.invokestatic 76, 3) := dk_184 0 76 (dk_at dksX4_isHand_0 10 rfl rfl)
theorem dX4_isHand_13 : decode cX4_isHand 13 = .ok (.ireturn, 1) := dk_172 (dk_at dksX4_isHand_0 13 rfl rfl)
abbrev cX4_minister : ByteArray := prog_12_method_48_code
def yX4_minister : MethodName := ⟨RX4, "minister", "(II)I"⟩
def dkwX4_minister_4 : List UInt8 := [132, 5, 1, 167, 255, 216, 28, 5, 160, 0, 7, 29, 167, 0, 5, 21, 4, 172]
abbrev dktX4_minister_4 : List UInt8 := dkwX4_minister_4 ++ []
def dkwX4_minister_3 : List UInt8 := [122, 4, 126, 42, 21, 5, 3, 182, 0, 160, 42, 27, 3, 182, 0, 157, 184, 0, 173, 104, 96, 54, 4]
abbrev dktX4_minister_3 : List UInt8 := dkwX4_minister_3 ++ dktX4_minister_4
def dkwX4_minister_2 : List UInt8 := [182, 0, 214, 62, 3, 54, 4, 3, 54, 5, 21, 5, 42, 180, 0, 68, 162, 0, 37, 21, 4, 29, 21, 5]
abbrev dktX4_minister_2 : List UInt8 := dkwX4_minister_2 ++ dktX4_minister_3
def dkwX4_minister_1 : List UInt8 := [182, 0, 200, 28, 5, 162, 0, 10, 42, 27, 28, 182, 0, 157, 172, 42, 42, 27, 4, 182, 0, 157]
abbrev dktX4_minister_1 : List UInt8 := dkwX4_minister_1 ++ dktX4_minister_2
def dkwX4_minister_0 : List UInt8 := [42, 27, 182, 0, 220, 153, 0, 15, 28, 133, 9, 20, 0, 212, 184, 0, 76, 154, 0, 5, 2, 172, 42]
abbrev dktX4_minister_0 : List UInt8 := dkwX4_minister_0 ++ dktX4_minister_1
theorem dksX4_minister_0 : cX4_minister.data.toList.drop 0 = dktX4_minister_0 := by decide +kernel
theorem dksX4_minister_1 : cX4_minister.data.toList.drop 23 = dktX4_minister_1 := dk_seg dksX4_minister_0 23 rfl rfl
theorem dksX4_minister_2 : cX4_minister.data.toList.drop 45 = dktX4_minister_2 := dk_seg dksX4_minister_1 22 rfl rfl
theorem dksX4_minister_3 : cX4_minister.data.toList.drop 69 = dktX4_minister_3 := dk_seg dksX4_minister_2 24 rfl rfl
theorem dksX4_minister_4 : cX4_minister.data.toList.drop 92 = dktX4_minister_4 := dk_seg dksX4_minister_3 23 rfl rfl
theorem dX4_minister_0 : decode cX4_minister 0 = .ok (.aload_n 0, 1) := dk_42 (dk_at dksX4_minister_0 0 rfl rfl)
theorem dX4_minister_1 : decode cX4_minister 1 = .ok (.iload_n 1, 1) := dk_27 (dk_at dksX4_minister_0 1 rfl rfl)
theorem dX4_minister_2 : decode cX4_minister 2 = .ok (.invokevirtual 220, 3) := dk_182 0 220 (dk_at dksX4_minister_0 2 rfl rfl)
theorem dX4_minister_5 : decode cX4_minister 5 = .ok (.ifCond .eq 15, 3) := dk_153 0 15 (dk_at dksX4_minister_0 5 rfl rfl)
theorem dX4_minister_8 : decode cX4_minister 8 = .ok (.iload_n 2, 1) := dk_28 (dk_at dksX4_minister_0 8 rfl rfl)
theorem dX4_minister_9 : decode cX4_minister 9 = .ok (.i2l, 1) := dk_133 (dk_at dksX4_minister_0 9 rfl rfl)
theorem dX4_minister_10 : decode cX4_minister 10 = .ok (.lconst 0, 1) := dk_9 (dk_at dksX4_minister_0 10 rfl rfl)
theorem dX4_minister_11 : decode cX4_minister 11 = .ok (.ldc2_w 212, 3) := dk_20 0 212 (dk_at dksX4_minister_0 11 rfl rfl)
theorem dX4_minister_14 : decode cX4_minister 14 = .ok (.invokestatic 76, 3) := dk_184 0 76 (dk_at dksX4_minister_0 14 rfl rfl)
theorem dX4_minister_17 : decode cX4_minister 17 = .ok (.ifCond .ne 5, 3) := dk_154 0 5 (dk_at dksX4_minister_0 17 rfl rfl)
theorem dX4_minister_20 : decode cX4_minister 20 = .ok (.iconst (-1), 1) := dk_2 (dk_at dksX4_minister_0 20 rfl rfl)
theorem dX4_minister_21 : decode cX4_minister 21 = .ok (.ireturn, 1) := dk_172 (dk_at dksX4_minister_0 21 rfl rfl)
theorem dX4_minister_22 : decode cX4_minister 22 = .ok (.aload_n 0, 1) := dk_42 (dk_at dksX4_minister_0 22 rfl rfl)
theorem dX4_minister_23 : decode cX4_minister 23 = .ok (.invokevirtual 200, 3) := dk_182 0 200 (dk_at dksX4_minister_1 0 rfl rfl)
theorem dX4_minister_26 : decode cX4_minister 26 = .ok (.iload_n 2, 1) := dk_28 (dk_at dksX4_minister_1 3 rfl rfl)
theorem dX4_minister_27 : decode cX4_minister 27 = .ok (.iconst 2, 1) := dk_5 (dk_at dksX4_minister_1 4 rfl rfl)
theorem dX4_minister_28 : decode cX4_minister 28 = .ok (.if_icmp .ge 10, 3) := dk_162 0 10 (dk_at dksX4_minister_1 5 rfl rfl)
theorem dX4_minister_31 : decode cX4_minister 31 = .ok (.aload_n 0, 1) := dk_42 (dk_at dksX4_minister_1 8 rfl rfl)
theorem dX4_minister_32 : decode cX4_minister 32 = .ok (.iload_n 1, 1) := dk_27 (dk_at dksX4_minister_1 9 rfl rfl)
theorem dX4_minister_33 : decode cX4_minister 33 = .ok (.iload_n 2, 1) := dk_28 (dk_at dksX4_minister_1 10 rfl rfl)
theorem dX4_minister_34 : decode cX4_minister 34 = .ok (.invokevirtual 157, 3) := dk_182 0 157 (dk_at dksX4_minister_1 11 rfl rfl)
theorem dX4_minister_37 : decode cX4_minister 37 = .ok (.ireturn, 1) := dk_172 (dk_at dksX4_minister_1 14 rfl rfl)
theorem dX4_minister_38 : decode cX4_minister 38 = .ok (.aload_n 0, 1) := dk_42 (dk_at dksX4_minister_1 15 rfl rfl)
theorem dX4_minister_39 : decode cX4_minister 39 = .ok (.aload_n 0, 1) := dk_42 (dk_at dksX4_minister_1 16 rfl rfl)
theorem dX4_minister_40 : decode cX4_minister 40 = .ok (.iload_n 1, 1) := dk_27 (dk_at dksX4_minister_1 17 rfl rfl)
theorem dX4_minister_41 : decode cX4_minister 41 = .ok (.iconst 1, 1) := dk_4 (dk_at dksX4_minister_1 18 rfl rfl)
theorem dX4_minister_42 : decode cX4_minister 42 = .ok (.invokevirtual 157, 3) := dk_182 0 157 (dk_at dksX4_minister_1 19 rfl rfl)
theorem dX4_minister_45 : decode cX4_minister 45 = .ok (.invokevirtual 214, 3) := dk_182 0 214 (dk_at dksX4_minister_2 0 rfl rfl)
theorem dX4_minister_48 : decode cX4_minister 48 = .ok (.istore_n 3, 1) := dk_62 (dk_at dksX4_minister_2 3 rfl rfl)
theorem dX4_minister_49 : decode cX4_minister 49 = .ok (.iconst 0, 1) := dk_3 (dk_at dksX4_minister_2 4 rfl rfl)
theorem dX4_minister_50 : decode cX4_minister 50 = .ok (.istore 4, 2) := dk_54 4 (dk_at dksX4_minister_2 5 rfl rfl)
theorem dX4_minister_52 : decode cX4_minister 52 = .ok (.iconst 0, 1) := dk_3 (dk_at dksX4_minister_2 7 rfl rfl)
theorem dX4_minister_53 : decode cX4_minister 53 = .ok (.istore 5, 2) := dk_54 5 (dk_at dksX4_minister_2 8 rfl rfl)
theorem dX4_minister_55 : decode cX4_minister 55 = .ok (.iload 5, 2) := dk_21 5 (dk_at dksX4_minister_2 10 rfl rfl)
theorem dX4_minister_57 : decode cX4_minister 57 = .ok (.aload_n 0, 1) := dk_42 (dk_at dksX4_minister_2 12 rfl rfl)
theorem dX4_minister_58 : decode cX4_minister 58 = .ok (.getfield 68, 3) := dk_180 0 68 (dk_at dksX4_minister_2 13 rfl rfl)
theorem dX4_minister_61 : decode cX4_minister 61 = .ok (.if_icmp .ge 37, 3) := dk_162 0 37 (dk_at dksX4_minister_2 16 rfl rfl)
theorem dX4_minister_64 : decode cX4_minister 64 = .ok (.iload 4, 2) := dk_21 4 (dk_at dksX4_minister_2 19 rfl rfl)
theorem dX4_minister_66 : decode cX4_minister 66 = .ok (.iload_n 3, 1) := dk_29 (dk_at dksX4_minister_2 21 rfl rfl)
theorem dX4_minister_67 : decode cX4_minister 67 = .ok (.iload 5, 2) := dk_21 5 (dk_at dksX4_minister_2 22 rfl rfl)
theorem dX4_minister_69 : decode cX4_minister 69 = .ok (.ishr, 1) := dk_122 (dk_at dksX4_minister_3 0 rfl rfl)
theorem dX4_minister_70 : decode cX4_minister 70 = .ok (.iconst 1, 1) := dk_4 (dk_at dksX4_minister_3 1 rfl rfl)
theorem dX4_minister_71 : decode cX4_minister 71 = .ok (.iand, 1) := dk_126 (dk_at dksX4_minister_3 2 rfl rfl)
theorem dX4_minister_72 : decode cX4_minister 72 = .ok (.aload_n 0, 1) := dk_42 (dk_at dksX4_minister_3 3 rfl rfl)
theorem dX4_minister_73 : decode cX4_minister 73 = .ok (.iload 5, 2) := dk_21 5 (dk_at dksX4_minister_3 4 rfl rfl)
theorem dX4_minister_75 : decode cX4_minister 75 = .ok (.iconst 0, 1) := dk_3 (dk_at dksX4_minister_3 6 rfl rfl)
theorem dX4_minister_76 : decode cX4_minister 76 = .ok (.invokevirtual 160, 3) := dk_182 0 160 (dk_at dksX4_minister_3 7 rfl rfl)
theorem dX4_minister_79 : decode cX4_minister 79 = .ok (.aload_n 0, 1) := dk_42 (dk_at dksX4_minister_3 10 rfl rfl)
theorem dX4_minister_80 : decode cX4_minister 80 = .ok (.iload_n 1, 1) := dk_27 (dk_at dksX4_minister_3 11 rfl rfl)
theorem dX4_minister_81 : decode cX4_minister 81 = .ok (.iconst 0, 1) := dk_3 (dk_at dksX4_minister_3 12 rfl rfl)
theorem dX4_minister_82 : decode cX4_minister 82 = .ok (.invokevirtual 157, 3) := dk_182 0 157 (dk_at dksX4_minister_3 13 rfl rfl)
theorem dX4_minister_85 : decode cX4_minister 85 = .ok (.invokestatic 173, 3) := dk_184 0 173 (dk_at dksX4_minister_3 16 rfl rfl)
theorem dX4_minister_88 : decode cX4_minister 88 = .ok (.imul, 1) := dk_104 (dk_at dksX4_minister_3 19 rfl rfl)
theorem dX4_minister_89 : decode cX4_minister 89 = .ok (.iadd, 1) := dk_96 (dk_at dksX4_minister_3 20 rfl rfl)
theorem dX4_minister_90 : decode cX4_minister 90 = .ok (.istore 4, 2) := dk_54 4 (dk_at dksX4_minister_3 21 rfl rfl)
theorem dX4_minister_92 : decode cX4_minister 92 = .ok (.iinc 5 1, 3) := dk_132 5 1 (dk_at dksX4_minister_4 0 rfl rfl)
theorem dX4_minister_95 : decode cX4_minister 95 = .ok (.goto (-40), 3) := dk_167 255 216 (dk_at dksX4_minister_4 3 rfl rfl)
theorem dX4_minister_98 : decode cX4_minister 98 = .ok (.iload_n 2, 1) := dk_28 (dk_at dksX4_minister_4 6 rfl rfl)
theorem dX4_minister_99 : decode cX4_minister 99 = .ok (.iconst 2, 1) := dk_5 (dk_at dksX4_minister_4 7 rfl rfl)
theorem dX4_minister_100 : decode cX4_minister 100 = .ok (.if_icmp .ne 7, 3) := dk_160 0 7 (dk_at dksX4_minister_4 8 rfl rfl)
theorem dX4_minister_103 : decode cX4_minister 103 = .ok (.iload_n 3, 1) := dk_29 (dk_at dksX4_minister_4 11 rfl rfl)
theorem dX4_minister_104 : decode cX4_minister 104 = .ok (.goto 5, 3) := dk_167 0 5 (dk_at dksX4_minister_4 12 rfl rfl)
theorem dX4_minister_107 : decode cX4_minister 107 = .ok (.iload 4, 2) := dk_21 4 (dk_at dksX4_minister_4 15 rfl rfl)
theorem dX4_minister_109 : decode cX4_minister 109 = .ok (.ireturn, 1) := dk_172 (dk_at dksX4_minister_4 17 rfl rfl)
abbrev cX4_isMinister : ByteArray := prog_12_method_25_code
def yX4_isMinister : MethodName := ⟨RX4, "isMinister", "(I)Z"⟩
def dkwX4_isMinister_0 : List UInt8 := [27, 133, 9, 42, 180, 0, 71, 4, 100, 133, 184, 0, 76, 172]
abbrev dktX4_isMinister_0 : List UInt8 := dkwX4_isMinister_0 ++ []
theorem dksX4_isMinister_0 : cX4_isMinister.data.toList.drop 0 = dktX4_isMinister_0 := by decide +kernel
theorem dX4_isMinister_0 : decode cX4_isMinister 0 = .ok (.iload_n 1, 1) := dk_27 (dk_at dksX4_isMinister_0 0 rfl rfl)
theorem dX4_isMinister_1 : decode cX4_isMinister 1 = .ok (.i2l, 1) := dk_133 (dk_at dksX4_isMinister_0 1 rfl rfl)
theorem dX4_isMinister_2 : decode cX4_isMinister 2 = .ok (.lconst 0, 1) := dk_9 (dk_at dksX4_isMinister_0 2 rfl rfl)
theorem dX4_isMinister_3 : decode cX4_isMinister 3 = .ok (.aload_n 0, 1) := dk_42 (dk_at dksX4_isMinister_0 3 rfl rfl)
theorem dX4_isMinister_4 : decode cX4_isMinister 4 = .ok (.getfield 71, 3) := dk_180 0 71 (dk_at dksX4_isMinister_0 4 rfl rfl)
theorem dX4_isMinister_7 : decode cX4_isMinister 7 = .ok (.iconst 1, 1) := dk_4 (dk_at dksX4_isMinister_0 7 rfl rfl)
theorem dX4_isMinister_8 : decode cX4_isMinister 8 = .ok (.isub, 1) := dk_100 (dk_at dksX4_isMinister_0 8 rfl rfl)
theorem dX4_isMinister_9 : decode cX4_isMinister 9 = .ok (.i2l, 1) := dk_133 (dk_at dksX4_isMinister_0 9 rfl rfl)
theorem dX4_isMinister_10 : decode cX4_isMinister 10 = .ok (.invokestatic 76, 3) := dk_184 0 76 (dk_at dksX4_isMinister_0 10 rfl rfl)
theorem dX4_isMinister_13 : decode cX4_isMinister 13 = .ok (.ireturn, 1) := dk_172 (dk_at dksX4_isMinister_0 13 rfl rfl)
abbrev cX4_angered : ByteArray := prog_12_method_35_code
def yX4_angered : MethodName := ⟨RX4, "angered", "(II)I"⟩
def dkwX4_angered_1 : List UInt8 := [26, 6, 160, 0, 9, 28, 4, 96, 167, 0, 4, 27, 172]
abbrev dktX4_angered_1 : List UInt8 := dkwX4_angered_1 ++ []
def dkwX4_angered_0 : List UInt8 := [27, 5, 108, 61, 26, 4, 160, 0, 9, 5, 27, 104, 167, 0, 24, 26, 5, 160, 0, 7, 28, 167, 0, 15]
abbrev dktX4_angered_0 : List UInt8 := dkwX4_angered_0 ++ dktX4_angered_1
theorem dksX4_angered_0 : cX4_angered.data.toList.drop 0 = dktX4_angered_0 := by decide +kernel
theorem dksX4_angered_1 : cX4_angered.data.toList.drop 24 = dktX4_angered_1 := dk_seg dksX4_angered_0 24 rfl rfl
theorem dX4_angered_0 : decode cX4_angered 0 = .ok (.iload_n 1, 1) := dk_27 (dk_at dksX4_angered_0 0 rfl rfl)
theorem dX4_angered_1 : decode cX4_angered 1 = .ok (.iconst 2, 1) := dk_5 (dk_at dksX4_angered_0 1 rfl rfl)
theorem dX4_angered_2 : decode cX4_angered 2 = .ok (.idiv, 1) := dk_108 (dk_at dksX4_angered_0 2 rfl rfl)
theorem dX4_angered_3 : decode cX4_angered 3 = .ok (.istore_n 2, 1) := dk_61 (dk_at dksX4_angered_0 3 rfl rfl)
theorem dX4_angered_4 : decode cX4_angered 4 = .ok (.iload_n 0, 1) := dk_26 (dk_at dksX4_angered_0 4 rfl rfl)
theorem dX4_angered_5 : decode cX4_angered 5 = .ok (.iconst 1, 1) := dk_4 (dk_at dksX4_angered_0 5 rfl rfl)
theorem dX4_angered_6 : decode cX4_angered 6 = .ok (.if_icmp .ne 9, 3) := dk_160 0 9 (dk_at dksX4_angered_0 6 rfl rfl)
theorem dX4_angered_9 : decode cX4_angered 9 = .ok (.iconst 2, 1) := dk_5 (dk_at dksX4_angered_0 9 rfl rfl)
theorem dX4_angered_10 : decode cX4_angered 10 = .ok (.iload_n 1, 1) := dk_27 (dk_at dksX4_angered_0 10 rfl rfl)
theorem dX4_angered_11 : decode cX4_angered 11 = .ok (.imul, 1) := dk_104 (dk_at dksX4_angered_0 11 rfl rfl)
theorem dX4_angered_12 : decode cX4_angered 12 = .ok (.goto 24, 3) := dk_167 0 24 (dk_at dksX4_angered_0 12 rfl rfl)
theorem dX4_angered_15 : decode cX4_angered 15 = .ok (.iload_n 0, 1) := dk_26 (dk_at dksX4_angered_0 15 rfl rfl)
theorem dX4_angered_16 : decode cX4_angered 16 = .ok (.iconst 2, 1) := dk_5 (dk_at dksX4_angered_0 16 rfl rfl)
theorem dX4_angered_17 : decode cX4_angered 17 = .ok (.if_icmp .ne 7, 3) := dk_160 0 7 (dk_at dksX4_angered_0 17 rfl rfl)
theorem dX4_angered_20 : decode cX4_angered 20 = .ok (.iload_n 2, 1) := dk_28 (dk_at dksX4_angered_0 20 rfl rfl)
theorem dX4_angered_21 : decode cX4_angered 21 = .ok (.goto 15, 3) := dk_167 0 15 (dk_at dksX4_angered_0 21 rfl rfl)
theorem dX4_angered_24 : decode cX4_angered 24 = .ok (.iload_n 0, 1) := dk_26 (dk_at dksX4_angered_1 0 rfl rfl)
theorem dX4_angered_25 : decode cX4_angered 25 = .ok (.iconst 3, 1) := dk_6 (dk_at dksX4_angered_1 1 rfl rfl)
theorem dX4_angered_26 : decode cX4_angered 26 = .ok (.if_icmp .ne 9, 3) := dk_160 0 9 (dk_at dksX4_angered_1 2 rfl rfl)
theorem dX4_angered_29 : decode cX4_angered 29 = .ok (.iload_n 2, 1) := dk_28 (dk_at dksX4_angered_1 5 rfl rfl)
theorem dX4_angered_30 : decode cX4_angered 30 = .ok (.iconst 1, 1) := dk_4 (dk_at dksX4_angered_1 6 rfl rfl)
theorem dX4_angered_31 : decode cX4_angered 31 = .ok (.iadd, 1) := dk_96 (dk_at dksX4_angered_1 7 rfl rfl)
theorem dX4_angered_32 : decode cX4_angered 32 = .ok (.goto 4, 3) := dk_167 0 4 (dk_at dksX4_angered_1 8 rfl rfl)
theorem dX4_angered_35 : decode cX4_angered 35 = .ok (.iload_n 1, 1) := dk_27 (dk_at dksX4_angered_1 11 rfl rfl)
theorem dX4_angered_36 : decode cX4_angered 36 = .ok (.ireturn, 1) := dk_172 (dk_at dksX4_angered_1 12 rfl rfl)
abbrev cX4_alter : ByteArray := prog_12_method_50_code
def yX4_alter : MethodName := ⟨RX4, "alter", "(III)I"⟩
def dkwX4_alter_3 : List UInt8 := [104, 96, 28, 96, 29, 182, 0, 225, 167, 0, 4, 2, 172]
abbrev dktX4_alter_3 : List UInt8 := dkwX4_alter_3 ++ []
def dkwX4_alter_2 : List UInt8 := [167, 0, 4, 3, 54, 4, 42, 27, 182, 0, 217, 153, 0, 24, 21, 4, 153, 0, 19, 42, 16, 12, 6, 27]
abbrev dktX4_alter_2 : List UInt8 := dkwX4_alter_2 ++ dktX4_alter_3
def dkwX4_alter_1 : List UInt8 := [184, 0, 209, 167, 0, 25, 28, 5, 160, 0, 19, 29, 133, 9, 20, 0, 223, 184, 0, 76, 153, 0, 7, 4]
abbrev dktX4_alter_1 : List UInt8 := dkwX4_alter_1 ++ dktX4_alter_2
def dkwX4_alter_0 : List UInt8 := [28, 154, 0, 15, 29, 133, 9, 20, 0, 212, 184, 0, 76, 167, 0, 37, 28, 4, 160, 0, 10, 29]
abbrev dktX4_alter_0 : List UInt8 := dkwX4_alter_0 ++ dktX4_alter_1
theorem dksX4_alter_0 : cX4_alter.data.toList.drop 0 = dktX4_alter_0 := by decide +kernel
theorem dksX4_alter_1 : cX4_alter.data.toList.drop 22 = dktX4_alter_1 := dk_seg dksX4_alter_0 22 rfl rfl
theorem dksX4_alter_2 : cX4_alter.data.toList.drop 46 = dktX4_alter_2 := dk_seg dksX4_alter_1 24 rfl rfl
theorem dksX4_alter_3 : cX4_alter.data.toList.drop 70 = dktX4_alter_3 := dk_seg dksX4_alter_2 24 rfl rfl
theorem dX4_alter_0 : decode cX4_alter 0 = .ok (.iload_n 2, 1) := dk_28 (dk_at dksX4_alter_0 0 rfl rfl)
theorem dX4_alter_1 : decode cX4_alter 1 = .ok (.ifCond .ne 15, 3) := dk_154 0 15 (dk_at dksX4_alter_0 1 rfl rfl)
theorem dX4_alter_4 : decode cX4_alter 4 = .ok (.iload_n 3, 1) := dk_29 (dk_at dksX4_alter_0 4 rfl rfl)
theorem dX4_alter_5 : decode cX4_alter 5 = .ok (.i2l, 1) := dk_133 (dk_at dksX4_alter_0 5 rfl rfl)
theorem dX4_alter_6 : decode cX4_alter 6 = .ok (.lconst 0, 1) := dk_9 (dk_at dksX4_alter_0 6 rfl rfl)
theorem dX4_alter_7 : decode cX4_alter 7 = .ok (.ldc2_w 212, 3) := dk_20 0 212 (dk_at dksX4_alter_0 7 rfl rfl)
theorem dX4_alter_10 : decode cX4_alter 10 = .ok (.invokestatic 76, 3) := dk_184 0 76 (dk_at dksX4_alter_0 10 rfl rfl)
theorem dX4_alter_13 : decode cX4_alter 13 = .ok (.goto 37, 3) := dk_167 0 37 (dk_at dksX4_alter_0 13 rfl rfl)
theorem dX4_alter_16 : decode cX4_alter 16 = .ok (.iload_n 2, 1) := dk_28 (dk_at dksX4_alter_0 16 rfl rfl)
theorem dX4_alter_17 : decode cX4_alter 17 = .ok (.iconst 1, 1) := dk_4 (dk_at dksX4_alter_0 17 rfl rfl)
theorem dX4_alter_18 : decode cX4_alter 18 = .ok (.if_icmp .ne 10, 3) := dk_160 0 10 (dk_at dksX4_alter_0 18 rfl rfl)
theorem dX4_alter_21 : decode cX4_alter 21 = .ok (.iload_n 3, 1) := dk_29 (dk_at dksX4_alter_0 21 rfl rfl)
theorem dX4_alter_22 : decode cX4_alter 22 = .ok (.invokestatic 209, 3) := dk_184 0 209 (dk_at dksX4_alter_1 0 rfl rfl)
theorem dX4_alter_25 : decode cX4_alter 25 = .ok (.goto 25, 3) := dk_167 0 25 (dk_at dksX4_alter_1 3 rfl rfl)
theorem dX4_alter_28 : decode cX4_alter 28 = .ok (.iload_n 2, 1) := dk_28 (dk_at dksX4_alter_1 6 rfl rfl)
theorem dX4_alter_29 : decode cX4_alter 29 = .ok (.iconst 2, 1) := dk_5 (dk_at dksX4_alter_1 7 rfl rfl)
theorem dX4_alter_30 : decode cX4_alter 30 = .ok (.if_icmp .ne 19, 3) := dk_160 0 19 (dk_at dksX4_alter_1 8 rfl rfl)
theorem dX4_alter_33 : decode cX4_alter 33 = .ok (.iload_n 3, 1) := dk_29 (dk_at dksX4_alter_1 11 rfl rfl)
theorem dX4_alter_34 : decode cX4_alter 34 = .ok (.i2l, 1) := dk_133 (dk_at dksX4_alter_1 12 rfl rfl)
theorem dX4_alter_35 : decode cX4_alter 35 = .ok (.lconst 0, 1) := dk_9 (dk_at dksX4_alter_1 13 rfl rfl)
theorem dX4_alter_36 : decode cX4_alter 36 = .ok (.ldc2_w 223, 3) := dk_20 0 223 (dk_at dksX4_alter_1 14 rfl rfl)
theorem dX4_alter_39 : decode cX4_alter 39 = .ok (.invokestatic 76, 3) := dk_184 0 76 (dk_at dksX4_alter_1 17 rfl rfl)
theorem dX4_alter_42 : decode cX4_alter 42 = .ok (.ifCond .eq 7, 3) := dk_153 0 7 (dk_at dksX4_alter_1 20 rfl rfl)
theorem dX4_alter_45 : decode cX4_alter 45 = .ok (.iconst 1, 1) := dk_4 (dk_at dksX4_alter_1 23 rfl rfl)
theorem dX4_alter_46 : decode cX4_alter 46 = .ok (.goto 4, 3) := dk_167 0 4 (dk_at dksX4_alter_2 0 rfl rfl)
theorem dX4_alter_49 : decode cX4_alter 49 = .ok (.iconst 0, 1) := dk_3 (dk_at dksX4_alter_2 3 rfl rfl)
theorem dX4_alter_50 : decode cX4_alter 50 = .ok (.istore 4, 2) := dk_54 4 (dk_at dksX4_alter_2 4 rfl rfl)
theorem dX4_alter_52 : decode cX4_alter 52 = .ok (.aload_n 0, 1) := dk_42 (dk_at dksX4_alter_2 6 rfl rfl)
theorem dX4_alter_53 : decode cX4_alter 53 = .ok (.iload_n 1, 1) := dk_27 (dk_at dksX4_alter_2 7 rfl rfl)
theorem dX4_alter_54 : decode cX4_alter 54 = .ok (.invokevirtual 217, 3) := dk_182 0 217 (dk_at dksX4_alter_2 8 rfl rfl)
theorem dX4_alter_57 : decode cX4_alter 57 = .ok (.ifCond .eq 24, 3) := dk_153 0 24 (dk_at dksX4_alter_2 11 rfl rfl)
theorem dX4_alter_60 : decode cX4_alter 60 = .ok (.iload 4, 2) := dk_21 4 (dk_at dksX4_alter_2 14 rfl rfl)
theorem dX4_alter_62 : decode cX4_alter 62 = .ok (.ifCond .eq 19, 3) := dk_153 0 19 (dk_at dksX4_alter_2 16 rfl rfl)
theorem dX4_alter_65 : decode cX4_alter 65 = .ok (.aload_n 0, 1) := dk_42 (dk_at dksX4_alter_2 19 rfl rfl)
theorem dX4_alter_66 : decode cX4_alter 66 = .ok (.bipush 12, 2) := dk_16 12 (dk_at dksX4_alter_2 20 rfl rfl)
theorem dX4_alter_68 : decode cX4_alter 68 = .ok (.iconst 3, 1) := dk_6 (dk_at dksX4_alter_2 22 rfl rfl)
theorem dX4_alter_69 : decode cX4_alter 69 = .ok (.iload_n 1, 1) := dk_27 (dk_at dksX4_alter_2 23 rfl rfl)
theorem dX4_alter_70 : decode cX4_alter 70 = .ok (.imul, 1) := dk_104 (dk_at dksX4_alter_3 0 rfl rfl)
theorem dX4_alter_71 : decode cX4_alter 71 = .ok (.iadd, 1) := dk_96 (dk_at dksX4_alter_3 1 rfl rfl)
theorem dX4_alter_72 : decode cX4_alter 72 = .ok (.iload_n 2, 1) := dk_28 (dk_at dksX4_alter_3 2 rfl rfl)
theorem dX4_alter_73 : decode cX4_alter 73 = .ok (.iadd, 1) := dk_96 (dk_at dksX4_alter_3 3 rfl rfl)
theorem dX4_alter_74 : decode cX4_alter 74 = .ok (.iload_n 3, 1) := dk_29 (dk_at dksX4_alter_3 4 rfl rfl)
theorem dX4_alter_75 : decode cX4_alter 75 = .ok (.invokevirtual 225, 3) := dk_182 0 225 (dk_at dksX4_alter_3 5 rfl rfl)
theorem dX4_alter_78 : decode cX4_alter 78 = .ok (.goto 4, 3) := dk_167 0 4 (dk_at dksX4_alter_3 8 rfl rfl)
theorem dX4_alter_81 : decode cX4_alter 81 = .ok (.iconst (-1), 1) := dk_2 (dk_at dksX4_alter_3 11 rfl rfl)
theorem dX4_alter_82 : decode cX4_alter 82 = .ok (.ireturn, 1) := dk_172 (dk_at dksX4_alter_3 12 rfl rfl)
abbrev cX4_becomes : ByteArray := prog_12_method_49_code
def yX4_becomes : MethodName := ⟨RX4, "becomes", "(II)I"⟩
def dkwX4_becomes_0 : List UInt8 := [42, 180, 0, 7, 27, 46, 62, 42, 180, 0, 7, 27, 28, 79, 29, 172]
abbrev dktX4_becomes_0 : List UInt8 := dkwX4_becomes_0 ++ []
theorem dksX4_becomes_0 : cX4_becomes.data.toList.drop 0 = dktX4_becomes_0 := by decide +kernel
theorem dX4_becomes_0 : decode cX4_becomes 0 = .ok (.aload_n 0, 1) := dk_42 (dk_at dksX4_becomes_0 0 rfl rfl)
theorem dX4_becomes_1 : decode cX4_becomes 1 = .ok (.getfield 7, 3) := dk_180 0 7 (dk_at dksX4_becomes_0 1 rfl rfl)
theorem dX4_becomes_4 : decode cX4_becomes 4 = .ok (.iload_n 1, 1) := dk_27 (dk_at dksX4_becomes_0 4 rfl rfl)
theorem dX4_becomes_5 : decode cX4_becomes 5 = .ok (.iaload, 1) := dk_46 (dk_at dksX4_becomes_0 5 rfl rfl)
theorem dX4_becomes_6 : decode cX4_becomes 6 = .ok (.istore_n 3, 1) := dk_62 (dk_at dksX4_becomes_0 6 rfl rfl)
theorem dX4_becomes_7 : decode cX4_becomes 7 = .ok (.aload_n 0, 1) := dk_42 (dk_at dksX4_becomes_0 7 rfl rfl)
theorem dX4_becomes_8 : decode cX4_becomes 8 = .ok (.getfield 7, 3) := dk_180 0 7 (dk_at dksX4_becomes_0 8 rfl rfl)
theorem dX4_becomes_11 : decode cX4_becomes 11 = .ok (.iload_n 1, 1) := dk_27 (dk_at dksX4_becomes_0 11 rfl rfl)
theorem dX4_becomes_12 : decode cX4_becomes 12 = .ok (.iload_n 2, 1) := dk_28 (dk_at dksX4_becomes_0 12 rfl rfl)
theorem dX4_becomes_13 : decode cX4_becomes 13 = .ok (.iastore, 1) := dk_79 (dk_at dksX4_becomes_0 13 rfl rfl)
theorem dX4_becomes_14 : decode cX4_becomes 14 = .ok (.iload_n 3, 1) := dk_29 (dk_at dksX4_becomes_0 14 rfl rfl)
theorem dX4_becomes_15 : decode cX4_becomes 15 = .ok (.ireturn, 1) := dk_172 (dk_at dksX4_becomes_0 15 rfl rfl)
abbrev cX4_tread : ByteArray := prog_12_method_51_code
def yX4_tread : MethodName := ⟨RX4, "tread", "(II)I"⟩
def dkwX4_tread_1 : List UInt8 := [27, 104, 96, 3, 96, 28, 182, 0, 225, 167, 0, 4, 2, 172]
abbrev dktX4_tread_1 : List UInt8 := dkwX4_tread_1 ++ []
def dkwX4_tread_0 : List UInt8 := [42, 27, 182, 0, 220, 153, 0, 31, 28, 133, 9, 20, 0, 228, 184, 0, 76, 153, 0, 19, 42, 16, 30, 5]
abbrev dktX4_tread_0 : List UInt8 := dkwX4_tread_0 ++ dktX4_tread_1
theorem dksX4_tread_0 : cX4_tread.data.toList.drop 0 = dktX4_tread_0 := by decide +kernel
theorem dksX4_tread_1 : cX4_tread.data.toList.drop 24 = dktX4_tread_1 := dk_seg dksX4_tread_0 24 rfl rfl
theorem dX4_tread_0 : decode cX4_tread 0 = .ok (.aload_n 0, 1) := dk_42 (dk_at dksX4_tread_0 0 rfl rfl)
theorem dX4_tread_1 : decode cX4_tread 1 = .ok (.iload_n 1, 1) := dk_27 (dk_at dksX4_tread_0 1 rfl rfl)
theorem dX4_tread_2 : decode cX4_tread 2 = .ok (.invokevirtual 220, 3) := dk_182 0 220 (dk_at dksX4_tread_0 2 rfl rfl)
theorem dX4_tread_5 : decode cX4_tread 5 = .ok (.ifCond .eq 31, 3) := dk_153 0 31 (dk_at dksX4_tread_0 5 rfl rfl)
theorem dX4_tread_8 : decode cX4_tread 8 = .ok (.iload_n 2, 1) := dk_28 (dk_at dksX4_tread_0 8 rfl rfl)
theorem dX4_tread_9 : decode cX4_tread 9 = .ok (.i2l, 1) := dk_133 (dk_at dksX4_tread_0 9 rfl rfl)
theorem dX4_tread_10 : decode cX4_tread 10 = .ok (.lconst 0, 1) := dk_9 (dk_at dksX4_tread_0 10 rfl rfl)
theorem dX4_tread_11 : decode cX4_tread 11 = .ok (.ldc2_w 228, 3) := dk_20 0 228 (dk_at dksX4_tread_0 11 rfl rfl)
theorem dX4_tread_14 : decode cX4_tread 14 = .ok (.invokestatic 76, 3) := dk_184 0 76 (dk_at dksX4_tread_0 14 rfl rfl)
theorem dX4_tread_17 : decode cX4_tread 17 = .ok (.ifCond .eq 19, 3) := dk_153 0 19 (dk_at dksX4_tread_0 17 rfl rfl)
theorem dX4_tread_20 : decode cX4_tread 20 = .ok (.aload_n 0, 1) := dk_42 (dk_at dksX4_tread_0 20 rfl rfl)
theorem dX4_tread_21 : decode cX4_tread 21 = .ok (.bipush 30, 2) := dk_16 30 (dk_at dksX4_tread_0 21 rfl rfl)
theorem dX4_tread_23 : decode cX4_tread 23 = .ok (.iconst 2, 1) := dk_5 (dk_at dksX4_tread_0 23 rfl rfl)
theorem dX4_tread_24 : decode cX4_tread 24 = .ok (.iload_n 1, 1) := dk_27 (dk_at dksX4_tread_1 0 rfl rfl)
theorem dX4_tread_25 : decode cX4_tread 25 = .ok (.imul, 1) := dk_104 (dk_at dksX4_tread_1 1 rfl rfl)
theorem dX4_tread_26 : decode cX4_tread 26 = .ok (.iadd, 1) := dk_96 (dk_at dksX4_tread_1 2 rfl rfl)
theorem dX4_tread_27 : decode cX4_tread 27 = .ok (.iconst 0, 1) := dk_3 (dk_at dksX4_tread_1 3 rfl rfl)
theorem dX4_tread_28 : decode cX4_tread 28 = .ok (.iadd, 1) := dk_96 (dk_at dksX4_tread_1 4 rfl rfl)
theorem dX4_tread_29 : decode cX4_tread 29 = .ok (.iload_n 2, 1) := dk_28 (dk_at dksX4_tread_1 5 rfl rfl)
theorem dX4_tread_30 : decode cX4_tread 30 = .ok (.invokevirtual 225, 3) := dk_182 0 225 (dk_at dksX4_tread_1 6 rfl rfl)
theorem dX4_tread_33 : decode cX4_tread 33 = .ok (.goto 4, 3) := dk_167 0 4 (dk_at dksX4_tread_1 9 rfl rfl)
theorem dX4_tread_36 : decode cX4_tread 36 = .ok (.iconst (-1), 1) := dk_2 (dk_at dksX4_tread_1 12 rfl rfl)
theorem dX4_tread_37 : decode cX4_tread 37 = .ok (.ireturn, 1) := dk_172 (dk_at dksX4_tread_1 13 rfl rfl)
abbrev cX4_step : ByteArray := prog_12_method_52_code
def yX4_step : MethodName := ⟨RX4, "step", "(II)I"⟩
def dkwX4_step_2 : List UInt8 := [2, 172]
abbrev dktX4_step_2 : List UInt8 := dkwX4_step_2 ++ []
def dkwX4_step_1 : List UInt8 := [5, 27, 104, 96, 4, 96, 28, 16, 9, 160, 0, 8, 16, 252, 167, 0, 4, 28, 182, 0, 225, 167, 0, 4]
abbrev dktX4_step_1 : List UInt8 := dkwX4_step_1 ++ dktX4_step_2
def dkwX4_step_0 : List UInt8 := [42, 27, 182, 0, 220, 153, 0, 43, 28, 184, 0, 209, 154, 0, 9, 28, 16, 9, 160, 0, 30, 42, 16, 30]
abbrev dktX4_step_0 : List UInt8 := dkwX4_step_0 ++ dktX4_step_1
theorem dksX4_step_0 : cX4_step.data.toList.drop 0 = dktX4_step_0 := by decide +kernel
theorem dksX4_step_1 : cX4_step.data.toList.drop 24 = dktX4_step_1 := dk_seg dksX4_step_0 24 rfl rfl
theorem dksX4_step_2 : cX4_step.data.toList.drop 48 = dktX4_step_2 := dk_seg dksX4_step_1 24 rfl rfl
theorem dX4_step_0 : decode cX4_step 0 = .ok (.aload_n 0, 1) := dk_42 (dk_at dksX4_step_0 0 rfl rfl)
theorem dX4_step_1 : decode cX4_step 1 = .ok (.iload_n 1, 1) := dk_27 (dk_at dksX4_step_0 1 rfl rfl)
theorem dX4_step_2 : decode cX4_step 2 = .ok (.invokevirtual 220, 3) := dk_182 0 220 (dk_at dksX4_step_0 2 rfl rfl)
theorem dX4_step_5 : decode cX4_step 5 = .ok (.ifCond .eq 43, 3) := dk_153 0 43 (dk_at dksX4_step_0 5 rfl rfl)
theorem dX4_step_8 : decode cX4_step 8 = .ok (.iload_n 2, 1) := dk_28 (dk_at dksX4_step_0 8 rfl rfl)
theorem dX4_step_9 : decode cX4_step 9 = .ok (.invokestatic 209, 3) := dk_184 0 209 (dk_at dksX4_step_0 9 rfl rfl)
theorem dX4_step_12 : decode cX4_step 12 = .ok (.ifCond .ne 9, 3) := dk_154 0 9 (dk_at dksX4_step_0 12 rfl rfl)
theorem dX4_step_15 : decode cX4_step 15 = .ok (.iload_n 2, 1) := dk_28 (dk_at dksX4_step_0 15 rfl rfl)
theorem dX4_step_16 : decode cX4_step 16 = .ok (.bipush 9, 2) := dk_16 9 (dk_at dksX4_step_0 16 rfl rfl)
theorem dX4_step_18 : decode cX4_step 18 = .ok (.if_icmp .ne 30, 3) := dk_160 0 30 (dk_at dksX4_step_0 18 rfl rfl)
theorem dX4_step_21 : decode cX4_step 21 = .ok (.aload_n 0, 1) := dk_42 (dk_at dksX4_step_0 21 rfl rfl)
theorem dX4_step_22 : decode cX4_step 22 = .ok (.bipush 30, 2) := dk_16 30 (dk_at dksX4_step_0 22 rfl rfl)
theorem dX4_step_24 : decode cX4_step 24 = .ok (.iconst 2, 1) := dk_5 (dk_at dksX4_step_1 0 rfl rfl)
theorem dX4_step_25 : decode cX4_step 25 = .ok (.iload_n 1, 1) := dk_27 (dk_at dksX4_step_1 1 rfl rfl)
theorem dX4_step_26 : decode cX4_step 26 = .ok (.imul, 1) := dk_104 (dk_at dksX4_step_1 2 rfl rfl)
theorem dX4_step_27 : decode cX4_step 27 = .ok (.iadd, 1) := dk_96 (dk_at dksX4_step_1 3 rfl rfl)
theorem dX4_step_28 : decode cX4_step 28 = .ok (.iconst 1, 1) := dk_4 (dk_at dksX4_step_1 4 rfl rfl)
theorem dX4_step_29 : decode cX4_step 29 = .ok (.iadd, 1) := dk_96 (dk_at dksX4_step_1 5 rfl rfl)
theorem dX4_step_30 : decode cX4_step 30 = .ok (.iload_n 2, 1) := dk_28 (dk_at dksX4_step_1 6 rfl rfl)
theorem dX4_step_31 : decode cX4_step 31 = .ok (.bipush 9, 2) := dk_16 9 (dk_at dksX4_step_1 7 rfl rfl)
theorem dX4_step_33 : decode cX4_step 33 = .ok (.if_icmp .ne 8, 3) := dk_160 0 8 (dk_at dksX4_step_1 9 rfl rfl)
theorem dX4_step_36 : decode cX4_step 36 = .ok (.bipush (-4), 2) := dk_16 252 (dk_at dksX4_step_1 12 rfl rfl)
theorem dX4_step_38 : decode cX4_step 38 = .ok (.goto 4, 3) := dk_167 0 4 (dk_at dksX4_step_1 14 rfl rfl)
theorem dX4_step_41 : decode cX4_step 41 = .ok (.iload_n 2, 1) := dk_28 (dk_at dksX4_step_1 17 rfl rfl)
theorem dX4_step_42 : decode cX4_step 42 = .ok (.invokevirtual 225, 3) := dk_182 0 225 (dk_at dksX4_step_1 18 rfl rfl)
theorem dX4_step_45 : decode cX4_step 45 = .ok (.goto 4, 3) := dk_167 0 4 (dk_at dksX4_step_1 21 rfl rfl)
theorem dX4_step_48 : decode cX4_step 48 = .ok (.iconst (-1), 1) := dk_2 (dk_at dksX4_step_2 0 rfl rfl)
theorem dX4_step_49 : decode cX4_step 49 = .ok (.ireturn, 1) := dk_172 (dk_at dksX4_step_2 1 rfl rfl)
abbrev cX4_bolt : ByteArray := prog_12_method_53_code
def yX4_bolt : MethodName := ⟨RX4, "bolt", "(III)I"⟩
def dkwX4_bolt_2 : List UInt8 := [21, 4, 153, 0, 16, 42, 5, 27, 104, 28, 96, 29, 182, 0, 225, 167, 0, 4, 2, 172]
abbrev dktX4_bolt_2 : List UInt8 := dkwX4_bolt_2 ++ []
def dkwX4_bolt_1 : List UInt8 := [20, 0, 212, 184, 0, 76, 153, 0, 7, 4, 167, 0, 4, 3, 54, 4, 27, 184, 0, 209, 153, 0, 21]
abbrev dktX4_bolt_1 : List UInt8 := dkwX4_bolt_1 ++ dktX4_bolt_2
def dkwX4_bolt_0 : List UInt8 := [28, 154, 0, 15, 29, 133, 9, 20, 0, 230, 184, 0, 76, 167, 0, 25, 28, 4, 160, 0, 19, 29, 133, 10]
abbrev dktX4_bolt_0 : List UInt8 := dkwX4_bolt_0 ++ dktX4_bolt_1
theorem dksX4_bolt_0 : cX4_bolt.data.toList.drop 0 = dktX4_bolt_0 := by decide +kernel
theorem dksX4_bolt_1 : cX4_bolt.data.toList.drop 24 = dktX4_bolt_1 := dk_seg dksX4_bolt_0 24 rfl rfl
theorem dksX4_bolt_2 : cX4_bolt.data.toList.drop 47 = dktX4_bolt_2 := dk_seg dksX4_bolt_1 23 rfl rfl
theorem dX4_bolt_0 : decode cX4_bolt 0 = .ok (.iload_n 2, 1) := dk_28 (dk_at dksX4_bolt_0 0 rfl rfl)
theorem dX4_bolt_1 : decode cX4_bolt 1 = .ok (.ifCond .ne 15, 3) := dk_154 0 15 (dk_at dksX4_bolt_0 1 rfl rfl)
theorem dX4_bolt_4 : decode cX4_bolt 4 = .ok (.iload_n 3, 1) := dk_29 (dk_at dksX4_bolt_0 4 rfl rfl)
theorem dX4_bolt_5 : decode cX4_bolt 5 = .ok (.i2l, 1) := dk_133 (dk_at dksX4_bolt_0 5 rfl rfl)
theorem dX4_bolt_6 : decode cX4_bolt 6 = .ok (.lconst 0, 1) := dk_9 (dk_at dksX4_bolt_0 6 rfl rfl)
theorem dX4_bolt_7 : decode cX4_bolt 7 = .ok (.ldc2_w 230, 3) := dk_20 0 230 (dk_at dksX4_bolt_0 7 rfl rfl)
theorem dX4_bolt_10 : decode cX4_bolt 10 = .ok (.invokestatic 76, 3) := dk_184 0 76 (dk_at dksX4_bolt_0 10 rfl rfl)
theorem dX4_bolt_13 : decode cX4_bolt 13 = .ok (.goto 25, 3) := dk_167 0 25 (dk_at dksX4_bolt_0 13 rfl rfl)
theorem dX4_bolt_16 : decode cX4_bolt 16 = .ok (.iload_n 2, 1) := dk_28 (dk_at dksX4_bolt_0 16 rfl rfl)
theorem dX4_bolt_17 : decode cX4_bolt 17 = .ok (.iconst 1, 1) := dk_4 (dk_at dksX4_bolt_0 17 rfl rfl)
theorem dX4_bolt_18 : decode cX4_bolt 18 = .ok (.if_icmp .ne 19, 3) := dk_160 0 19 (dk_at dksX4_bolt_0 18 rfl rfl)
theorem dX4_bolt_21 : decode cX4_bolt 21 = .ok (.iload_n 3, 1) := dk_29 (dk_at dksX4_bolt_0 21 rfl rfl)
theorem dX4_bolt_22 : decode cX4_bolt 22 = .ok (.i2l, 1) := dk_133 (dk_at dksX4_bolt_0 22 rfl rfl)
theorem dX4_bolt_23 : decode cX4_bolt 23 = .ok (.lconst 1, 1) := dk_10 (dk_at dksX4_bolt_0 23 rfl rfl)
theorem dX4_bolt_24 : decode cX4_bolt 24 = .ok (.ldc2_w 212, 3) := dk_20 0 212 (dk_at dksX4_bolt_1 0 rfl rfl)
theorem dX4_bolt_27 : decode cX4_bolt 27 = .ok (.invokestatic 76, 3) := dk_184 0 76 (dk_at dksX4_bolt_1 3 rfl rfl)
theorem dX4_bolt_30 : decode cX4_bolt 30 = .ok (.ifCond .eq 7, 3) := dk_153 0 7 (dk_at dksX4_bolt_1 6 rfl rfl)
theorem dX4_bolt_33 : decode cX4_bolt 33 = .ok (.iconst 1, 1) := dk_4 (dk_at dksX4_bolt_1 9 rfl rfl)
theorem dX4_bolt_34 : decode cX4_bolt 34 = .ok (.goto 4, 3) := dk_167 0 4 (dk_at dksX4_bolt_1 10 rfl rfl)
theorem dX4_bolt_37 : decode cX4_bolt 37 = .ok (.iconst 0, 1) := dk_3 (dk_at dksX4_bolt_1 13 rfl rfl)
theorem dX4_bolt_38 : decode cX4_bolt 38 = .ok (.istore 4, 2) := dk_54 4 (dk_at dksX4_bolt_1 14 rfl rfl)
theorem dX4_bolt_40 : decode cX4_bolt 40 = .ok (.iload_n 1, 1) := dk_27 (dk_at dksX4_bolt_1 16 rfl rfl)
theorem dX4_bolt_41 : decode cX4_bolt 41 = .ok (.invokestatic 209, 3) := dk_184 0 209 (dk_at dksX4_bolt_1 17 rfl rfl)
theorem dX4_bolt_44 : decode cX4_bolt 44 = .ok (.ifCond .eq 21, 3) := dk_153 0 21 (dk_at dksX4_bolt_1 20 rfl rfl)
theorem dX4_bolt_47 : decode cX4_bolt 47 = .ok (.iload 4, 2) := dk_21 4 (dk_at dksX4_bolt_2 0 rfl rfl)
theorem dX4_bolt_49 : decode cX4_bolt 49 = .ok (.ifCond .eq 16, 3) := dk_153 0 16 (dk_at dksX4_bolt_2 2 rfl rfl)
theorem dX4_bolt_52 : decode cX4_bolt 52 = .ok (.aload_n 0, 1) := dk_42 (dk_at dksX4_bolt_2 5 rfl rfl)
theorem dX4_bolt_53 : decode cX4_bolt 53 = .ok (.iconst 2, 1) := dk_5 (dk_at dksX4_bolt_2 6 rfl rfl)
theorem dX4_bolt_54 : decode cX4_bolt 54 = .ok (.iload_n 1, 1) := dk_27 (dk_at dksX4_bolt_2 7 rfl rfl)
theorem dX4_bolt_55 : decode cX4_bolt 55 = .ok (.imul, 1) := dk_104 (dk_at dksX4_bolt_2 8 rfl rfl)
theorem dX4_bolt_56 : decode cX4_bolt 56 = .ok (.iload_n 2, 1) := dk_28 (dk_at dksX4_bolt_2 9 rfl rfl)
theorem dX4_bolt_57 : decode cX4_bolt 57 = .ok (.iadd, 1) := dk_96 (dk_at dksX4_bolt_2 10 rfl rfl)
theorem dX4_bolt_58 : decode cX4_bolt 58 = .ok (.iload_n 3, 1) := dk_29 (dk_at dksX4_bolt_2 11 rfl rfl)
theorem dX4_bolt_59 : decode cX4_bolt 59 = .ok (.invokevirtual 225, 3) := dk_182 0 225 (dk_at dksX4_bolt_2 12 rfl rfl)
theorem dX4_bolt_62 : decode cX4_bolt 62 = .ok (.goto 4, 3) := dk_167 0 4 (dk_at dksX4_bolt_2 15 rfl rfl)
theorem dX4_bolt_65 : decode cX4_bolt 65 = .ok (.iconst (-1), 1) := dk_2 (dk_at dksX4_bolt_2 18 rfl rfl)
theorem dX4_bolt_66 : decode cX4_bolt 66 = .ok (.ireturn, 1) := dk_172 (dk_at dksX4_bolt_2 19 rfl rfl)
abbrev cX4_turns : ByteArray := prog_12_method_54_code
def yX4_turns : MethodName := ⟨RX4, "turns", "(I)I"⟩
def dkwX4_turns_2 : List UInt8 := [180, 0, 154, 172]
abbrev dktX4_turns_2 : List UInt8 := dkwX4_turns_2 ++ []
def dkwX4_turns_1 : List UInt8 := [17, 3, 231, 164, 0, 6, 16, 253, 172, 42, 182, 0, 200, 42, 27, 182, 0, 234, 42, 182, 0, 237, 42]
abbrev dktX4_turns_1 : List UInt8 := dkwX4_turns_1 ++ dktX4_turns_2
def dkwX4_turns_0 : List UInt8 := [27, 133, 9, 20, 0, 232, 184, 0, 76, 154, 0, 5, 2, 172, 42, 180, 0, 7, 16, 38, 46, 27, 96]
abbrev dktX4_turns_0 : List UInt8 := dkwX4_turns_0 ++ dktX4_turns_1
theorem dksX4_turns_0 : cX4_turns.data.toList.drop 0 = dktX4_turns_0 := by decide +kernel
theorem dksX4_turns_1 : cX4_turns.data.toList.drop 23 = dktX4_turns_1 := dk_seg dksX4_turns_0 23 rfl rfl
theorem dksX4_turns_2 : cX4_turns.data.toList.drop 46 = dktX4_turns_2 := dk_seg dksX4_turns_1 23 rfl rfl
theorem dX4_turns_0 : decode cX4_turns 0 = .ok (.iload_n 1, 1) := dk_27 (dk_at dksX4_turns_0 0 rfl rfl)
theorem dX4_turns_1 : decode cX4_turns 1 = .ok (.i2l, 1) := dk_133 (dk_at dksX4_turns_0 1 rfl rfl)
theorem dX4_turns_2 : decode cX4_turns 2 = .ok (.lconst 0, 1) := dk_9 (dk_at dksX4_turns_0 2 rfl rfl)
theorem dX4_turns_3 : decode cX4_turns 3 = .ok (.ldc2_w 232, 3) := dk_20 0 232 (dk_at dksX4_turns_0 3 rfl rfl)
theorem dX4_turns_6 : decode cX4_turns 6 = .ok (.invokestatic 76, 3) := dk_184 0 76 (dk_at dksX4_turns_0 6 rfl rfl)
theorem dX4_turns_9 : decode cX4_turns 9 = .ok (.ifCond .ne 5, 3) := dk_154 0 5 (dk_at dksX4_turns_0 9 rfl rfl)
theorem dX4_turns_12 : decode cX4_turns 12 = .ok (.iconst (-1), 1) := dk_2 (dk_at dksX4_turns_0 12 rfl rfl)
theorem dX4_turns_13 : decode cX4_turns 13 = .ok (.ireturn, 1) := dk_172 (dk_at dksX4_turns_0 13 rfl rfl)
theorem dX4_turns_14 : decode cX4_turns 14 = .ok (.aload_n 0, 1) := dk_42 (dk_at dksX4_turns_0 14 rfl rfl)
theorem dX4_turns_15 : decode cX4_turns 15 = .ok (.getfield 7, 3) := dk_180 0 7 (dk_at dksX4_turns_0 15 rfl rfl)
theorem dX4_turns_18 : decode cX4_turns 18 = .ok (.bipush 38, 2) := dk_16 38 (dk_at dksX4_turns_0 18 rfl rfl)
theorem dX4_turns_20 : decode cX4_turns 20 = .ok (.iaload, 1) := dk_46 (dk_at dksX4_turns_0 20 rfl rfl)
theorem dX4_turns_21 : decode cX4_turns 21 = .ok (.iload_n 1, 1) := dk_27 (dk_at dksX4_turns_0 21 rfl rfl)
theorem dX4_turns_22 : decode cX4_turns 22 = .ok (.iadd, 1) := dk_96 (dk_at dksX4_turns_0 22 rfl rfl)
theorem dX4_turns_23 : decode cX4_turns 23 = .ok (.sipush 999, 3) := dk_17 3 231 (dk_at dksX4_turns_1 0 rfl rfl)
theorem dX4_turns_26 : decode cX4_turns 26 = .ok (.if_icmp .le 6, 3) := dk_164 0 6 (dk_at dksX4_turns_1 3 rfl rfl)
theorem dX4_turns_29 : decode cX4_turns 29 = .ok (.bipush (-3), 2) := dk_16 253 (dk_at dksX4_turns_1 6 rfl rfl)
theorem dX4_turns_31 : decode cX4_turns 31 = .ok (.ireturn, 1) := dk_172 (dk_at dksX4_turns_1 8 rfl rfl)
theorem dX4_turns_32 : decode cX4_turns 32 = .ok (.aload_n 0, 1) := dk_42 (dk_at dksX4_turns_1 9 rfl rfl)
theorem dX4_turns_33 : decode cX4_turns 33 = .ok (.invokevirtual 200, 3) := dk_182 0 200 (dk_at dksX4_turns_1 10 rfl rfl)
theorem dX4_turns_36 : decode cX4_turns 36 = .ok (.aload_n 0, 1) := dk_42 (dk_at dksX4_turns_1 13 rfl rfl)
theorem dX4_turns_37 : decode cX4_turns 37 = .ok (.iload_n 1, 1) := dk_27 (dk_at dksX4_turns_1 14 rfl rfl)
theorem dX4_turns_38 : decode cX4_turns 38 = .ok (.invokevirtual 234, 3) := dk_182 0 234 (dk_at dksX4_turns_1 15 rfl rfl)
theorem dX4_turns_41 : decode cX4_turns 41 = .ok (.aload_n 0, 1) := dk_42 (dk_at dksX4_turns_1 18 rfl rfl)
theorem dX4_turns_42 : decode cX4_turns 42 = .ok (.invokevirtual 237, 3) := dk_182 0 237 (dk_at dksX4_turns_1 19 rfl rfl)
theorem dX4_turns_45 : decode cX4_turns 45 = .ok (.aload_n 0, 1) := dk_42 (dk_at dksX4_turns_1 22 rfl rfl)
theorem dX4_turns_46 : decode cX4_turns 46 = .ok (.getfield 154, 3) := dk_180 0 154 (dk_at dksX4_turns_2 0 rfl rfl)
theorem dX4_turns_49 : decode cX4_turns 49 = .ok (.ireturn, 1) := dk_172 (dk_at dksX4_turns_2 3 rfl rfl)
abbrev cX4_turnsGo : ByteArray := prog_12_method_41_code
def yX4_turnsGo : MethodName := ⟨RX4, "turnsGo", "(I)V"⟩
def dkwX4_turnsGo_0 : List UInt8 := [3, 61, 28, 27, 162, 0, 14, 42, 3, 182, 0, 196, 132, 2, 1, 167, 255, 243, 177]
abbrev dktX4_turnsGo_0 : List UInt8 := dkwX4_turnsGo_0 ++ []
theorem dksX4_turnsGo_0 : cX4_turnsGo.data.toList.drop 0 = dktX4_turnsGo_0 := by decide +kernel
theorem dX4_turnsGo_0 : decode cX4_turnsGo 0 = .ok (.iconst 0, 1) := dk_3 (dk_at dksX4_turnsGo_0 0 rfl rfl)
theorem dX4_turnsGo_1 : decode cX4_turnsGo 1 = .ok (.istore_n 2, 1) := dk_61 (dk_at dksX4_turnsGo_0 1 rfl rfl)
theorem dX4_turnsGo_2 : decode cX4_turnsGo 2 = .ok (.iload_n 2, 1) := dk_28 (dk_at dksX4_turnsGo_0 2 rfl rfl)
theorem dX4_turnsGo_3 : decode cX4_turnsGo 3 = .ok (.iload_n 1, 1) := dk_27 (dk_at dksX4_turnsGo_0 3 rfl rfl)
theorem dX4_turnsGo_4 : decode cX4_turnsGo 4 = .ok (.if_icmp .ge 14, 3) := dk_162 0 14 (dk_at dksX4_turnsGo_0 4 rfl rfl)
theorem dX4_turnsGo_7 : decode cX4_turnsGo 7 = .ok (.aload_n 0, 1) := dk_42 (dk_at dksX4_turnsGo_0 7 rfl rfl)
theorem dX4_turnsGo_8 : decode cX4_turnsGo 8 = .ok (.iconst 0, 1) := dk_3 (dk_at dksX4_turnsGo_0 8 rfl rfl)
theorem dX4_turnsGo_9 : decode cX4_turnsGo 9 = .ok (.invokevirtual 196, 3) := dk_182 0 196 (dk_at dksX4_turnsGo_0 9 rfl rfl)
theorem dX4_turnsGo_12 : decode cX4_turnsGo 12 = .ok (.iinc 2 1, 3) := dk_132 2 1 (dk_at dksX4_turnsGo_0 12 rfl rfl)
theorem dX4_turnsGo_15 : decode cX4_turnsGo 15 = .ok (.goto (-13), 3) := dk_167 255 243 (dk_at dksX4_turnsGo_0 15 rfl rfl)
theorem dX4_turnsGo_18 : decode cX4_turnsGo 18 = .ok (.return_, 1) := dk_177 (dk_at dksX4_turnsGo_0 18 rfl rfl)
abbrev cX4_turnGoes : ByteArray := prog_12_method_40_code
def yX4_turnGoes : MethodName := ⟨RX4, "turnGoes", "(Z)V"⟩
def dkwX4_turnGoes_4 : List UInt8 := [167, 255, 209, 42, 180, 0, 13, 16, 38, 92, 46, 4, 96, 79, 177]
abbrev dktX4_turnGoes_4 : List UInt8 := dkwX4_turnGoes_4 ++ []
def dkwX4_turnGoes_3 : List UInt8 := [182, 0, 160, 158, 0, 17, 42, 29, 5, 42, 29, 5, 182, 0, 160, 4, 100, 182, 0, 179, 132, 3, 1]
abbrev dktX4_turnGoes_3 : List UInt8 := dkwX4_turnGoes_3 ++ dktX4_turnGoes_4
def dkwX4_turnGoes_2 : List UInt8 := [29, 42, 180, 0, 68, 162, 0, 45, 28, 42, 29, 4, 182, 0, 160, 122, 4, 126, 154, 0, 26, 42, 29, 5]
abbrev dktX4_turnGoes_2 : List UInt8 := dkwX4_turnGoes_2 ++ dktX4_turnGoes_3
def dkwX4_turnGoes_1 : List UInt8 := [28, 4, 42, 29, 4, 182, 0, 157, 120, 128, 61, 42, 29, 182, 0, 193, 132, 3, 1, 167, 255, 217, 3, 62]
abbrev dktX4_turnGoes_1 : List UInt8 := dkwX4_turnGoes_1 ++ dktX4_turnGoes_2
def dkwX4_turnGoes_0 : List UInt8 := [3, 61, 3, 62, 29, 42, 180, 0, 71, 162, 0, 37, 27, 154, 0, 33, 42, 29, 182, 0, 189, 154, 0, 19]
abbrev dktX4_turnGoes_0 : List UInt8 := dkwX4_turnGoes_0 ++ dktX4_turnGoes_1
theorem dksX4_turnGoes_0 : cX4_turnGoes.data.toList.drop 0 = dktX4_turnGoes_0 := by decide +kernel
theorem dksX4_turnGoes_1 : cX4_turnGoes.data.toList.drop 24 = dktX4_turnGoes_1 := dk_seg dksX4_turnGoes_0 24 rfl rfl
theorem dksX4_turnGoes_2 : cX4_turnGoes.data.toList.drop 48 = dktX4_turnGoes_2 := dk_seg dksX4_turnGoes_1 24 rfl rfl
theorem dksX4_turnGoes_3 : cX4_turnGoes.data.toList.drop 72 = dktX4_turnGoes_3 := dk_seg dksX4_turnGoes_2 24 rfl rfl
theorem dksX4_turnGoes_4 : cX4_turnGoes.data.toList.drop 95 = dktX4_turnGoes_4 := dk_seg dksX4_turnGoes_3 23 rfl rfl
theorem dX4_turnGoes_0 : decode cX4_turnGoes 0 = .ok (.iconst 0, 1) := dk_3 (dk_at dksX4_turnGoes_0 0 rfl rfl)
theorem dX4_turnGoes_1 : decode cX4_turnGoes 1 = .ok (.istore_n 2, 1) := dk_61 (dk_at dksX4_turnGoes_0 1 rfl rfl)
theorem dX4_turnGoes_2 : decode cX4_turnGoes 2 = .ok (.iconst 0, 1) := dk_3 (dk_at dksX4_turnGoes_0 2 rfl rfl)
theorem dX4_turnGoes_3 : decode cX4_turnGoes 3 = .ok (.istore_n 3, 1) := dk_62 (dk_at dksX4_turnGoes_0 3 rfl rfl)
theorem dX4_turnGoes_4 : decode cX4_turnGoes 4 = .ok (.iload_n 3, 1) := dk_29 (dk_at dksX4_turnGoes_0 4 rfl rfl)
theorem dX4_turnGoes_5 : decode cX4_turnGoes 5 = .ok (.aload_n 0, 1) := dk_42 (dk_at dksX4_turnGoes_0 5 rfl rfl)
theorem dX4_turnGoes_6 : decode cX4_turnGoes 6 = .ok (.getfield 71, 3) := dk_180 0 71 (dk_at dksX4_turnGoes_0 6 rfl rfl)
theorem dX4_turnGoes_9 : decode cX4_turnGoes 9 = .ok (.if_icmp .ge 37, 3) := dk_162 0 37 (dk_at dksX4_turnGoes_0 9 rfl rfl)
theorem dX4_turnGoes_12 : decode cX4_turnGoes 12 = .ok (.iload_n 1, 1) := dk_27 (dk_at dksX4_turnGoes_0 12 rfl rfl)
theorem dX4_turnGoes_13 : decode cX4_turnGoes 13 = .ok (.ifCond .ne 33, 3) := dk_154 0 33 (dk_at dksX4_turnGoes_0 13 rfl rfl)
theorem dX4_turnGoes_16 : decode cX4_turnGoes 16 = .ok (.aload_n 0, 1) := dk_42 (dk_at dksX4_turnGoes_0 16 rfl rfl)
theorem dX4_turnGoes_17 : decode cX4_turnGoes 17 = .ok (.iload_n 3, 1) := dk_29 (dk_at dksX4_turnGoes_0 17 rfl rfl)
theorem dX4_turnGoes_18 : decode cX4_turnGoes 18 = .ok (.invokevirtual 189, 3) := dk_182 0 189 (dk_at dksX4_turnGoes_0 18 rfl rfl)
theorem dX4_turnGoes_21 : decode cX4_turnGoes 21 = .ok (.ifCond .ne 19, 3) := dk_154 0 19 (dk_at dksX4_turnGoes_0 21 rfl rfl)
theorem dX4_turnGoes_24 : decode cX4_turnGoes 24 = .ok (.iload_n 2, 1) := dk_28 (dk_at dksX4_turnGoes_1 0 rfl rfl)
theorem dX4_turnGoes_25 : decode cX4_turnGoes 25 = .ok (.iconst 1, 1) := dk_4 (dk_at dksX4_turnGoes_1 1 rfl rfl)
theorem dX4_turnGoes_26 : decode cX4_turnGoes 26 = .ok (.aload_n 0, 1) := dk_42 (dk_at dksX4_turnGoes_1 2 rfl rfl)
theorem dX4_turnGoes_27 : decode cX4_turnGoes 27 = .ok (.iload_n 3, 1) := dk_29 (dk_at dksX4_turnGoes_1 3 rfl rfl)
theorem dX4_turnGoes_28 : decode cX4_turnGoes 28 = .ok (.iconst 1, 1) := dk_4 (dk_at dksX4_turnGoes_1 4 rfl rfl)
theorem dX4_turnGoes_29 : decode cX4_turnGoes 29 = .ok (.invokevirtual 157, 3) := dk_182 0 157 (dk_at dksX4_turnGoes_1 5 rfl rfl)
theorem dX4_turnGoes_32 : decode cX4_turnGoes 32 = .ok (.ishl, 1) := dk_120 (dk_at dksX4_turnGoes_1 8 rfl rfl)
theorem dX4_turnGoes_33 : decode cX4_turnGoes 33 = .ok (.ior, 1) := dk_128 (dk_at dksX4_turnGoes_1 9 rfl rfl)
theorem dX4_turnGoes_34 : decode cX4_turnGoes 34 = .ok (.istore_n 2, 1) := dk_61 (dk_at dksX4_turnGoes_1 10 rfl rfl)
theorem dX4_turnGoes_35 : decode cX4_turnGoes 35 = .ok (.aload_n 0, 1) := dk_42 (dk_at dksX4_turnGoes_1 11 rfl rfl)
theorem dX4_turnGoes_36 : decode cX4_turnGoes 36 = .ok (.iload_n 3, 1) := dk_29 (dk_at dksX4_turnGoes_1 12 rfl rfl)
theorem dX4_turnGoes_37 : decode cX4_turnGoes 37 = .ok (.invokevirtual 193, 3) := dk_182 0 193 (dk_at dksX4_turnGoes_1 13 rfl rfl)
theorem dX4_turnGoes_40 : decode cX4_turnGoes 40 = .ok (.iinc 3 1, 3) := dk_132 3 1 (dk_at dksX4_turnGoes_1 16 rfl rfl)
theorem dX4_turnGoes_43 : decode cX4_turnGoes 43 = .ok (.goto (-39), 3) := dk_167 255 217 (dk_at dksX4_turnGoes_1 19 rfl rfl)
theorem dX4_turnGoes_46 : decode cX4_turnGoes 46 = .ok (.iconst 0, 1) := dk_3 (dk_at dksX4_turnGoes_1 22 rfl rfl)
theorem dX4_turnGoes_47 : decode cX4_turnGoes 47 = .ok (.istore_n 3, 1) := dk_62 (dk_at dksX4_turnGoes_1 23 rfl rfl)
theorem dX4_turnGoes_48 : decode cX4_turnGoes 48 = .ok (.iload_n 3, 1) := dk_29 (dk_at dksX4_turnGoes_2 0 rfl rfl)
theorem dX4_turnGoes_49 : decode cX4_turnGoes 49 = .ok (.aload_n 0, 1) := dk_42 (dk_at dksX4_turnGoes_2 1 rfl rfl)
theorem dX4_turnGoes_50 : decode cX4_turnGoes 50 = .ok (.getfield 68, 3) := dk_180 0 68 (dk_at dksX4_turnGoes_2 2 rfl rfl)
theorem dX4_turnGoes_53 : decode cX4_turnGoes 53 = .ok (.if_icmp .ge 45, 3) := dk_162 0 45 (dk_at dksX4_turnGoes_2 5 rfl rfl)
theorem dX4_turnGoes_56 : decode cX4_turnGoes 56 = .ok (.iload_n 2, 1) := dk_28 (dk_at dksX4_turnGoes_2 8 rfl rfl)
theorem dX4_turnGoes_57 : decode cX4_turnGoes 57 = .ok (.aload_n 0, 1) := dk_42 (dk_at dksX4_turnGoes_2 9 rfl rfl)
theorem dX4_turnGoes_58 : decode cX4_turnGoes 58 = .ok (.iload_n 3, 1) := dk_29 (dk_at dksX4_turnGoes_2 10 rfl rfl)
theorem dX4_turnGoes_59 : decode cX4_turnGoes 59 = .ok (.iconst 1, 1) := dk_4 (dk_at dksX4_turnGoes_2 11 rfl rfl)
theorem dX4_turnGoes_60 : decode cX4_turnGoes 60 = .ok (.invokevirtual 160, 3) := dk_182 0 160 (dk_at dksX4_turnGoes_2 12 rfl rfl)
theorem dX4_turnGoes_63 : decode cX4_turnGoes 63 = .ok (.ishr, 1) := dk_122 (dk_at dksX4_turnGoes_2 15 rfl rfl)
theorem dX4_turnGoes_64 : decode cX4_turnGoes 64 = .ok (.iconst 1, 1) := dk_4 (dk_at dksX4_turnGoes_2 16 rfl rfl)
theorem dX4_turnGoes_65 : decode cX4_turnGoes 65 = .ok (.iand, 1) := dk_126 (dk_at dksX4_turnGoes_2 17 rfl rfl)
theorem dX4_turnGoes_66 : decode cX4_turnGoes 66 = .ok (.ifCond .ne 26, 3) := dk_154 0 26 (dk_at dksX4_turnGoes_2 18 rfl rfl)
theorem dX4_turnGoes_69 : decode cX4_turnGoes 69 = .ok (.aload_n 0, 1) := dk_42 (dk_at dksX4_turnGoes_2 21 rfl rfl)
theorem dX4_turnGoes_70 : decode cX4_turnGoes 70 = .ok (.iload_n 3, 1) := dk_29 (dk_at dksX4_turnGoes_2 22 rfl rfl)
theorem dX4_turnGoes_71 : decode cX4_turnGoes 71 = .ok (.iconst 2, 1) := dk_5 (dk_at dksX4_turnGoes_2 23 rfl rfl)
theorem dX4_turnGoes_72 : decode cX4_turnGoes 72 = .ok (.invokevirtual 160, 3) := dk_182 0 160 (dk_at dksX4_turnGoes_3 0 rfl rfl)
theorem dX4_turnGoes_75 : decode cX4_turnGoes 75 = .ok (.ifCond .le 17, 3) := dk_158 0 17 (dk_at dksX4_turnGoes_3 3 rfl rfl)
theorem dX4_turnGoes_78 : decode cX4_turnGoes 78 = .ok (.aload_n 0, 1) := dk_42 (dk_at dksX4_turnGoes_3 6 rfl rfl)
theorem dX4_turnGoes_79 : decode cX4_turnGoes 79 = .ok (.iload_n 3, 1) := dk_29 (dk_at dksX4_turnGoes_3 7 rfl rfl)
theorem dX4_turnGoes_80 : decode cX4_turnGoes 80 = .ok (.iconst 2, 1) := dk_5 (dk_at dksX4_turnGoes_3 8 rfl rfl)
theorem dX4_turnGoes_81 : decode cX4_turnGoes 81 = .ok (.aload_n 0, 1) := dk_42 (dk_at dksX4_turnGoes_3 9 rfl rfl)
theorem dX4_turnGoes_82 : decode cX4_turnGoes 82 = .ok (.iload_n 3, 1) := dk_29 (dk_at dksX4_turnGoes_3 10 rfl rfl)
theorem dX4_turnGoes_83 : decode cX4_turnGoes 83 = .ok (.iconst 2, 1) := dk_5 (dk_at dksX4_turnGoes_3 11 rfl rfl)
theorem dX4_turnGoes_84 : decode cX4_turnGoes 84 = .ok (.invokevirtual 160, 3) := dk_182 0 160 (dk_at dksX4_turnGoes_3 12 rfl rfl)
theorem dX4_turnGoes_87 : decode cX4_turnGoes 87 = .ok (.iconst 1, 1) := dk_4 (dk_at dksX4_turnGoes_3 15 rfl rfl)
theorem dX4_turnGoes_88 : decode cX4_turnGoes 88 = .ok (.isub, 1) := dk_100 (dk_at dksX4_turnGoes_3 16 rfl rfl)
theorem dX4_turnGoes_89 : decode cX4_turnGoes 89 = .ok (.invokevirtual 179, 3) := dk_182 0 179 (dk_at dksX4_turnGoes_3 17 rfl rfl)
theorem dX4_turnGoes_92 : decode cX4_turnGoes 92 = .ok (.iinc 3 1, 3) := dk_132 3 1 (dk_at dksX4_turnGoes_3 20 rfl rfl)
theorem dX4_turnGoes_95 : decode cX4_turnGoes 95 = .ok (.goto (-47), 3) := dk_167 255 209 (dk_at dksX4_turnGoes_4 0 rfl rfl)
theorem dX4_turnGoes_98 : decode cX4_turnGoes 98 = .ok (.aload_n 0, 1) := dk_42 (dk_at dksX4_turnGoes_4 3 rfl rfl)
theorem dX4_turnGoes_99 : decode cX4_turnGoes 99 = .ok (.getfield 13, 3) := dk_180 0 13 (dk_at dksX4_turnGoes_4 4 rfl rfl)
theorem dX4_turnGoes_102 : decode cX4_turnGoes 102 = .ok (.bipush 38, 2) := dk_16 38 (dk_at dksX4_turnGoes_4 7 rfl rfl)
theorem dX4_turnGoes_104 : decode cX4_turnGoes 104 = .ok (.dup2, 1) := dk_92 (dk_at dksX4_turnGoes_4 9 rfl rfl)
theorem dX4_turnGoes_105 : decode cX4_turnGoes 105 = .ok (.iaload, 1) := dk_46 (dk_at dksX4_turnGoes_4 10 rfl rfl)
theorem dX4_turnGoes_106 : decode cX4_turnGoes 106 = .ok (.iconst 1, 1) := dk_4 (dk_at dksX4_turnGoes_4 11 rfl rfl)
theorem dX4_turnGoes_107 : decode cX4_turnGoes 107 = .ok (.iadd, 1) := dk_96 (dk_at dksX4_turnGoes_4 12 rfl rfl)
theorem dX4_turnGoes_108 : decode cX4_turnGoes 108 = .ok (.iastore, 1) := dk_79 (dk_at dksX4_turnGoes_4 13 rfl rfl)
theorem dX4_turnGoes_109 : decode cX4_turnGoes 109 = .ok (.return_, 1) := dk_177 (dk_at dksX4_turnGoes_4 14 rfl rfl)
abbrev cX4_ministerTreads : ByteArray := prog_12_method_39_code
def yX4_ministerTreads : MethodName := ⟨RX4, "ministerTreads", "(I)V"⟩
def dkwX4_ministerTreads_6 : List UInt8 := [167, 255, 220, 177]
abbrev dktX4_ministerTreads_6 : List UInt8 := dkwX4_ministerTreads_6 ++ []
def dkwX4_ministerTreads_5 : List UInt8 := [182, 0, 163, 153, 0, 7, 3, 167, 0, 9, 42, 29, 5, 182, 0, 160, 182, 0, 179, 132, 3, 1]
abbrev dktX4_ministerTreads_5 : List UInt8 := dkwX4_ministerTreads_5 ++ dktX4_ministerTreads_6
def dkwX4_ministerTreads_4 : List UInt8 := [27, 16, 252, 182, 0, 186, 3, 62, 29, 42, 180, 0, 68, 162, 0, 34, 42, 29, 5, 42, 29, 28]
abbrev dktX4_ministerTreads_4 : List UInt8 := dkwX4_ministerTreads_4 ++ dktX4_ministerTreads_5
def dkwX4_ministerTreads_3 : List UInt8 := [42, 180, 0, 13, 5, 28, 104, 4, 96, 46, 161, 0, 61, 42, 89, 180, 0, 154, 4, 96, 181, 0, 154, 42]
abbrev dktX4_ministerTreads_3 : List UInt8 := dkwX4_ministerTreads_3 ++ dktX4_ministerTreads_4
def dkwX4_ministerTreads_2 : List UInt8 := [182, 0, 157, 184, 0, 173, 96, 184, 0, 176, 182, 0, 179, 132, 3, 1, 167, 255, 203, 42, 28, 182, 0, 183]
abbrev dktX4_ministerTreads_2 : List UInt8 := dkwX4_ministerTreads_2 ++ dktX4_ministerTreads_3
def dkwX4_ministerTreads_1 : List UInt8 := [153, 0, 36, 42, 29, 5, 16, 99, 42, 29, 5, 182, 0, 160, 42, 29, 3, 182, 0, 160, 42, 27, 3]
abbrev dktX4_ministerTreads_1 : List UInt8 := dkwX4_ministerTreads_1 ++ dktX4_ministerTreads_2
def dkwX4_ministerTreads_0 : List UInt8 := [42, 27, 4, 182, 0, 157, 61, 3, 62, 29, 42, 180, 0, 68, 162, 0, 51, 42, 29, 28, 182, 0, 163]
abbrev dktX4_ministerTreads_0 : List UInt8 := dkwX4_ministerTreads_0 ++ dktX4_ministerTreads_1
theorem dksX4_ministerTreads_0 : cX4_ministerTreads.data.toList.drop 0 = dktX4_ministerTreads_0 := by decide +kernel
theorem dksX4_ministerTreads_1 : cX4_ministerTreads.data.toList.drop 23 = dktX4_ministerTreads_1 := dk_seg dksX4_ministerTreads_0 23 rfl rfl
theorem dksX4_ministerTreads_2 : cX4_ministerTreads.data.toList.drop 46 = dktX4_ministerTreads_2 := dk_seg dksX4_ministerTreads_1 23 rfl rfl
theorem dksX4_ministerTreads_3 : cX4_ministerTreads.data.toList.drop 70 = dktX4_ministerTreads_3 := dk_seg dksX4_ministerTreads_2 24 rfl rfl
theorem dksX4_ministerTreads_4 : cX4_ministerTreads.data.toList.drop 94 = dktX4_ministerTreads_4 := dk_seg dksX4_ministerTreads_3 24 rfl rfl
theorem dksX4_ministerTreads_5 : cX4_ministerTreads.data.toList.drop 116 = dktX4_ministerTreads_5 := dk_seg dksX4_ministerTreads_4 22 rfl rfl
theorem dksX4_ministerTreads_6 : cX4_ministerTreads.data.toList.drop 138 = dktX4_ministerTreads_6 := dk_seg dksX4_ministerTreads_5 22 rfl rfl
theorem dX4_ministerTreads_0 : decode cX4_ministerTreads 0 = .ok (.aload_n 0, 1) := dk_42 (dk_at dksX4_ministerTreads_0 0 rfl rfl)
theorem dX4_ministerTreads_1 : decode cX4_ministerTreads 1 = .ok (.iload_n 1, 1) := dk_27 (dk_at dksX4_ministerTreads_0 1 rfl rfl)
theorem dX4_ministerTreads_2 : decode cX4_ministerTreads 2 = .ok (.iconst 1, 1) := dk_4 (dk_at dksX4_ministerTreads_0 2 rfl rfl)
theorem dX4_ministerTreads_3 : decode cX4_ministerTreads 3 = .ok (.invokevirtual 157, 3) := dk_182 0 157 (dk_at dksX4_ministerTreads_0 3 rfl rfl)
theorem dX4_ministerTreads_6 : decode cX4_ministerTreads 6 = .ok (.istore_n 2, 1) := dk_61 (dk_at dksX4_ministerTreads_0 6 rfl rfl)
theorem dX4_ministerTreads_7 : decode cX4_ministerTreads 7 = .ok (.iconst 0, 1) := dk_3 (dk_at dksX4_ministerTreads_0 7 rfl rfl)
theorem dX4_ministerTreads_8 : decode cX4_ministerTreads 8 = .ok (.istore_n 3, 1) := dk_62 (dk_at dksX4_ministerTreads_0 8 rfl rfl)
theorem dX4_ministerTreads_9 : decode cX4_ministerTreads 9 = .ok (.iload_n 3, 1) := dk_29 (dk_at dksX4_ministerTreads_0 9 rfl rfl)
theorem dX4_ministerTreads_10 : decode cX4_ministerTreads 10 = .ok (.aload_n 0, 1) := dk_42 (dk_at dksX4_ministerTreads_0 10 rfl rfl)
theorem dX4_ministerTreads_11 : decode cX4_ministerTreads 11 = .ok (.getfield 68, 3) := dk_180 0 68 (dk_at dksX4_ministerTreads_0 11 rfl rfl)
theorem dX4_ministerTreads_14 : decode cX4_ministerTreads 14 = .ok (.if_icmp .ge 51, 3) := dk_162 0 51 (dk_at dksX4_ministerTreads_0 14 rfl rfl)
theorem dX4_ministerTreads_17 : decode cX4_ministerTreads 17 = .ok (.aload_n 0, 1) := dk_42 (dk_at dksX4_ministerTreads_0 17 rfl rfl)
theorem dX4_ministerTreads_18 : decode cX4_ministerTreads 18 = .ok (.iload_n 3, 1) := dk_29 (dk_at dksX4_ministerTreads_0 18 rfl rfl)
theorem dX4_ministerTreads_19 : decode cX4_ministerTreads 19 = .ok (.iload_n 2, 1) := dk_28 (dk_at dksX4_ministerTreads_0 19 rfl rfl)
theorem dX4_ministerTreads_20 : decode cX4_ministerTreads 20 = .ok (.invokevirtual 163, 3) := dk_182 0 163 (dk_at dksX4_ministerTreads_0 20 rfl rfl)
theorem dX4_ministerTreads_23 : decode cX4_ministerTreads 23 = .ok (.ifCond .eq 36, 3) := dk_153 0 36 (dk_at dksX4_ministerTreads_1 0 rfl rfl)
theorem dX4_ministerTreads_26 : decode cX4_ministerTreads 26 = .ok (.aload_n 0, 1) := dk_42 (dk_at dksX4_ministerTreads_1 3 rfl rfl)
theorem dX4_ministerTreads_27 : decode cX4_ministerTreads 27 = .ok (.iload_n 3, 1) := dk_29 (dk_at dksX4_ministerTreads_1 4 rfl rfl)
theorem dX4_ministerTreads_28 : decode cX4_ministerTreads 28 = .ok (.iconst 2, 1) := dk_5 (dk_at dksX4_ministerTreads_1 5 rfl rfl)
theorem dX4_ministerTreads_29 : decode cX4_ministerTreads 29 = .ok (.bipush 99, 2) := dk_16 99 (dk_at dksX4_ministerTreads_1 6 rfl rfl)
theorem dX4_ministerTreads_31 : decode cX4_ministerTreads 31 = .ok (.aload_n 0, 1) := dk_42 (dk_at dksX4_ministerTreads_1 8 rfl rfl)
theorem dX4_ministerTreads_32 : decode cX4_ministerTreads 32 = .ok (.iload_n 3, 1) := dk_29 (dk_at dksX4_ministerTreads_1 9 rfl rfl)
theorem dX4_ministerTreads_33 : decode cX4_ministerTreads 33 = .ok (.iconst 2, 1) := dk_5 (dk_at dksX4_ministerTreads_1 10 rfl rfl)
theorem dX4_ministerTreads_34 : decode cX4_ministerTreads 34 = .ok (.invokevirtual 160, 3) := dk_182 0 160 (dk_at dksX4_ministerTreads_1 11 rfl rfl)
theorem dX4_ministerTreads_37 : decode cX4_ministerTreads 37 = .ok (.aload_n 0, 1) := dk_42 (dk_at dksX4_ministerTreads_1 14 rfl rfl)
theorem dX4_ministerTreads_38 : decode cX4_ministerTreads 38 = .ok (.iload_n 3, 1) := dk_29 (dk_at dksX4_ministerTreads_1 15 rfl rfl)
theorem dX4_ministerTreads_39 : decode cX4_ministerTreads 39 = .ok (.iconst 0, 1) := dk_3 (dk_at dksX4_ministerTreads_1 16 rfl rfl)
theorem dX4_ministerTreads_40 : decode cX4_ministerTreads 40 = .ok (.invokevirtual 160, 3) := dk_182 0 160 (dk_at dksX4_ministerTreads_1 17 rfl rfl)
theorem dX4_ministerTreads_43 : decode cX4_ministerTreads 43 = .ok (.aload_n 0, 1) := dk_42 (dk_at dksX4_ministerTreads_1 20 rfl rfl)
theorem dX4_ministerTreads_44 : decode cX4_ministerTreads 44 = .ok (.iload_n 1, 1) := dk_27 (dk_at dksX4_ministerTreads_1 21 rfl rfl)
theorem dX4_ministerTreads_45 : decode cX4_ministerTreads 45 = .ok (.iconst 0, 1) := dk_3 (dk_at dksX4_ministerTreads_1 22 rfl rfl)
theorem dX4_ministerTreads_46 : decode cX4_ministerTreads 46 = .ok (.invokevirtual 157, 3) := dk_182 0 157 (dk_at dksX4_ministerTreads_2 0 rfl rfl)
theorem dX4_ministerTreads_49 : decode cX4_ministerTreads 49 = .ok (.invokestatic 173, 3) := dk_184 0 173 (dk_at dksX4_ministerTreads_2 3 rfl rfl)
theorem dX4_ministerTreads_52 : decode cX4_ministerTreads 52 = .ok (.iadd, 1) := dk_96 (dk_at dksX4_ministerTreads_2 6 rfl rfl)
theorem dX4_ministerTreads_53 : decode cX4_ministerTreads 53 = .ok (.invokestatic 176, 3) := dk_184 0 176 (dk_at dksX4_ministerTreads_2 7 rfl rfl)
theorem dX4_ministerTreads_56 : decode cX4_ministerTreads 56 = .ok (.invokevirtual 179, 3) := dk_182 0 179 (dk_at dksX4_ministerTreads_2 10 rfl rfl)
theorem dX4_ministerTreads_59 : decode cX4_ministerTreads 59 = .ok (.iinc 3 1, 3) := dk_132 3 1 (dk_at dksX4_ministerTreads_2 13 rfl rfl)
theorem dX4_ministerTreads_62 : decode cX4_ministerTreads 62 = .ok (.goto (-53), 3) := dk_167 255 203 (dk_at dksX4_ministerTreads_2 16 rfl rfl)
theorem dX4_ministerTreads_65 : decode cX4_ministerTreads 65 = .ok (.aload_n 0, 1) := dk_42 (dk_at dksX4_ministerTreads_2 19 rfl rfl)
theorem dX4_ministerTreads_66 : decode cX4_ministerTreads 66 = .ok (.iload_n 2, 1) := dk_28 (dk_at dksX4_ministerTreads_2 20 rfl rfl)
theorem dX4_ministerTreads_67 : decode cX4_ministerTreads 67 = .ok (.invokevirtual 183, 3) := dk_182 0 183 (dk_at dksX4_ministerTreads_2 21 rfl rfl)
theorem dX4_ministerTreads_70 : decode cX4_ministerTreads 70 = .ok (.aload_n 0, 1) := dk_42 (dk_at dksX4_ministerTreads_3 0 rfl rfl)
theorem dX4_ministerTreads_71 : decode cX4_ministerTreads 71 = .ok (.getfield 13, 3) := dk_180 0 13 (dk_at dksX4_ministerTreads_3 1 rfl rfl)
theorem dX4_ministerTreads_74 : decode cX4_ministerTreads 74 = .ok (.iconst 2, 1) := dk_5 (dk_at dksX4_ministerTreads_3 4 rfl rfl)
theorem dX4_ministerTreads_75 : decode cX4_ministerTreads 75 = .ok (.iload_n 2, 1) := dk_28 (dk_at dksX4_ministerTreads_3 5 rfl rfl)
theorem dX4_ministerTreads_76 : decode cX4_ministerTreads 76 = .ok (.imul, 1) := dk_104 (dk_at dksX4_ministerTreads_3 6 rfl rfl)
theorem dX4_ministerTreads_77 : decode cX4_ministerTreads 77 = .ok (.iconst 1, 1) := dk_4 (dk_at dksX4_ministerTreads_3 7 rfl rfl)
theorem dX4_ministerTreads_78 : decode cX4_ministerTreads 78 = .ok (.iadd, 1) := dk_96 (dk_at dksX4_ministerTreads_3 8 rfl rfl)
theorem dX4_ministerTreads_79 : decode cX4_ministerTreads 79 = .ok (.iaload, 1) := dk_46 (dk_at dksX4_ministerTreads_3 9 rfl rfl)
theorem dX4_ministerTreads_80 : decode cX4_ministerTreads 80 = .ok (.if_icmp .lt 61, 3) := dk_161 0 61 (dk_at dksX4_ministerTreads_3 10 rfl rfl)
theorem dX4_ministerTreads_83 : decode cX4_ministerTreads 83 = .ok (.aload_n 0, 1) := dk_42 (dk_at dksX4_ministerTreads_3 13 rfl rfl)
theorem dX4_ministerTreads_84 : decode cX4_ministerTreads 84 = .ok (.dup, 1) := dk_89 (dk_at dksX4_ministerTreads_3 14 rfl rfl)
theorem dX4_ministerTreads_85 : decode cX4_ministerTreads 85 = .ok (.getfield 154, 3) := dk_180 0 154 (dk_at dksX4_ministerTreads_3 15 rfl rfl)
theorem dX4_ministerTreads_88 : decode cX4_ministerTreads 88 = .ok (.iconst 1, 1) := dk_4 (dk_at dksX4_ministerTreads_3 18 rfl rfl)
theorem dX4_ministerTreads_89 : decode cX4_ministerTreads 89 = .ok (.iadd, 1) := dk_96 (dk_at dksX4_ministerTreads_3 19 rfl rfl)
theorem dX4_ministerTreads_90 : decode cX4_ministerTreads 90 = .ok (.putfield 154, 3) := dk_181 0 154 (dk_at dksX4_ministerTreads_3 20 rfl rfl)
theorem dX4_ministerTreads_93 : decode cX4_ministerTreads 93 = .ok (.aload_n 0, 1) := dk_42 (dk_at dksX4_ministerTreads_3 23 rfl rfl)
theorem dX4_ministerTreads_94 : decode cX4_ministerTreads 94 = .ok (.iload_n 1, 1) := dk_27 (dk_at dksX4_ministerTreads_4 0 rfl rfl)
theorem dX4_ministerTreads_95 : decode cX4_ministerTreads 95 = .ok (.bipush (-4), 2) := dk_16 252 (dk_at dksX4_ministerTreads_4 1 rfl rfl)
theorem dX4_ministerTreads_97 : decode cX4_ministerTreads 97 = .ok (.invokevirtual 186, 3) := dk_182 0 186 (dk_at dksX4_ministerTreads_4 3 rfl rfl)
theorem dX4_ministerTreads_100 : decode cX4_ministerTreads 100 = .ok (.iconst 0, 1) := dk_3 (dk_at dksX4_ministerTreads_4 6 rfl rfl)
theorem dX4_ministerTreads_101 : decode cX4_ministerTreads 101 = .ok (.istore_n 3, 1) := dk_62 (dk_at dksX4_ministerTreads_4 7 rfl rfl)
theorem dX4_ministerTreads_102 : decode cX4_ministerTreads 102 = .ok (.iload_n 3, 1) := dk_29 (dk_at dksX4_ministerTreads_4 8 rfl rfl)
theorem dX4_ministerTreads_103 : decode cX4_ministerTreads 103 = .ok (.aload_n 0, 1) := dk_42 (dk_at dksX4_ministerTreads_4 9 rfl rfl)
theorem dX4_ministerTreads_104 : decode cX4_ministerTreads 104 = .ok (.getfield 68, 3) := dk_180 0 68 (dk_at dksX4_ministerTreads_4 10 rfl rfl)
theorem dX4_ministerTreads_107 : decode cX4_ministerTreads 107 = .ok (.if_icmp .ge 34, 3) := dk_162 0 34 (dk_at dksX4_ministerTreads_4 13 rfl rfl)
theorem dX4_ministerTreads_110 : decode cX4_ministerTreads 110 = .ok (.aload_n 0, 1) := dk_42 (dk_at dksX4_ministerTreads_4 16 rfl rfl)
theorem dX4_ministerTreads_111 : decode cX4_ministerTreads 111 = .ok (.iload_n 3, 1) := dk_29 (dk_at dksX4_ministerTreads_4 17 rfl rfl)
theorem dX4_ministerTreads_112 : decode cX4_ministerTreads 112 = .ok (.iconst 2, 1) := dk_5 (dk_at dksX4_ministerTreads_4 18 rfl rfl)
theorem dX4_ministerTreads_113 : decode cX4_ministerTreads 113 = .ok (.aload_n 0, 1) := dk_42 (dk_at dksX4_ministerTreads_4 19 rfl rfl)
theorem dX4_ministerTreads_114 : decode cX4_ministerTreads 114 = .ok (.iload_n 3, 1) := dk_29 (dk_at dksX4_ministerTreads_4 20 rfl rfl)
theorem dX4_ministerTreads_115 : decode cX4_ministerTreads 115 = .ok (.iload_n 2, 1) := dk_28 (dk_at dksX4_ministerTreads_4 21 rfl rfl)
theorem dX4_ministerTreads_116 : decode cX4_ministerTreads 116 = .ok (.invokevirtual 163, 3) := dk_182 0 163 (dk_at dksX4_ministerTreads_5 0 rfl rfl)
theorem dX4_ministerTreads_119 : decode cX4_ministerTreads 119 = .ok (.ifCond .eq 7, 3) := dk_153 0 7 (dk_at dksX4_ministerTreads_5 3 rfl rfl)
theorem dX4_ministerTreads_122 : decode cX4_ministerTreads 122 = .ok (.iconst 0, 1) := dk_3 (dk_at dksX4_ministerTreads_5 6 rfl rfl)
theorem dX4_ministerTreads_123 : decode cX4_ministerTreads 123 = .ok (.goto 9, 3) := dk_167 0 9 (dk_at dksX4_ministerTreads_5 7 rfl rfl)
theorem dX4_ministerTreads_126 : decode cX4_ministerTreads 126 = .ok (.aload_n 0, 1) := dk_42 (dk_at dksX4_ministerTreads_5 10 rfl rfl)
theorem dX4_ministerTreads_127 : decode cX4_ministerTreads 127 = .ok (.iload_n 3, 1) := dk_29 (dk_at dksX4_ministerTreads_5 11 rfl rfl)
theorem dX4_ministerTreads_128 : decode cX4_ministerTreads 128 = .ok (.iconst 2, 1) := dk_5 (dk_at dksX4_ministerTreads_5 12 rfl rfl)
theorem dX4_ministerTreads_129 : decode cX4_ministerTreads 129 = .ok (.invokevirtual 160, 3) := dk_182 0 160 (dk_at dksX4_ministerTreads_5 13 rfl rfl)
theorem dX4_ministerTreads_132 : decode cX4_ministerTreads 132 = .ok (.invokevirtual 179, 3) := dk_182 0 179 (dk_at dksX4_ministerTreads_5 16 rfl rfl)
theorem dX4_ministerTreads_135 : decode cX4_ministerTreads 135 = .ok (.iinc 3 1, 3) := dk_132 3 1 (dk_at dksX4_ministerTreads_5 19 rfl rfl)
theorem dX4_ministerTreads_138 : decode cX4_ministerTreads 138 = .ok (.goto (-36), 3) := dk_167 255 220 (dk_at dksX4_ministerTreads_6 0 rfl rfl)
theorem dX4_ministerTreads_141 : decode cX4_ministerTreads 141 = .ok (.return_, 1) := dk_177 (dk_at dksX4_ministerTreads_6 3 rfl rfl)
abbrev cX4_isUnder : ByteArray := prog_12_method_36_code
def yX4_isUnder : MethodName := ⟨RX4, "isUnder", "(II)Z"⟩
def dkwX4_isUnder_0 : List UInt8 := [27, 42, 180, 0, 151, 159, 0, 17, 42, 27, 4, 182, 0, 160, 28, 160, 0, 7, 4, 167, 0, 4, 3, 172]
abbrev dktX4_isUnder_0 : List UInt8 := dkwX4_isUnder_0 ++ []
theorem dksX4_isUnder_0 : cX4_isUnder.data.toList.drop 0 = dktX4_isUnder_0 := by decide +kernel
theorem dX4_isUnder_0 : decode cX4_isUnder 0 = .ok (.iload_n 1, 1) := dk_27 (dk_at dksX4_isUnder_0 0 rfl rfl)
theorem dX4_isUnder_1 : decode cX4_isUnder 1 = .ok (.aload_n 0, 1) := dk_42 (dk_at dksX4_isUnder_0 1 rfl rfl)
theorem dX4_isUnder_2 : decode cX4_isUnder 2 = .ok (.getfield 151, 3) := dk_180 0 151 (dk_at dksX4_isUnder_0 2 rfl rfl)
theorem dX4_isUnder_5 : decode cX4_isUnder 5 = .ok (.if_icmp .eq 17, 3) := dk_159 0 17 (dk_at dksX4_isUnder_0 5 rfl rfl)
theorem dX4_isUnder_8 : decode cX4_isUnder 8 = .ok (.aload_n 0, 1) := dk_42 (dk_at dksX4_isUnder_0 8 rfl rfl)
theorem dX4_isUnder_9 : decode cX4_isUnder 9 = .ok (.iload_n 1, 1) := dk_27 (dk_at dksX4_isUnder_0 9 rfl rfl)
theorem dX4_isUnder_10 : decode cX4_isUnder 10 = .ok (.iconst 1, 1) := dk_4 (dk_at dksX4_isUnder_0 10 rfl rfl)
theorem dX4_isUnder_11 : decode cX4_isUnder 11 = .ok (.invokevirtual 160, 3) := dk_182 0 160 (dk_at dksX4_isUnder_0 11 rfl rfl)
theorem dX4_isUnder_14 : decode cX4_isUnder 14 = .ok (.iload_n 2, 1) := dk_28 (dk_at dksX4_isUnder_0 14 rfl rfl)
theorem dX4_isUnder_15 : decode cX4_isUnder 15 = .ok (.if_icmp .ne 7, 3) := dk_160 0 7 (dk_at dksX4_isUnder_0 15 rfl rfl)
theorem dX4_isUnder_18 : decode cX4_isUnder 18 = .ok (.iconst 1, 1) := dk_4 (dk_at dksX4_isUnder_0 18 rfl rfl)
theorem dX4_isUnder_19 : decode cX4_isUnder 19 = .ok (.goto 4, 3) := dk_167 0 4 (dk_at dksX4_isUnder_0 19 rfl rfl)
theorem dX4_isUnder_22 : decode cX4_isUnder 22 = .ok (.iconst 0, 1) := dk_3 (dk_at dksX4_isUnder_0 22 rfl rfl)
theorem dX4_isUnder_23 : decode cX4_isUnder 23 = .ok (.ireturn, 1) := dk_172 (dk_at dksX4_isUnder_0 23 rfl rfl)
abbrev cX4_lesser : ByteArray := prog_12_method_5_code
def yX4_lesser : MethodName := ⟨RX4, "lesser", "(II)I"⟩
def dkwX4_lesser_0 : List UInt8 := [26, 27, 162, 0, 7, 26, 167, 0, 4, 27, 172]
abbrev dktX4_lesser_0 : List UInt8 := dkwX4_lesser_0 ++ []
theorem dksX4_lesser_0 : cX4_lesser.data.toList.drop 0 = dktX4_lesser_0 := by decide +kernel
theorem dX4_lesser_0 : decode cX4_lesser 0 = .ok (.iload_n 0, 1) := dk_26 (dk_at dksX4_lesser_0 0 rfl rfl)
theorem dX4_lesser_1 : decode cX4_lesser 1 = .ok (.iload_n 1, 1) := dk_27 (dk_at dksX4_lesser_0 1 rfl rfl)
theorem dX4_lesser_2 : decode cX4_lesser 2 = .ok (.if_icmp .ge 7, 3) := dk_162 0 7 (dk_at dksX4_lesser_0 2 rfl rfl)
theorem dX4_lesser_5 : decode cX4_lesser 5 = .ok (.iload_n 0, 1) := dk_26 (dk_at dksX4_lesser_0 5 rfl rfl)
theorem dX4_lesser_6 : decode cX4_lesser 6 = .ok (.goto 4, 3) := dk_167 0 4 (dk_at dksX4_lesser_0 6 rfl rfl)
theorem dX4_lesser_9 : decode cX4_lesser 9 = .ok (.iload_n 1, 1) := dk_27 (dk_at dksX4_lesser_0 9 rfl rfl)
theorem dX4_lesser_10 : decode cX4_lesser 10 = .ok (.ireturn, 1) := dk_172 (dk_at dksX4_lesser_0 10 rfl rfl)
abbrev cX4_becomesOf : ByteArray := prog_12_method_31_code
def yX4_becomesOf : MethodName := ⟨RX4, "becomesOf", "(III)V"⟩
def dkwX4_becomesOf_0 : List UInt8 := [42, 180, 0, 13, 16, 12, 6, 27, 104, 96, 28, 96, 29, 79, 177]
abbrev dktX4_becomesOf_0 : List UInt8 := dkwX4_becomesOf_0 ++ []
theorem dksX4_becomesOf_0 : cX4_becomesOf.data.toList.drop 0 = dktX4_becomesOf_0 := by decide +kernel
theorem dX4_becomesOf_0 : decode cX4_becomesOf 0 = .ok (.aload_n 0, 1) := dk_42 (dk_at dksX4_becomesOf_0 0 rfl rfl)
theorem dX4_becomesOf_1 : decode cX4_becomesOf 1 = .ok (.getfield 13, 3) := dk_180 0 13 (dk_at dksX4_becomesOf_0 1 rfl rfl)
theorem dX4_becomesOf_4 : decode cX4_becomesOf 4 = .ok (.bipush 12, 2) := dk_16 12 (dk_at dksX4_becomesOf_0 4 rfl rfl)
theorem dX4_becomesOf_6 : decode cX4_becomesOf 6 = .ok (.iconst 3, 1) := dk_6 (dk_at dksX4_becomesOf_0 6 rfl rfl)
theorem dX4_becomesOf_7 : decode cX4_becomesOf 7 = .ok (.iload_n 1, 1) := dk_27 (dk_at dksX4_becomesOf_0 7 rfl rfl)
theorem dX4_becomesOf_8 : decode cX4_becomesOf 8 = .ok (.imul, 1) := dk_104 (dk_at dksX4_becomesOf_0 8 rfl rfl)
theorem dX4_becomesOf_9 : decode cX4_becomesOf 9 = .ok (.iadd, 1) := dk_96 (dk_at dksX4_becomesOf_0 9 rfl rfl)
theorem dX4_becomesOf_10 : decode cX4_becomesOf 10 = .ok (.iload_n 2, 1) := dk_28 (dk_at dksX4_becomesOf_0 10 rfl rfl)
theorem dX4_becomesOf_11 : decode cX4_becomesOf 11 = .ok (.iadd, 1) := dk_96 (dk_at dksX4_becomesOf_0 11 rfl rfl)
theorem dX4_becomesOf_12 : decode cX4_becomesOf 12 = .ok (.iload_n 3, 1) := dk_29 (dk_at dksX4_becomesOf_0 12 rfl rfl)
theorem dX4_becomesOf_13 : decode cX4_becomesOf 13 = .ok (.iastore, 1) := dk_79 (dk_at dksX4_becomesOf_0 13 rfl rfl)
theorem dX4_becomesOf_14 : decode cX4_becomesOf 14 = .ok (.return_, 1) := dk_177 (dk_at dksX4_becomesOf_0 14 rfl rfl)
abbrev cX4_drawnAt : ByteArray := prog_12_method_38_code
def yX4_drawnAt : MethodName := ⟨RX4, "drawnAt", "(I)I"⟩
def dkwX4_drawnAt_1 : List UInt8 := [182, 0, 166, 154, 0, 7, 4, 167, 0, 4, 3, 184, 0, 169, 96, 61, 132, 3, 1, 167, 255, 217, 28, 172]
abbrev dktX4_drawnAt_1 : List UInt8 := dkwX4_drawnAt_1 ++ []
def dkwX4_drawnAt_0 : List UInt8 := [3, 61, 3, 62, 29, 42, 180, 0, 68, 162, 0, 37, 28, 42, 29, 27, 182, 0, 163, 153, 0, 15, 42, 29]
abbrev dktX4_drawnAt_0 : List UInt8 := dkwX4_drawnAt_0 ++ dktX4_drawnAt_1
theorem dksX4_drawnAt_0 : cX4_drawnAt.data.toList.drop 0 = dktX4_drawnAt_0 := by decide +kernel
theorem dksX4_drawnAt_1 : cX4_drawnAt.data.toList.drop 24 = dktX4_drawnAt_1 := dk_seg dksX4_drawnAt_0 24 rfl rfl
theorem dX4_drawnAt_0 : decode cX4_drawnAt 0 = .ok (.iconst 0, 1) := dk_3 (dk_at dksX4_drawnAt_0 0 rfl rfl)
theorem dX4_drawnAt_1 : decode cX4_drawnAt 1 = .ok (.istore_n 2, 1) := dk_61 (dk_at dksX4_drawnAt_0 1 rfl rfl)
theorem dX4_drawnAt_2 : decode cX4_drawnAt 2 = .ok (.iconst 0, 1) := dk_3 (dk_at dksX4_drawnAt_0 2 rfl rfl)
theorem dX4_drawnAt_3 : decode cX4_drawnAt 3 = .ok (.istore_n 3, 1) := dk_62 (dk_at dksX4_drawnAt_0 3 rfl rfl)
theorem dX4_drawnAt_4 : decode cX4_drawnAt 4 = .ok (.iload_n 3, 1) := dk_29 (dk_at dksX4_drawnAt_0 4 rfl rfl)
theorem dX4_drawnAt_5 : decode cX4_drawnAt 5 = .ok (.aload_n 0, 1) := dk_42 (dk_at dksX4_drawnAt_0 5 rfl rfl)
theorem dX4_drawnAt_6 : decode cX4_drawnAt 6 = .ok (.getfield 68, 3) := dk_180 0 68 (dk_at dksX4_drawnAt_0 6 rfl rfl)
theorem dX4_drawnAt_9 : decode cX4_drawnAt 9 = .ok (.if_icmp .ge 37, 3) := dk_162 0 37 (dk_at dksX4_drawnAt_0 9 rfl rfl)
theorem dX4_drawnAt_12 : decode cX4_drawnAt 12 = .ok (.iload_n 2, 1) := dk_28 (dk_at dksX4_drawnAt_0 12 rfl rfl)
theorem dX4_drawnAt_13 : decode cX4_drawnAt 13 = .ok (.aload_n 0, 1) := dk_42 (dk_at dksX4_drawnAt_0 13 rfl rfl)
theorem dX4_drawnAt_14 : decode cX4_drawnAt 14 = .ok (.iload_n 3, 1) := dk_29 (dk_at dksX4_drawnAt_0 14 rfl rfl)
theorem dX4_drawnAt_15 : decode cX4_drawnAt 15 = .ok (.iload_n 1, 1) := dk_27 (dk_at dksX4_drawnAt_0 15 rfl rfl)
theorem dX4_drawnAt_16 : decode cX4_drawnAt 16 = .ok (.invokevirtual 163, 3) := dk_182 0 163 (dk_at dksX4_drawnAt_0 16 rfl rfl)
theorem dX4_drawnAt_19 : decode cX4_drawnAt 19 = .ok (.ifCond .eq 15, 3) := dk_153 0 15 (dk_at dksX4_drawnAt_0 19 rfl rfl)
theorem dX4_drawnAt_22 : decode cX4_drawnAt 22 = .ok (.aload_n 0, 1) := dk_42 (dk_at dksX4_drawnAt_0 22 rfl rfl)
theorem dX4_drawnAt_23 : decode cX4_drawnAt 23 = .ok (.iload_n 3, 1) := dk_29 (dk_at dksX4_drawnAt_0 23 rfl rfl)
theorem dX4_drawnAt_24 : decode cX4_drawnAt 24 = .ok (.invokevirtual 166, 3) := dk_182 0 166 (dk_at dksX4_drawnAt_1 0 rfl rfl)
theorem dX4_drawnAt_27 : decode cX4_drawnAt 27 = .ok (.ifCond .ne 7, 3) := dk_154 0 7 (dk_at dksX4_drawnAt_1 3 rfl rfl)
theorem dX4_drawnAt_30 : decode cX4_drawnAt 30 = .ok (.iconst 1, 1) := dk_4 (dk_at dksX4_drawnAt_1 6 rfl rfl)
theorem dX4_drawnAt_31 : decode cX4_drawnAt 31 = .ok (.goto 4, 3) := dk_167 0 4 (dk_at dksX4_drawnAt_1 7 rfl rfl)
theorem dX4_drawnAt_34 : decode cX4_drawnAt 34 = .ok (.iconst 0, 1) := dk_3 (dk_at dksX4_drawnAt_1 10 rfl rfl)
theorem dX4_drawnAt_35 : decode cX4_drawnAt 35 = .ok (.invokestatic 169, 3) := dk_184 0 169 (dk_at dksX4_drawnAt_1 11 rfl rfl)
theorem dX4_drawnAt_38 : decode cX4_drawnAt 38 = .ok (.iadd, 1) := dk_96 (dk_at dksX4_drawnAt_1 14 rfl rfl)
theorem dX4_drawnAt_39 : decode cX4_drawnAt 39 = .ok (.istore_n 2, 1) := dk_61 (dk_at dksX4_drawnAt_1 15 rfl rfl)
theorem dX4_drawnAt_40 : decode cX4_drawnAt 40 = .ok (.iinc 3 1, 3) := dk_132 3 1 (dk_at dksX4_drawnAt_1 16 rfl rfl)
theorem dX4_drawnAt_43 : decode cX4_drawnAt 43 = .ok (.goto (-39), 3) := dk_167 255 217 (dk_at dksX4_drawnAt_1 19 rfl rfl)
theorem dX4_drawnAt_46 : decode cX4_drawnAt 46 = .ok (.iload_n 2, 1) := dk_28 (dk_at dksX4_drawnAt_1 22 rfl rfl)
theorem dX4_drawnAt_47 : decode cX4_drawnAt 47 = .ok (.ireturn, 1) := dk_172 (dk_at dksX4_drawnAt_1 23 rfl rfl)
abbrev cX4_stepsTo : ByteArray := prog_12_method_33_code
def yX4_stepsTo : MethodName := ⟨RX4, "stepsTo", "(II)V"⟩
def dkwX4_stepsTo_0 : List UInt8 := [42, 180, 0, 13, 16, 30, 5, 27, 104, 96, 4, 96, 28, 79, 177]
abbrev dktX4_stepsTo_0 : List UInt8 := dkwX4_stepsTo_0 ++ []
theorem dksX4_stepsTo_0 : cX4_stepsTo.data.toList.drop 0 = dktX4_stepsTo_0 := by decide +kernel
theorem dX4_stepsTo_0 : decode cX4_stepsTo 0 = .ok (.aload_n 0, 1) := dk_42 (dk_at dksX4_stepsTo_0 0 rfl rfl)
theorem dX4_stepsTo_1 : decode cX4_stepsTo 1 = .ok (.getfield 13, 3) := dk_180 0 13 (dk_at dksX4_stepsTo_0 1 rfl rfl)
theorem dX4_stepsTo_4 : decode cX4_stepsTo 4 = .ok (.bipush 30, 2) := dk_16 30 (dk_at dksX4_stepsTo_0 4 rfl rfl)
theorem dX4_stepsTo_6 : decode cX4_stepsTo 6 = .ok (.iconst 2, 1) := dk_5 (dk_at dksX4_stepsTo_0 6 rfl rfl)
theorem dX4_stepsTo_7 : decode cX4_stepsTo 7 = .ok (.iload_n 1, 1) := dk_27 (dk_at dksX4_stepsTo_0 7 rfl rfl)
theorem dX4_stepsTo_8 : decode cX4_stepsTo 8 = .ok (.imul, 1) := dk_104 (dk_at dksX4_stepsTo_0 8 rfl rfl)
theorem dX4_stepsTo_9 : decode cX4_stepsTo 9 = .ok (.iadd, 1) := dk_96 (dk_at dksX4_stepsTo_0 9 rfl rfl)
theorem dX4_stepsTo_10 : decode cX4_stepsTo 10 = .ok (.iconst 1, 1) := dk_4 (dk_at dksX4_stepsTo_0 10 rfl rfl)
theorem dX4_stepsTo_11 : decode cX4_stepsTo 11 = .ok (.iadd, 1) := dk_96 (dk_at dksX4_stepsTo_0 11 rfl rfl)
theorem dX4_stepsTo_12 : decode cX4_stepsTo 12 = .ok (.iload_n 2, 1) := dk_28 (dk_at dksX4_stepsTo_0 12 rfl rfl)
theorem dX4_stepsTo_13 : decode cX4_stepsTo 13 = .ok (.iastore, 1) := dk_79 (dk_at dksX4_stepsTo_0 13 rfl rfl)
theorem dX4_stepsTo_14 : decode cX4_stepsTo 14 = .ok (.return_, 1) := dk_177 (dk_at dksX4_stepsTo_0 14 rfl rfl)
abbrev cX4_settles : ByteArray := prog_12_method_29_code
def yX4_settles : MethodName := ⟨RX4, "settles", "()V"⟩
def dkwX4_settles_1 : List UInt8 := [167, 255, 235, 177]
abbrev dktX4_settles_1 : List UInt8 := dkwX4_settles_1 ++ []
def dkwX4_settles_0 : List UInt8 := [3, 60, 27, 16, 58, 162, 0, 21, 42, 180, 0, 7, 27, 42, 180, 0, 13, 27, 46, 79, 132, 1, 1]
abbrev dktX4_settles_0 : List UInt8 := dkwX4_settles_0 ++ dktX4_settles_1
theorem dksX4_settles_0 : cX4_settles.data.toList.drop 0 = dktX4_settles_0 := by decide +kernel
theorem dksX4_settles_1 : cX4_settles.data.toList.drop 23 = dktX4_settles_1 := dk_seg dksX4_settles_0 23 rfl rfl
theorem dX4_settles_0 : decode cX4_settles 0 = .ok (.iconst 0, 1) := dk_3 (dk_at dksX4_settles_0 0 rfl rfl)
theorem dX4_settles_1 : decode cX4_settles 1 = .ok (.istore_n 1, 1) := dk_60 (dk_at dksX4_settles_0 1 rfl rfl)
theorem dX4_settles_2 : decode cX4_settles 2 = .ok (.iload_n 1, 1) := dk_27 (dk_at dksX4_settles_0 2 rfl rfl)
theorem dX4_settles_3 : decode cX4_settles 3 = .ok (.bipush 58, 2) := dk_16 58 (dk_at dksX4_settles_0 3 rfl rfl)
theorem dX4_settles_5 : decode cX4_settles 5 = .ok (.if_icmp .ge 21, 3) := dk_162 0 21 (dk_at dksX4_settles_0 5 rfl rfl)
theorem dX4_settles_8 : decode cX4_settles 8 = .ok (.aload_n 0, 1) := dk_42 (dk_at dksX4_settles_0 8 rfl rfl)
theorem dX4_settles_9 : decode cX4_settles 9 = .ok (.getfield 7, 3) := dk_180 0 7 (dk_at dksX4_settles_0 9 rfl rfl)
theorem dX4_settles_12 : decode cX4_settles 12 = .ok (.iload_n 1, 1) := dk_27 (dk_at dksX4_settles_0 12 rfl rfl)
theorem dX4_settles_13 : decode cX4_settles 13 = .ok (.aload_n 0, 1) := dk_42 (dk_at dksX4_settles_0 13 rfl rfl)
theorem dX4_settles_14 : decode cX4_settles 14 = .ok (.getfield 13, 3) := dk_180 0 13 (dk_at dksX4_settles_0 14 rfl rfl)
theorem dX4_settles_17 : decode cX4_settles 17 = .ok (.iload_n 1, 1) := dk_27 (dk_at dksX4_settles_0 17 rfl rfl)
theorem dX4_settles_18 : decode cX4_settles 18 = .ok (.iaload, 1) := dk_46 (dk_at dksX4_settles_0 18 rfl rfl)
theorem dX4_settles_19 : decode cX4_settles 19 = .ok (.iastore, 1) := dk_79 (dk_at dksX4_settles_0 19 rfl rfl)
theorem dX4_settles_20 : decode cX4_settles 20 = .ok (.iinc 1 1, 3) := dk_132 1 1 (dk_at dksX4_settles_0 20 rfl rfl)
theorem dX4_settles_23 : decode cX4_settles 23 = .ok (.goto (-21), 3) := dk_167 255 235 (dk_at dksX4_settles_1 0 rfl rfl)
theorem dX4_settles_26 : decode cX4_settles 26 = .ok (.return_, 1) := dk_177 (dk_at dksX4_settles_1 3 rfl rfl)
abbrev cX4_runs : ByteArray := prog_12_method_56_code
def yX4_runs : MethodName := ⟨RX4, "runs", "(II)I"⟩
def dkwX4_runs_4 : List UInt8 := [29, 167, 0, 7, 42, 182, 0, 206, 172]
abbrev dktX4_runs_4 : List UInt8 := dkwX4_runs_4 ++ []
def dkwX4_runs_3 : List UInt8 := [42, 180, 0, 154, 167, 0, 28, 28, 4, 160, 0, 10, 42, 182, 0, 203, 167, 0, 16, 28, 5, 160, 0, 7]
abbrev dktX4_runs_3 : List UInt8 := dkwX4_runs_3 ++ dktX4_runs_4
def dkwX4_runs_2 : List UInt8 := [42, 180, 0, 154, 158, 0, 8, 21, 4, 167, 0, 4, 29, 62, 132, 4, 1, 167, 255, 222, 28, 154, 0, 10]
abbrev dktX4_runs_2 : List UInt8 := dkwX4_runs_2 ++ dktX4_runs_3
def dkwX4_runs_1 : List UInt8 := [42, 182, 0, 200, 4, 54, 4, 21, 4, 27, 163, 0, 34, 42, 3, 182, 0, 196, 29, 16, 252, 160, 0, 15]
abbrev dktX4_runs_1 : List UInt8 := dkwX4_runs_1 ++ dktX4_runs_2
def dkwX4_runs_0 : List UInt8 := [27, 184, 0, 242, 153, 0, 15, 28, 133, 9, 20, 0, 212, 184, 0, 76, 154, 0, 5, 2, 172, 16, 252, 62]
abbrev dktX4_runs_0 : List UInt8 := dkwX4_runs_0 ++ dktX4_runs_1
theorem dksX4_runs_0 : cX4_runs.data.toList.drop 0 = dktX4_runs_0 := by decide +kernel
theorem dksX4_runs_1 : cX4_runs.data.toList.drop 24 = dktX4_runs_1 := dk_seg dksX4_runs_0 24 rfl rfl
theorem dksX4_runs_2 : cX4_runs.data.toList.drop 48 = dktX4_runs_2 := dk_seg dksX4_runs_1 24 rfl rfl
theorem dksX4_runs_3 : cX4_runs.data.toList.drop 72 = dktX4_runs_3 := dk_seg dksX4_runs_2 24 rfl rfl
theorem dksX4_runs_4 : cX4_runs.data.toList.drop 96 = dktX4_runs_4 := dk_seg dksX4_runs_3 24 rfl rfl
theorem dX4_runs_0 : decode cX4_runs 0 = .ok (.iload_n 1, 1) := dk_27 (dk_at dksX4_runs_0 0 rfl rfl)
theorem dX4_runs_1 : decode cX4_runs 1 = .ok (.invokestatic 242, 3) := dk_184 0 242 (dk_at dksX4_runs_0 1 rfl rfl)
theorem dX4_runs_4 : decode cX4_runs 4 = .ok (.ifCond .eq 15, 3) := dk_153 0 15 (dk_at dksX4_runs_0 4 rfl rfl)
theorem dX4_runs_7 : decode cX4_runs 7 = .ok (.iload_n 2, 1) := dk_28 (dk_at dksX4_runs_0 7 rfl rfl)
theorem dX4_runs_8 : decode cX4_runs 8 = .ok (.i2l, 1) := dk_133 (dk_at dksX4_runs_0 8 rfl rfl)
theorem dX4_runs_9 : decode cX4_runs 9 = .ok (.lconst 0, 1) := dk_9 (dk_at dksX4_runs_0 9 rfl rfl)
theorem dX4_runs_10 : decode cX4_runs 10 = .ok (.ldc2_w 212, 3) := dk_20 0 212 (dk_at dksX4_runs_0 10 rfl rfl)
theorem dX4_runs_13 : decode cX4_runs 13 = .ok (.invokestatic 76, 3) := dk_184 0 76 (dk_at dksX4_runs_0 13 rfl rfl)
theorem dX4_runs_16 : decode cX4_runs 16 = .ok (.ifCond .ne 5, 3) := dk_154 0 5 (dk_at dksX4_runs_0 16 rfl rfl)
theorem dX4_runs_19 : decode cX4_runs 19 = .ok (.iconst (-1), 1) := dk_2 (dk_at dksX4_runs_0 19 rfl rfl)
theorem dX4_runs_20 : decode cX4_runs 20 = .ok (.ireturn, 1) := dk_172 (dk_at dksX4_runs_0 20 rfl rfl)
theorem dX4_runs_21 : decode cX4_runs 21 = .ok (.bipush (-4), 2) := dk_16 252 (dk_at dksX4_runs_0 21 rfl rfl)
theorem dX4_runs_23 : decode cX4_runs 23 = .ok (.istore_n 3, 1) := dk_62 (dk_at dksX4_runs_0 23 rfl rfl)
theorem dX4_runs_24 : decode cX4_runs 24 = .ok (.aload_n 0, 1) := dk_42 (dk_at dksX4_runs_1 0 rfl rfl)
theorem dX4_runs_25 : decode cX4_runs 25 = .ok (.invokevirtual 200, 3) := dk_182 0 200 (dk_at dksX4_runs_1 1 rfl rfl)
theorem dX4_runs_28 : decode cX4_runs 28 = .ok (.iconst 1, 1) := dk_4 (dk_at dksX4_runs_1 4 rfl rfl)
theorem dX4_runs_29 : decode cX4_runs 29 = .ok (.istore 4, 2) := dk_54 4 (dk_at dksX4_runs_1 5 rfl rfl)
theorem dX4_runs_31 : decode cX4_runs 31 = .ok (.iload 4, 2) := dk_21 4 (dk_at dksX4_runs_1 7 rfl rfl)
theorem dX4_runs_33 : decode cX4_runs 33 = .ok (.iload_n 1, 1) := dk_27 (dk_at dksX4_runs_1 9 rfl rfl)
theorem dX4_runs_34 : decode cX4_runs 34 = .ok (.if_icmp .gt 34, 3) := dk_163 0 34 (dk_at dksX4_runs_1 10 rfl rfl)
theorem dX4_runs_37 : decode cX4_runs 37 = .ok (.aload_n 0, 1) := dk_42 (dk_at dksX4_runs_1 13 rfl rfl)
theorem dX4_runs_38 : decode cX4_runs 38 = .ok (.iconst 0, 1) := dk_3 (dk_at dksX4_runs_1 14 rfl rfl)
theorem dX4_runs_39 : decode cX4_runs 39 = .ok (.invokevirtual 196, 3) := dk_182 0 196 (dk_at dksX4_runs_1 15 rfl rfl)
theorem dX4_runs_42 : decode cX4_runs 42 = .ok (.iload_n 3, 1) := dk_29 (dk_at dksX4_runs_1 18 rfl rfl)
theorem dX4_runs_43 : decode cX4_runs 43 = .ok (.bipush (-4), 2) := dk_16 252 (dk_at dksX4_runs_1 19 rfl rfl)
theorem dX4_runs_45 : decode cX4_runs 45 = .ok (.if_icmp .ne 15, 3) := dk_160 0 15 (dk_at dksX4_runs_1 21 rfl rfl)
theorem dX4_runs_48 : decode cX4_runs 48 = .ok (.aload_n 0, 1) := dk_42 (dk_at dksX4_runs_2 0 rfl rfl)
theorem dX4_runs_49 : decode cX4_runs 49 = .ok (.getfield 154, 3) := dk_180 0 154 (dk_at dksX4_runs_2 1 rfl rfl)
theorem dX4_runs_52 : decode cX4_runs 52 = .ok (.ifCond .le 8, 3) := dk_158 0 8 (dk_at dksX4_runs_2 4 rfl rfl)
theorem dX4_runs_55 : decode cX4_runs 55 = .ok (.iload 4, 2) := dk_21 4 (dk_at dksX4_runs_2 7 rfl rfl)
theorem dX4_runs_57 : decode cX4_runs 57 = .ok (.goto 4, 3) := dk_167 0 4 (dk_at dksX4_runs_2 9 rfl rfl)
theorem dX4_runs_60 : decode cX4_runs 60 = .ok (.iload_n 3, 1) := dk_29 (dk_at dksX4_runs_2 12 rfl rfl)
theorem dX4_runs_61 : decode cX4_runs 61 = .ok (.istore_n 3, 1) := dk_62 (dk_at dksX4_runs_2 13 rfl rfl)
theorem dX4_runs_62 : decode cX4_runs 62 = .ok (.iinc 4 1, 3) := dk_132 4 1 (dk_at dksX4_runs_2 14 rfl rfl)
theorem dX4_runs_65 : decode cX4_runs 65 = .ok (.goto (-34), 3) := dk_167 255 222 (dk_at dksX4_runs_2 17 rfl rfl)
theorem dX4_runs_68 : decode cX4_runs 68 = .ok (.iload_n 2, 1) := dk_28 (dk_at dksX4_runs_2 20 rfl rfl)
theorem dX4_runs_69 : decode cX4_runs 69 = .ok (.ifCond .ne 10, 3) := dk_154 0 10 (dk_at dksX4_runs_2 21 rfl rfl)
theorem dX4_runs_72 : decode cX4_runs 72 = .ok (.aload_n 0, 1) := dk_42 (dk_at dksX4_runs_3 0 rfl rfl)
theorem dX4_runs_73 : decode cX4_runs 73 = .ok (.getfield 154, 3) := dk_180 0 154 (dk_at dksX4_runs_3 1 rfl rfl)
theorem dX4_runs_76 : decode cX4_runs 76 = .ok (.goto 28, 3) := dk_167 0 28 (dk_at dksX4_runs_3 4 rfl rfl)
theorem dX4_runs_79 : decode cX4_runs 79 = .ok (.iload_n 2, 1) := dk_28 (dk_at dksX4_runs_3 7 rfl rfl)
theorem dX4_runs_80 : decode cX4_runs 80 = .ok (.iconst 1, 1) := dk_4 (dk_at dksX4_runs_3 8 rfl rfl)
theorem dX4_runs_81 : decode cX4_runs 81 = .ok (.if_icmp .ne 10, 3) := dk_160 0 10 (dk_at dksX4_runs_3 9 rfl rfl)
theorem dX4_runs_84 : decode cX4_runs 84 = .ok (.aload_n 0, 1) := dk_42 (dk_at dksX4_runs_3 12 rfl rfl)
theorem dX4_runs_85 : decode cX4_runs 85 = .ok (.invokevirtual 203, 3) := dk_182 0 203 (dk_at dksX4_runs_3 13 rfl rfl)
theorem dX4_runs_88 : decode cX4_runs 88 = .ok (.goto 16, 3) := dk_167 0 16 (dk_at dksX4_runs_3 16 rfl rfl)
theorem dX4_runs_91 : decode cX4_runs 91 = .ok (.iload_n 2, 1) := dk_28 (dk_at dksX4_runs_3 19 rfl rfl)
theorem dX4_runs_92 : decode cX4_runs 92 = .ok (.iconst 2, 1) := dk_5 (dk_at dksX4_runs_3 20 rfl rfl)
theorem dX4_runs_93 : decode cX4_runs 93 = .ok (.if_icmp .ne 7, 3) := dk_160 0 7 (dk_at dksX4_runs_3 21 rfl rfl)
theorem dX4_runs_96 : decode cX4_runs 96 = .ok (.iload_n 3, 1) := dk_29 (dk_at dksX4_runs_4 0 rfl rfl)
theorem dX4_runs_97 : decode cX4_runs 97 = .ok (.goto 7, 3) := dk_167 0 7 (dk_at dksX4_runs_4 1 rfl rfl)
theorem dX4_runs_100 : decode cX4_runs 100 = .ok (.aload_n 0, 1) := dk_42 (dk_at dksX4_runs_4 4 rfl rfl)
theorem dX4_runs_101 : decode cX4_runs 101 = .ok (.invokevirtual 206, 3) := dk_182 0 206 (dk_at dksX4_runs_4 5 rfl rfl)
theorem dX4_runs_104 : decode cX4_runs 104 = .ok (.ireturn, 1) := dk_172 (dk_at dksX4_runs_4 8 rfl rfl)
abbrev cX4_isFar : ByteArray := prog_12_method_55_code
def yX4_isFar : MethodName := ⟨RX4, "isFar", "(I)Z"⟩
def dkwX4_isFar_0 : List UInt8 := [26, 133, 9, 20, 0, 240, 184, 0, 76, 172]
abbrev dktX4_isFar_0 : List UInt8 := dkwX4_isFar_0 ++ []
theorem dksX4_isFar_0 : cX4_isFar.data.toList.drop 0 = dktX4_isFar_0 := by decide +kernel
theorem dX4_isFar_0 : decode cX4_isFar 0 = .ok (.iload_n 0, 1) := dk_26 (dk_at dksX4_isFar_0 0 rfl rfl)
theorem dX4_isFar_1 : decode cX4_isFar 1 = .ok (.i2l, 1) := dk_133 (dk_at dksX4_isFar_0 1 rfl rfl)
theorem dX4_isFar_2 : decode cX4_isFar 2 = .ok (.lconst 0, 1) := dk_9 (dk_at dksX4_isFar_0 2 rfl rfl)
theorem dX4_isFar_3 : decode cX4_isFar 3 = .ok (.ldc2_w 240, 3) := dk_20 0 240 (dk_at dksX4_isFar_0 3 rfl rfl)
theorem dX4_isFar_6 : decode cX4_isFar 6 = .ok (.invokestatic 76, 3) := dk_184 0 76 (dk_at dksX4_isFar_0 6 rfl rfl)
theorem dX4_isFar_9 : decode cX4_isFar 9 = .ok (.ireturn, 1) := dk_172 (dk_at dksX4_isFar_0 9 rfl rfl)
abbrev cX4_ahead : ByteArray := prog_12_method_57_code
def yX4_ahead : MethodName := ⟨RX4, "ahead", "(II)I"⟩
def dkwX4_ahead_1 : List UInt8 := [182, 0, 234, 42, 27, 5, 182, 0, 160, 172]
abbrev dktX4_ahead_1 : List UInt8 := dkwX4_ahead_1 ++ []
def dkwX4_ahead_0 : List UInt8 := [42, 27, 182, 0, 217, 153, 0, 10, 28, 184, 0, 242, 154, 0, 5, 2, 172, 42, 182, 0, 200, 42, 28]
abbrev dktX4_ahead_0 : List UInt8 := dkwX4_ahead_0 ++ dktX4_ahead_1
theorem dksX4_ahead_0 : cX4_ahead.data.toList.drop 0 = dktX4_ahead_0 := by decide +kernel
theorem dksX4_ahead_1 : cX4_ahead.data.toList.drop 23 = dktX4_ahead_1 := dk_seg dksX4_ahead_0 23 rfl rfl
theorem dX4_ahead_0 : decode cX4_ahead 0 = .ok (.aload_n 0, 1) := dk_42 (dk_at dksX4_ahead_0 0 rfl rfl)
theorem dX4_ahead_1 : decode cX4_ahead 1 = .ok (.iload_n 1, 1) := dk_27 (dk_at dksX4_ahead_0 1 rfl rfl)
theorem dX4_ahead_2 : decode cX4_ahead 2 = .ok (.invokevirtual 217, 3) := dk_182 0 217 (dk_at dksX4_ahead_0 2 rfl rfl)
theorem dX4_ahead_5 : decode cX4_ahead 5 = .ok (.ifCond .eq 10, 3) := dk_153 0 10 (dk_at dksX4_ahead_0 5 rfl rfl)
theorem dX4_ahead_8 : decode cX4_ahead 8 = .ok (.iload_n 2, 1) := dk_28 (dk_at dksX4_ahead_0 8 rfl rfl)
theorem dX4_ahead_9 : decode cX4_ahead 9 = .ok (.invokestatic 242, 3) := dk_184 0 242 (dk_at dksX4_ahead_0 9 rfl rfl)
theorem dX4_ahead_12 : decode cX4_ahead 12 = .ok (.ifCond .ne 5, 3) := dk_154 0 5 (dk_at dksX4_ahead_0 12 rfl rfl)
theorem dX4_ahead_15 : decode cX4_ahead 15 = .ok (.iconst (-1), 1) := dk_2 (dk_at dksX4_ahead_0 15 rfl rfl)
theorem dX4_ahead_16 : decode cX4_ahead 16 = .ok (.ireturn, 1) := dk_172 (dk_at dksX4_ahead_0 16 rfl rfl)
theorem dX4_ahead_17 : decode cX4_ahead 17 = .ok (.aload_n 0, 1) := dk_42 (dk_at dksX4_ahead_0 17 rfl rfl)
theorem dX4_ahead_18 : decode cX4_ahead 18 = .ok (.invokevirtual 200, 3) := dk_182 0 200 (dk_at dksX4_ahead_0 18 rfl rfl)
theorem dX4_ahead_21 : decode cX4_ahead 21 = .ok (.aload_n 0, 1) := dk_42 (dk_at dksX4_ahead_0 21 rfl rfl)
theorem dX4_ahead_22 : decode cX4_ahead 22 = .ok (.iload_n 2, 1) := dk_28 (dk_at dksX4_ahead_0 22 rfl rfl)
theorem dX4_ahead_23 : decode cX4_ahead 23 = .ok (.invokevirtual 234, 3) := dk_182 0 234 (dk_at dksX4_ahead_1 0 rfl rfl)
theorem dX4_ahead_26 : decode cX4_ahead 26 = .ok (.aload_n 0, 1) := dk_42 (dk_at dksX4_ahead_1 3 rfl rfl)
theorem dX4_ahead_27 : decode cX4_ahead 27 = .ok (.iload_n 1, 1) := dk_27 (dk_at dksX4_ahead_1 4 rfl rfl)
theorem dX4_ahead_28 : decode cX4_ahead 28 = .ok (.iconst 2, 1) := dk_5 (dk_at dksX4_ahead_1 5 rfl rfl)
theorem dX4_ahead_29 : decode cX4_ahead 29 = .ok (.invokevirtual 160, 3) := dk_182 0 160 (dk_at dksX4_ahead_1 6 rfl rfl)
theorem dX4_ahead_32 : decode cX4_ahead 32 = .ok (.ireturn, 1) := dk_172 (dk_at dksX4_ahead_1 9 rfl rfl)
abbrev cX4_lasts : ByteArray := prog_12_method_59_code
def yX4_lasts : MethodName := ⟨RX4, "lasts", "(I)I"⟩
def dkwX4_lasts_0 : List UInt8 := [42, 27, 182, 0, 220, 154, 0, 5, 2, 172, 42, 182, 0, 200, 42, 27, 182, 0, 245, 172]
abbrev dktX4_lasts_0 : List UInt8 := dkwX4_lasts_0 ++ []
theorem dksX4_lasts_0 : cX4_lasts.data.toList.drop 0 = dktX4_lasts_0 := by decide +kernel
theorem dX4_lasts_0 : decode cX4_lasts 0 = .ok (.aload_n 0, 1) := dk_42 (dk_at dksX4_lasts_0 0 rfl rfl)
theorem dX4_lasts_1 : decode cX4_lasts 1 = .ok (.iload_n 1, 1) := dk_27 (dk_at dksX4_lasts_0 1 rfl rfl)
theorem dX4_lasts_2 : decode cX4_lasts 2 = .ok (.invokevirtual 220, 3) := dk_182 0 220 (dk_at dksX4_lasts_0 2 rfl rfl)
theorem dX4_lasts_5 : decode cX4_lasts 5 = .ok (.ifCond .ne 5, 3) := dk_154 0 5 (dk_at dksX4_lasts_0 5 rfl rfl)
theorem dX4_lasts_8 : decode cX4_lasts 8 = .ok (.iconst (-1), 1) := dk_2 (dk_at dksX4_lasts_0 8 rfl rfl)
theorem dX4_lasts_9 : decode cX4_lasts 9 = .ok (.ireturn, 1) := dk_172 (dk_at dksX4_lasts_0 9 rfl rfl)
theorem dX4_lasts_10 : decode cX4_lasts 10 = .ok (.aload_n 0, 1) := dk_42 (dk_at dksX4_lasts_0 10 rfl rfl)
theorem dX4_lasts_11 : decode cX4_lasts 11 = .ok (.invokevirtual 200, 3) := dk_182 0 200 (dk_at dksX4_lasts_0 11 rfl rfl)
theorem dX4_lasts_14 : decode cX4_lasts 14 = .ok (.aload_n 0, 1) := dk_42 (dk_at dksX4_lasts_0 14 rfl rfl)
theorem dX4_lasts_15 : decode cX4_lasts 15 = .ok (.iload_n 1, 1) := dk_27 (dk_at dksX4_lasts_0 15 rfl rfl)
theorem dX4_lasts_16 : decode cX4_lasts 16 = .ok (.invokevirtual 245, 3) := dk_182 0 245 (dk_at dksX4_lasts_0 16 rfl rfl)
theorem dX4_lasts_19 : decode cX4_lasts 19 = .ok (.ireturn, 1) := dk_172 (dk_at dksX4_lasts_0 19 rfl rfl)
abbrev cX4_turnsTo : ByteArray := prog_12_method_58_code
def yX4_turnsTo : MethodName := ⟨RX4, "turnsTo", "(I)I"⟩
def dkwX4_turnsTo_1 : List UInt8 := [132, 2, 1, 167, 255, 232, 16, 252, 172]
abbrev dktX4_turnsTo_1 : List UInt8 := dkwX4_turnsTo_1 ++ []
def dkwX4_turnsTo_0 : List UInt8 := [3, 61, 28, 16, 60, 163, 0, 24, 42, 27, 182, 0, 189, 153, 0, 5, 28, 172, 42, 3, 182, 0, 196]
abbrev dktX4_turnsTo_0 : List UInt8 := dkwX4_turnsTo_0 ++ dktX4_turnsTo_1
theorem dksX4_turnsTo_0 : cX4_turnsTo.data.toList.drop 0 = dktX4_turnsTo_0 := by decide +kernel
theorem dksX4_turnsTo_1 : cX4_turnsTo.data.toList.drop 23 = dktX4_turnsTo_1 := dk_seg dksX4_turnsTo_0 23 rfl rfl
theorem dX4_turnsTo_0 : decode cX4_turnsTo 0 = .ok (.iconst 0, 1) := dk_3 (dk_at dksX4_turnsTo_0 0 rfl rfl)
theorem dX4_turnsTo_1 : decode cX4_turnsTo 1 = .ok (.istore_n 2, 1) := dk_61 (dk_at dksX4_turnsTo_0 1 rfl rfl)
theorem dX4_turnsTo_2 : decode cX4_turnsTo 2 = .ok (.iload_n 2, 1) := dk_28 (dk_at dksX4_turnsTo_0 2 rfl rfl)
theorem dX4_turnsTo_3 : decode cX4_turnsTo 3 = .ok (.bipush 60, 2) := dk_16 60 (dk_at dksX4_turnsTo_0 3 rfl rfl)
theorem dX4_turnsTo_5 : decode cX4_turnsTo 5 = .ok (.if_icmp .gt 24, 3) := dk_163 0 24 (dk_at dksX4_turnsTo_0 5 rfl rfl)
theorem dX4_turnsTo_8 : decode cX4_turnsTo 8 = .ok (.aload_n 0, 1) := dk_42 (dk_at dksX4_turnsTo_0 8 rfl rfl)
theorem dX4_turnsTo_9 : decode cX4_turnsTo 9 = .ok (.iload_n 1, 1) := dk_27 (dk_at dksX4_turnsTo_0 9 rfl rfl)
theorem dX4_turnsTo_10 : decode cX4_turnsTo 10 = .ok (.invokevirtual 189, 3) := dk_182 0 189 (dk_at dksX4_turnsTo_0 10 rfl rfl)
theorem dX4_turnsTo_13 : decode cX4_turnsTo 13 = .ok (.ifCond .eq 5, 3) := dk_153 0 5 (dk_at dksX4_turnsTo_0 13 rfl rfl)
theorem dX4_turnsTo_16 : decode cX4_turnsTo 16 = .ok (.iload_n 2, 1) := dk_28 (dk_at dksX4_turnsTo_0 16 rfl rfl)
theorem dX4_turnsTo_17 : decode cX4_turnsTo 17 = .ok (.ireturn, 1) := dk_172 (dk_at dksX4_turnsTo_0 17 rfl rfl)
theorem dX4_turnsTo_18 : decode cX4_turnsTo 18 = .ok (.aload_n 0, 1) := dk_42 (dk_at dksX4_turnsTo_0 18 rfl rfl)
theorem dX4_turnsTo_19 : decode cX4_turnsTo 19 = .ok (.iconst 0, 1) := dk_3 (dk_at dksX4_turnsTo_0 19 rfl rfl)
theorem dX4_turnsTo_20 : decode cX4_turnsTo 20 = .ok (.invokevirtual 196, 3) := dk_182 0 196 (dk_at dksX4_turnsTo_0 20 rfl rfl)
theorem dX4_turnsTo_23 : decode cX4_turnsTo 23 = .ok (.iinc 2 1, 3) := dk_132 2 1 (dk_at dksX4_turnsTo_1 0 rfl rfl)
theorem dX4_turnsTo_26 : decode cX4_turnsTo 26 = .ok (.goto (-24), 3) := dk_167 255 232 (dk_at dksX4_turnsTo_1 3 rfl rfl)
theorem dX4_turnsTo_29 : decode cX4_turnsTo 29 = .ok (.bipush (-4), 2) := dk_16 252 (dk_at dksX4_turnsTo_1 6 rfl rfl)
theorem dX4_turnsTo_31 : decode cX4_turnsTo 31 = .ok (.ireturn, 1) := dk_172 (dk_at dksX4_turnsTo_1 8 rfl rfl)
abbrev cX4_stand : ByteArray := prog_12_method_64_code
def yX4_stand : MethodName := ⟨RX4, "stand", "(II)I"⟩
def dkwX4_stand_4 : List UInt8 := [16, 252, 167, 0, 8, 42, 180, 0, 251, 116, 172]
abbrev dktX4_stand_4 : List UInt8 := dkwX4_stand_4 ++ []
def dkwX4_stand_3 : List UInt8 := [167, 255, 209, 28, 154, 0, 10, 42, 180, 0, 248, 167, 0, 23, 42, 180, 0, 251, 19, 1, 4, 160, 0, 8]
abbrev dktX4_stand_3 : List UInt8 := dkwX4_stand_3 ++ dktX4_stand_4
def dkwX4_stand_2 : List UInt8 := [29, 21, 4, 16, 252, 160, 0, 9, 19, 1, 4, 167, 0, 6, 21, 4, 116, 182, 1, 5, 132, 3, 1]
abbrev dktX4_stand_2 : List UInt8 := dkwX4_stand_2 ++ dktX4_stand_3
def dkwX4_stand_1 : List UInt8 := [29, 16, 6, 162, 0, 47, 42, 182, 0, 200, 42, 27, 29, 182, 0, 186, 42, 27, 182, 0, 245, 54, 4, 42]
abbrev dktX4_stand_1 : List UInt8 := dkwX4_stand_1 ++ dktX4_stand_2
def dkwX4_stand_0 : List UInt8 := [42, 27, 182, 0, 220, 153, 0, 10, 28, 184, 0, 254, 154, 0, 5, 2, 172, 42, 3, 182, 1, 1, 3, 62]
abbrev dktX4_stand_0 : List UInt8 := dkwX4_stand_0 ++ dktX4_stand_1
theorem dksX4_stand_0 : cX4_stand.data.toList.drop 0 = dktX4_stand_0 := by decide +kernel
theorem dksX4_stand_1 : cX4_stand.data.toList.drop 24 = dktX4_stand_1 := dk_seg dksX4_stand_0 24 rfl rfl
theorem dksX4_stand_2 : cX4_stand.data.toList.drop 48 = dktX4_stand_2 := dk_seg dksX4_stand_1 24 rfl rfl
theorem dksX4_stand_3 : cX4_stand.data.toList.drop 71 = dktX4_stand_3 := dk_seg dksX4_stand_2 23 rfl rfl
theorem dksX4_stand_4 : cX4_stand.data.toList.drop 95 = dktX4_stand_4 := dk_seg dksX4_stand_3 24 rfl rfl
theorem dX4_stand_0 : decode cX4_stand 0 = .ok (.aload_n 0, 1) := dk_42 (dk_at dksX4_stand_0 0 rfl rfl)
theorem dX4_stand_1 : decode cX4_stand 1 = .ok (.iload_n 1, 1) := dk_27 (dk_at dksX4_stand_0 1 rfl rfl)
theorem dX4_stand_2 : decode cX4_stand 2 = .ok (.invokevirtual 220, 3) := dk_182 0 220 (dk_at dksX4_stand_0 2 rfl rfl)
theorem dX4_stand_5 : decode cX4_stand 5 = .ok (.ifCond .eq 10, 3) := dk_153 0 10 (dk_at dksX4_stand_0 5 rfl rfl)
theorem dX4_stand_8 : decode cX4_stand 8 = .ok (.iload_n 2, 1) := dk_28 (dk_at dksX4_stand_0 8 rfl rfl)
theorem dX4_stand_9 : decode cX4_stand 9 = .ok (.invokestatic 254, 3) := dk_184 0 254 (dk_at dksX4_stand_0 9 rfl rfl)
theorem dX4_stand_12 : decode cX4_stand 12 = .ok (.ifCond .ne 5, 3) := dk_154 0 5 (dk_at dksX4_stand_0 12 rfl rfl)
theorem dX4_stand_15 : decode cX4_stand 15 = .ok (.iconst (-1), 1) := dk_2 (dk_at dksX4_stand_0 15 rfl rfl)
theorem dX4_stand_16 : decode cX4_stand 16 = .ok (.ireturn, 1) := dk_172 (dk_at dksX4_stand_0 16 rfl rfl)
theorem dX4_stand_17 : decode cX4_stand 17 = .ok (.aload_n 0, 1) := dk_42 (dk_at dksX4_stand_0 17 rfl rfl)
theorem dX4_stand_18 : decode cX4_stand 18 = .ok (.iconst 0, 1) := dk_3 (dk_at dksX4_stand_0 18 rfl rfl)
theorem dX4_stand_19 : decode cX4_stand 19 = .ok (.invokevirtual 257, 3) := dk_182 1 1 (dk_at dksX4_stand_0 19 rfl rfl)
theorem dX4_stand_22 : decode cX4_stand 22 = .ok (.iconst 0, 1) := dk_3 (dk_at dksX4_stand_0 22 rfl rfl)
theorem dX4_stand_23 : decode cX4_stand 23 = .ok (.istore_n 3, 1) := dk_62 (dk_at dksX4_stand_0 23 rfl rfl)
theorem dX4_stand_24 : decode cX4_stand 24 = .ok (.iload_n 3, 1) := dk_29 (dk_at dksX4_stand_1 0 rfl rfl)
theorem dX4_stand_25 : decode cX4_stand 25 = .ok (.bipush 6, 2) := dk_16 6 (dk_at dksX4_stand_1 1 rfl rfl)
theorem dX4_stand_27 : decode cX4_stand 27 = .ok (.if_icmp .ge 47, 3) := dk_162 0 47 (dk_at dksX4_stand_1 3 rfl rfl)
theorem dX4_stand_30 : decode cX4_stand 30 = .ok (.aload_n 0, 1) := dk_42 (dk_at dksX4_stand_1 6 rfl rfl)
theorem dX4_stand_31 : decode cX4_stand 31 = .ok (.invokevirtual 200, 3) := dk_182 0 200 (dk_at dksX4_stand_1 7 rfl rfl)
theorem dX4_stand_34 : decode cX4_stand 34 = .ok (.aload_n 0, 1) := dk_42 (dk_at dksX4_stand_1 10 rfl rfl)
theorem dX4_stand_35 : decode cX4_stand 35 = .ok (.iload_n 1, 1) := dk_27 (dk_at dksX4_stand_1 11 rfl rfl)
theorem dX4_stand_36 : decode cX4_stand 36 = .ok (.iload_n 3, 1) := dk_29 (dk_at dksX4_stand_1 12 rfl rfl)
theorem dX4_stand_37 : decode cX4_stand 37 = .ok (.invokevirtual 186, 3) := dk_182 0 186 (dk_at dksX4_stand_1 13 rfl rfl)
theorem dX4_stand_40 : decode cX4_stand 40 = .ok (.aload_n 0, 1) := dk_42 (dk_at dksX4_stand_1 16 rfl rfl)
theorem dX4_stand_41 : decode cX4_stand 41 = .ok (.iload_n 1, 1) := dk_27 (dk_at dksX4_stand_1 17 rfl rfl)
theorem dX4_stand_42 : decode cX4_stand 42 = .ok (.invokevirtual 245, 3) := dk_182 0 245 (dk_at dksX4_stand_1 18 rfl rfl)
theorem dX4_stand_45 : decode cX4_stand 45 = .ok (.istore 4, 2) := dk_54 4 (dk_at dksX4_stand_1 21 rfl rfl)
theorem dX4_stand_47 : decode cX4_stand 47 = .ok (.aload_n 0, 1) := dk_42 (dk_at dksX4_stand_1 23 rfl rfl)
theorem dX4_stand_48 : decode cX4_stand 48 = .ok (.iload_n 3, 1) := dk_29 (dk_at dksX4_stand_2 0 rfl rfl)
theorem dX4_stand_49 : decode cX4_stand 49 = .ok (.iload 4, 2) := dk_21 4 (dk_at dksX4_stand_2 1 rfl rfl)
theorem dX4_stand_51 : decode cX4_stand 51 = .ok (.bipush (-4), 2) := dk_16 252 (dk_at dksX4_stand_2 3 rfl rfl)
theorem dX4_stand_53 : decode cX4_stand 53 = .ok (.if_icmp .ne 9, 3) := dk_160 0 9 (dk_at dksX4_stand_2 5 rfl rfl)
theorem dX4_stand_56 : decode cX4_stand 56 = .ok (.ldc_w 260, 3) := dk_19 1 4 (dk_at dksX4_stand_2 8 rfl rfl)
theorem dX4_stand_59 : decode cX4_stand 59 = .ok (.goto 6, 3) := dk_167 0 6 (dk_at dksX4_stand_2 11 rfl rfl)
theorem dX4_stand_62 : decode cX4_stand 62 = .ok (.iload 4, 2) := dk_21 4 (dk_at dksX4_stand_2 14 rfl rfl)
theorem dX4_stand_64 : decode cX4_stand 64 = .ok (.ineg, 1) := dk_116 (dk_at dksX4_stand_2 16 rfl rfl)
theorem dX4_stand_65 : decode cX4_stand 65 = .ok (.invokevirtual 261, 3) := dk_182 1 5 (dk_at dksX4_stand_2 17 rfl rfl)
theorem dX4_stand_68 : decode cX4_stand 68 = .ok (.iinc 3 1, 3) := dk_132 3 1 (dk_at dksX4_stand_2 20 rfl rfl)
theorem dX4_stand_71 : decode cX4_stand 71 = .ok (.goto (-47), 3) := dk_167 255 209 (dk_at dksX4_stand_3 0 rfl rfl)
theorem dX4_stand_74 : decode cX4_stand 74 = .ok (.iload_n 2, 1) := dk_28 (dk_at dksX4_stand_3 3 rfl rfl)
theorem dX4_stand_75 : decode cX4_stand 75 = .ok (.ifCond .ne 10, 3) := dk_154 0 10 (dk_at dksX4_stand_3 4 rfl rfl)
theorem dX4_stand_78 : decode cX4_stand 78 = .ok (.aload_n 0, 1) := dk_42 (dk_at dksX4_stand_3 7 rfl rfl)
theorem dX4_stand_79 : decode cX4_stand 79 = .ok (.getfield 248, 3) := dk_180 0 248 (dk_at dksX4_stand_3 8 rfl rfl)
theorem dX4_stand_82 : decode cX4_stand 82 = .ok (.goto 23, 3) := dk_167 0 23 (dk_at dksX4_stand_3 11 rfl rfl)
theorem dX4_stand_85 : decode cX4_stand 85 = .ok (.aload_n 0, 1) := dk_42 (dk_at dksX4_stand_3 14 rfl rfl)
theorem dX4_stand_86 : decode cX4_stand 86 = .ok (.getfield 251, 3) := dk_180 0 251 (dk_at dksX4_stand_3 15 rfl rfl)
theorem dX4_stand_89 : decode cX4_stand 89 = .ok (.ldc_w 260, 3) := dk_19 1 4 (dk_at dksX4_stand_3 18 rfl rfl)
theorem dX4_stand_92 : decode cX4_stand 92 = .ok (.if_icmp .ne 8, 3) := dk_160 0 8 (dk_at dksX4_stand_3 21 rfl rfl)
theorem dX4_stand_95 : decode cX4_stand 95 = .ok (.bipush (-4), 2) := dk_16 252 (dk_at dksX4_stand_4 0 rfl rfl)
theorem dX4_stand_97 : decode cX4_stand 97 = .ok (.goto 8, 3) := dk_167 0 8 (dk_at dksX4_stand_4 2 rfl rfl)
theorem dX4_stand_100 : decode cX4_stand 100 = .ok (.aload_n 0, 1) := dk_42 (dk_at dksX4_stand_4 5 rfl rfl)
theorem dX4_stand_101 : decode cX4_stand 101 = .ok (.getfield 251, 3) := dk_180 0 251 (dk_at dksX4_stand_4 6 rfl rfl)
theorem dX4_stand_104 : decode cX4_stand 104 = .ok (.ineg, 1) := dk_116 (dk_at dksX4_stand_4 9 rfl rfl)
theorem dX4_stand_105 : decode cX4_stand 105 = .ok (.ireturn, 1) := dk_172 (dk_at dksX4_stand_4 10 rfl rfl)
abbrev cX4_isPart : ByteArray := prog_12_method_27_code
def yX4_isPart : MethodName := ⟨RX4, "isPart", "(I)Z"⟩
def dkwX4_isPart_0 : List UInt8 := [26, 133, 9, 10, 184, 0, 76, 172]
abbrev dktX4_isPart_0 : List UInt8 := dkwX4_isPart_0 ++ []
theorem dksX4_isPart_0 : cX4_isPart.data.toList.drop 0 = dktX4_isPart_0 := by decide +kernel
theorem dX4_isPart_0 : decode cX4_isPart 0 = .ok (.iload_n 0, 1) := dk_26 (dk_at dksX4_isPart_0 0 rfl rfl)
theorem dX4_isPart_1 : decode cX4_isPart 1 = .ok (.i2l, 1) := dk_133 (dk_at dksX4_isPart_0 1 rfl rfl)
theorem dX4_isPart_2 : decode cX4_isPart 2 = .ok (.lconst 0, 1) := dk_9 (dk_at dksX4_isPart_0 2 rfl rfl)
theorem dX4_isPart_3 : decode cX4_isPart 3 = .ok (.lconst 1, 1) := dk_10 (dk_at dksX4_isPart_0 3 rfl rfl)
theorem dX4_isPart_4 : decode cX4_isPart 4 = .ok (.invokestatic 76, 3) := dk_184 0 76 (dk_at dksX4_isPart_0 4 rfl rfl)
theorem dX4_isPart_7 : decode cX4_isPart 7 = .ok (.ireturn, 1) := dk_172 (dk_at dksX4_isPart_0 7 rfl rfl)
abbrev cX4_startsJudging : ByteArray := prog_12_method_60_code
def yX4_startsJudging : MethodName := ⟨RX4, "startsJudging", "(I)V"⟩
def dkwX4_startsJudging_0 : List UInt8 := [42, 16, 252, 181, 0, 248, 42, 27, 181, 0, 251, 177]
abbrev dktX4_startsJudging_0 : List UInt8 := dkwX4_startsJudging_0 ++ []
theorem dksX4_startsJudging_0 : cX4_startsJudging.data.toList.drop 0 = dktX4_startsJudging_0 := by decide +kernel
theorem dX4_startsJudging_0 : decode cX4_startsJudging 0 = .ok (.aload_n 0, 1) := dk_42 (dk_at dksX4_startsJudging_0 0 rfl rfl)
theorem dX4_startsJudging_1 : decode cX4_startsJudging 1 = .ok (.bipush (-4), 2) := dk_16 252 (dk_at dksX4_startsJudging_0 1 rfl rfl)
theorem dX4_startsJudging_3 : decode cX4_startsJudging 3 = .ok (.putfield 248, 3) := dk_181 0 248 (dk_at dksX4_startsJudging_0 3 rfl rfl)
theorem dX4_startsJudging_6 : decode cX4_startsJudging 6 = .ok (.aload_n 0, 1) := dk_42 (dk_at dksX4_startsJudging_0 6 rfl rfl)
theorem dX4_startsJudging_7 : decode cX4_startsJudging 7 = .ok (.iload_n 1, 1) := dk_27 (dk_at dksX4_startsJudging_0 7 rfl rfl)
theorem dX4_startsJudging_8 : decode cX4_startsJudging 8 = .ok (.putfield 251, 3) := dk_181 0 251 (dk_at dksX4_startsJudging_0 8 rfl rfl)
theorem dX4_startsJudging_11 : decode cX4_startsJudging 11 = .ok (.return_, 1) := dk_177 (dk_at dksX4_startsJudging_0 11 rfl rfl)
abbrev cX4_judges : ByteArray := prog_12_method_61_code
def yX4_judges : MethodName := ⟨RX4, "judges", "(II)V"⟩
def dkwX4_judges_1 : List UInt8 := [180, 0, 251, 184, 0, 176, 181, 0, 251, 177]
abbrev dktX4_judges_1 : List UInt8 := dkwX4_judges_1 ++ []
def dkwX4_judges_0 : List UInt8 := [42, 28, 42, 180, 0, 251, 162, 0, 7, 27, 167, 0, 7, 42, 180, 0, 248, 181, 0, 248, 42, 28, 42]
abbrev dktX4_judges_0 : List UInt8 := dkwX4_judges_0 ++ dktX4_judges_1
theorem dksX4_judges_0 : cX4_judges.data.toList.drop 0 = dktX4_judges_0 := by decide +kernel
theorem dksX4_judges_1 : cX4_judges.data.toList.drop 23 = dktX4_judges_1 := dk_seg dksX4_judges_0 23 rfl rfl
theorem dX4_judges_0 : decode cX4_judges 0 = .ok (.aload_n 0, 1) := dk_42 (dk_at dksX4_judges_0 0 rfl rfl)
theorem dX4_judges_1 : decode cX4_judges 1 = .ok (.iload_n 2, 1) := dk_28 (dk_at dksX4_judges_0 1 rfl rfl)
theorem dX4_judges_2 : decode cX4_judges 2 = .ok (.aload_n 0, 1) := dk_42 (dk_at dksX4_judges_0 2 rfl rfl)
theorem dX4_judges_3 : decode cX4_judges 3 = .ok (.getfield 251, 3) := dk_180 0 251 (dk_at dksX4_judges_0 3 rfl rfl)
theorem dX4_judges_6 : decode cX4_judges 6 = .ok (.if_icmp .ge 7, 3) := dk_162 0 7 (dk_at dksX4_judges_0 6 rfl rfl)
theorem dX4_judges_9 : decode cX4_judges 9 = .ok (.iload_n 1, 1) := dk_27 (dk_at dksX4_judges_0 9 rfl rfl)
theorem dX4_judges_10 : decode cX4_judges 10 = .ok (.goto 7, 3) := dk_167 0 7 (dk_at dksX4_judges_0 10 rfl rfl)
theorem dX4_judges_13 : decode cX4_judges 13 = .ok (.aload_n 0, 1) := dk_42 (dk_at dksX4_judges_0 13 rfl rfl)
theorem dX4_judges_14 : decode cX4_judges 14 = .ok (.getfield 248, 3) := dk_180 0 248 (dk_at dksX4_judges_0 14 rfl rfl)
theorem dX4_judges_17 : decode cX4_judges 17 = .ok (.putfield 248, 3) := dk_181 0 248 (dk_at dksX4_judges_0 17 rfl rfl)
theorem dX4_judges_20 : decode cX4_judges 20 = .ok (.aload_n 0, 1) := dk_42 (dk_at dksX4_judges_0 20 rfl rfl)
theorem dX4_judges_21 : decode cX4_judges 21 = .ok (.iload_n 2, 1) := dk_28 (dk_at dksX4_judges_0 21 rfl rfl)
theorem dX4_judges_22 : decode cX4_judges 22 = .ok (.aload_n 0, 1) := dk_42 (dk_at dksX4_judges_0 22 rfl rfl)
theorem dX4_judges_23 : decode cX4_judges 23 = .ok (.getfield 251, 3) := dk_180 0 251 (dk_at dksX4_judges_1 0 rfl rfl)
theorem dX4_judges_26 : decode cX4_judges 26 = .ok (.invokestatic 176, 3) := dk_184 0 176 (dk_at dksX4_judges_1 3 rfl rfl)
theorem dX4_judges_29 : decode cX4_judges 29 = .ok (.putfield 251, 3) := dk_181 0 251 (dk_at dksX4_judges_1 6 rfl rfl)
theorem dX4_judges_32 : decode cX4_judges 32 = .ok (.return_, 1) := dk_177 (dk_at dksX4_judges_1 9 rfl rfl)
abbrev cX4_soft : ByteArray := prog_12_method_65_code
def yX4_soft : MethodName := ⟨RX4, "soft", "(II)I"⟩
def dkwX4_soft_3 : List UInt8 := [172, 132, 3, 255, 167, 255, 216, 16, 252, 172]
abbrev dktX4_soft_3 : List UInt8 := dkwX4_soft_3 ++ []
def dkwX4_soft_2 : List UInt8 := [16, 30, 5, 27, 104, 96, 3, 96, 29, 79, 42, 28, 182, 0, 234, 42, 27, 182, 0, 189, 154, 0, 5, 29]
abbrev dktX4_soft_2 : List UInt8 := dkwX4_soft_2 ++ dktX4_soft_3
def dkwX4_soft_1 : List UInt8 := [182, 0, 189, 153, 0, 6, 16, 254, 172, 16, 9, 62, 29, 155, 0, 42, 42, 182, 0, 200, 42, 180, 0, 13]
abbrev dktX4_soft_1 : List UInt8 := dkwX4_soft_1 ++ dktX4_soft_2
def dkwX4_soft_0 : List UInt8 := [42, 27, 182, 0, 220, 153, 0, 10, 28, 184, 0, 242, 154, 0, 5, 2, 172, 42, 182, 0, 200, 42, 27]
abbrev dktX4_soft_0 : List UInt8 := dkwX4_soft_0 ++ dktX4_soft_1
theorem dksX4_soft_0 : cX4_soft.data.toList.drop 0 = dktX4_soft_0 := by decide +kernel
theorem dksX4_soft_1 : cX4_soft.data.toList.drop 23 = dktX4_soft_1 := dk_seg dksX4_soft_0 23 rfl rfl
theorem dksX4_soft_2 : cX4_soft.data.toList.drop 47 = dktX4_soft_2 := dk_seg dksX4_soft_1 24 rfl rfl
theorem dksX4_soft_3 : cX4_soft.data.toList.drop 71 = dktX4_soft_3 := dk_seg dksX4_soft_2 24 rfl rfl
theorem dX4_soft_0 : decode cX4_soft 0 = .ok (.aload_n 0, 1) := dk_42 (dk_at dksX4_soft_0 0 rfl rfl)
theorem dX4_soft_1 : decode cX4_soft 1 = .ok (.iload_n 1, 1) := dk_27 (dk_at dksX4_soft_0 1 rfl rfl)
theorem dX4_soft_2 : decode cX4_soft 2 = .ok (.invokevirtual 220, 3) := dk_182 0 220 (dk_at dksX4_soft_0 2 rfl rfl)
theorem dX4_soft_5 : decode cX4_soft 5 = .ok (.ifCond .eq 10, 3) := dk_153 0 10 (dk_at dksX4_soft_0 5 rfl rfl)
theorem dX4_soft_8 : decode cX4_soft 8 = .ok (.iload_n 2, 1) := dk_28 (dk_at dksX4_soft_0 8 rfl rfl)
theorem dX4_soft_9 : decode cX4_soft 9 = .ok (.invokestatic 242, 3) := dk_184 0 242 (dk_at dksX4_soft_0 9 rfl rfl)
theorem dX4_soft_12 : decode cX4_soft 12 = .ok (.ifCond .ne 5, 3) := dk_154 0 5 (dk_at dksX4_soft_0 12 rfl rfl)
theorem dX4_soft_15 : decode cX4_soft 15 = .ok (.iconst (-1), 1) := dk_2 (dk_at dksX4_soft_0 15 rfl rfl)
theorem dX4_soft_16 : decode cX4_soft 16 = .ok (.ireturn, 1) := dk_172 (dk_at dksX4_soft_0 16 rfl rfl)
theorem dX4_soft_17 : decode cX4_soft 17 = .ok (.aload_n 0, 1) := dk_42 (dk_at dksX4_soft_0 17 rfl rfl)
theorem dX4_soft_18 : decode cX4_soft 18 = .ok (.invokevirtual 200, 3) := dk_182 0 200 (dk_at dksX4_soft_0 18 rfl rfl)
theorem dX4_soft_21 : decode cX4_soft 21 = .ok (.aload_n 0, 1) := dk_42 (dk_at dksX4_soft_0 21 rfl rfl)
theorem dX4_soft_22 : decode cX4_soft 22 = .ok (.iload_n 1, 1) := dk_27 (dk_at dksX4_soft_0 22 rfl rfl)
theorem dX4_soft_23 : decode cX4_soft 23 = .ok (.invokevirtual 189, 3) := dk_182 0 189 (dk_at dksX4_soft_1 0 rfl rfl)
theorem dX4_soft_26 : decode cX4_soft 26 = .ok (.ifCond .eq 6, 3) := dk_153 0 6 (dk_at dksX4_soft_1 3 rfl rfl)
theorem dX4_soft_29 : decode cX4_soft 29 = .ok (.bipush (-2), 2) := dk_16 254 (dk_at dksX4_soft_1 6 rfl rfl)
theorem dX4_soft_31 : decode cX4_soft 31 = .ok (.ireturn, 1) := dk_172 (dk_at dksX4_soft_1 8 rfl rfl)
theorem dX4_soft_32 : decode cX4_soft 32 = .ok (.bipush 9, 2) := dk_16 9 (dk_at dksX4_soft_1 9 rfl rfl)
theorem dX4_soft_34 : decode cX4_soft 34 = .ok (.istore_n 3, 1) := dk_62 (dk_at dksX4_soft_1 11 rfl rfl)
theorem dX4_soft_35 : decode cX4_soft 35 = .ok (.iload_n 3, 1) := dk_29 (dk_at dksX4_soft_1 12 rfl rfl)
theorem dX4_soft_36 : decode cX4_soft 36 = .ok (.ifCond .lt 42, 3) := dk_155 0 42 (dk_at dksX4_soft_1 13 rfl rfl)
theorem dX4_soft_39 : decode cX4_soft 39 = .ok (.aload_n 0, 1) := dk_42 (dk_at dksX4_soft_1 16 rfl rfl)
theorem dX4_soft_40 : decode cX4_soft 40 = .ok (.invokevirtual 200, 3) := dk_182 0 200 (dk_at dksX4_soft_1 17 rfl rfl)
theorem dX4_soft_43 : decode cX4_soft 43 = .ok (.aload_n 0, 1) := dk_42 (dk_at dksX4_soft_1 20 rfl rfl)
theorem dX4_soft_44 : decode cX4_soft 44 = .ok (.getfield 13, 3) := dk_180 0 13 (dk_at dksX4_soft_1 21 rfl rfl)
theorem dX4_soft_47 : decode cX4_soft 47 = .ok (.bipush 30, 2) := dk_16 30 (dk_at dksX4_soft_2 0 rfl rfl)
theorem dX4_soft_49 : decode cX4_soft 49 = .ok (.iconst 2, 1) := dk_5 (dk_at dksX4_soft_2 2 rfl rfl)
theorem dX4_soft_50 : decode cX4_soft 50 = .ok (.iload_n 1, 1) := dk_27 (dk_at dksX4_soft_2 3 rfl rfl)
theorem dX4_soft_51 : decode cX4_soft 51 = .ok (.imul, 1) := dk_104 (dk_at dksX4_soft_2 4 rfl rfl)
theorem dX4_soft_52 : decode cX4_soft 52 = .ok (.iadd, 1) := dk_96 (dk_at dksX4_soft_2 5 rfl rfl)
theorem dX4_soft_53 : decode cX4_soft 53 = .ok (.iconst 0, 1) := dk_3 (dk_at dksX4_soft_2 6 rfl rfl)
theorem dX4_soft_54 : decode cX4_soft 54 = .ok (.iadd, 1) := dk_96 (dk_at dksX4_soft_2 7 rfl rfl)
theorem dX4_soft_55 : decode cX4_soft 55 = .ok (.iload_n 3, 1) := dk_29 (dk_at dksX4_soft_2 8 rfl rfl)
theorem dX4_soft_56 : decode cX4_soft 56 = .ok (.iastore, 1) := dk_79 (dk_at dksX4_soft_2 9 rfl rfl)
theorem dX4_soft_57 : decode cX4_soft 57 = .ok (.aload_n 0, 1) := dk_42 (dk_at dksX4_soft_2 10 rfl rfl)
theorem dX4_soft_58 : decode cX4_soft 58 = .ok (.iload_n 2, 1) := dk_28 (dk_at dksX4_soft_2 11 rfl rfl)
theorem dX4_soft_59 : decode cX4_soft 59 = .ok (.invokevirtual 234, 3) := dk_182 0 234 (dk_at dksX4_soft_2 12 rfl rfl)
theorem dX4_soft_62 : decode cX4_soft 62 = .ok (.aload_n 0, 1) := dk_42 (dk_at dksX4_soft_2 15 rfl rfl)
theorem dX4_soft_63 : decode cX4_soft 63 = .ok (.iload_n 1, 1) := dk_27 (dk_at dksX4_soft_2 16 rfl rfl)
theorem dX4_soft_64 : decode cX4_soft 64 = .ok (.invokevirtual 189, 3) := dk_182 0 189 (dk_at dksX4_soft_2 17 rfl rfl)
theorem dX4_soft_67 : decode cX4_soft 67 = .ok (.ifCond .ne 5, 3) := dk_154 0 5 (dk_at dksX4_soft_2 20 rfl rfl)
theorem dX4_soft_70 : decode cX4_soft 70 = .ok (.iload_n 3, 1) := dk_29 (dk_at dksX4_soft_2 23 rfl rfl)
theorem dX4_soft_71 : decode cX4_soft 71 = .ok (.ireturn, 1) := dk_172 (dk_at dksX4_soft_3 0 rfl rfl)
theorem dX4_soft_72 : decode cX4_soft 72 = .ok (.iinc 3 (-1), 3) := dk_132 3 255 (dk_at dksX4_soft_3 1 rfl rfl)
theorem dX4_soft_75 : decode cX4_soft 75 = .ok (.goto (-40), 3) := dk_167 255 216 (dk_at dksX4_soft_3 4 rfl rfl)
theorem dX4_soft_78 : decode cX4_soft 78 = .ok (.bipush (-4), 2) := dk_16 252 (dk_at dksX4_soft_3 7 rfl rfl)
theorem dX4_soft_80 : decode cX4_soft 80 = .ok (.ireturn, 1) := dk_172 (dk_at dksX4_soft_3 9 rfl rfl)
abbrev cX4_rust : ByteArray := prog_12_method_66_code
def yX4_rust : MethodName := ⟨RX4, "rust", "(II)I"⟩
def dkwX4_rust_6 : List UInt8 := [132, 6, 1, 167, 255, 211, 21, 5, 154, 0, 5, 29, 172, 132, 3, 1, 167, 255, 118, 16, 252, 172]
abbrev dktX4_rust_6 : List UInt8 := dkwX4_rust_6 ++ []
def dkwX4_rust_5 : List UInt8 := [160, 0, 16, 42, 21, 6, 182, 0, 189, 153, 0, 7, 4, 167, 0, 4, 3, 184, 0, 169, 96, 54, 5]
abbrev dktX4_rust_5 : List UInt8 := dkwX4_rust_5 ++ dktX4_rust_6
def dkwX4_rust_4 : List UInt8 := [3, 54, 6, 21, 6, 42, 180, 0, 71, 162, 0, 42, 21, 5, 21, 4, 21, 6, 122, 4, 126, 4]
abbrev dktX4_rust_4 : List UInt8 := dkwX4_rust_4 ++ dktX4_rust_5
def dkwX4_rust_3 : List UInt8 := [167, 0, 4, 3, 184, 0, 169, 21, 6, 120, 128, 54, 4, 132, 6, 1, 167, 255, 217, 42, 28, 182, 0, 234]
abbrev dktX4_rust_3 : List UInt8 := dkwX4_rust_3 ++ dktX4_rust_4
def dkwX4_rust_2 : List UInt8 := [21, 6, 42, 180, 0, 71, 162, 0, 36, 21, 4, 42, 21, 6, 4, 182, 0, 157, 27, 160, 0, 7, 4]
abbrev dktX4_rust_2 : List UInt8 := dkwX4_rust_2 ++ dktX4_rust_3
def dkwX4_rust_1 : List UInt8 := [3, 54, 4, 3, 54, 5, 42, 182, 0, 200, 42, 180, 0, 13, 5, 27, 104, 3, 96, 29, 79, 3, 54, 6]
abbrev dktX4_rust_1 : List UInt8 := dkwX4_rust_1 ++ dktX4_rust_2
def dkwX4_rust_0 : List UInt8 := [27, 184, 0, 209, 153, 0, 10, 28, 184, 0, 242, 154, 0, 5, 2, 172, 3, 62, 29, 16, 20, 163, 0, 138]
abbrev dktX4_rust_0 : List UInt8 := dkwX4_rust_0 ++ dktX4_rust_1
theorem dksX4_rust_0 : cX4_rust.data.toList.drop 0 = dktX4_rust_0 := by decide +kernel
theorem dksX4_rust_1 : cX4_rust.data.toList.drop 24 = dktX4_rust_1 := dk_seg dksX4_rust_0 24 rfl rfl
theorem dksX4_rust_2 : cX4_rust.data.toList.drop 48 = dktX4_rust_2 := dk_seg dksX4_rust_1 24 rfl rfl
theorem dksX4_rust_3 : cX4_rust.data.toList.drop 71 = dktX4_rust_3 := dk_seg dksX4_rust_2 23 rfl rfl
theorem dksX4_rust_4 : cX4_rust.data.toList.drop 95 = dktX4_rust_4 := dk_seg dksX4_rust_3 24 rfl rfl
theorem dksX4_rust_5 : cX4_rust.data.toList.drop 117 = dktX4_rust_5 := dk_seg dksX4_rust_4 22 rfl rfl
theorem dksX4_rust_6 : cX4_rust.data.toList.drop 140 = dktX4_rust_6 := dk_seg dksX4_rust_5 23 rfl rfl
theorem dX4_rust_0 : decode cX4_rust 0 = .ok (.iload_n 1, 1) := dk_27 (dk_at dksX4_rust_0 0 rfl rfl)
theorem dX4_rust_1 : decode cX4_rust 1 = .ok (.invokestatic 209, 3) := dk_184 0 209 (dk_at dksX4_rust_0 1 rfl rfl)
theorem dX4_rust_4 : decode cX4_rust 4 = .ok (.ifCond .eq 10, 3) := dk_153 0 10 (dk_at dksX4_rust_0 4 rfl rfl)
theorem dX4_rust_7 : decode cX4_rust 7 = .ok (.iload_n 2, 1) := dk_28 (dk_at dksX4_rust_0 7 rfl rfl)
theorem dX4_rust_8 : decode cX4_rust 8 = .ok (.invokestatic 242, 3) := dk_184 0 242 (dk_at dksX4_rust_0 8 rfl rfl)
theorem dX4_rust_11 : decode cX4_rust 11 = .ok (.ifCond .ne 5, 3) := dk_154 0 5 (dk_at dksX4_rust_0 11 rfl rfl)
theorem dX4_rust_14 : decode cX4_rust 14 = .ok (.iconst (-1), 1) := dk_2 (dk_at dksX4_rust_0 14 rfl rfl)
theorem dX4_rust_15 : decode cX4_rust 15 = .ok (.ireturn, 1) := dk_172 (dk_at dksX4_rust_0 15 rfl rfl)
theorem dX4_rust_16 : decode cX4_rust 16 = .ok (.iconst 0, 1) := dk_3 (dk_at dksX4_rust_0 16 rfl rfl)
theorem dX4_rust_17 : decode cX4_rust 17 = .ok (.istore_n 3, 1) := dk_62 (dk_at dksX4_rust_0 17 rfl rfl)
theorem dX4_rust_18 : decode cX4_rust 18 = .ok (.iload_n 3, 1) := dk_29 (dk_at dksX4_rust_0 18 rfl rfl)
theorem dX4_rust_19 : decode cX4_rust 19 = .ok (.bipush 20, 2) := dk_16 20 (dk_at dksX4_rust_0 19 rfl rfl)
theorem dX4_rust_21 : decode cX4_rust 21 = .ok (.if_icmp .gt 138, 3) := dk_163 0 138 (dk_at dksX4_rust_0 21 rfl rfl)
theorem dX4_rust_24 : decode cX4_rust 24 = .ok (.iconst 0, 1) := dk_3 (dk_at dksX4_rust_1 0 rfl rfl)
theorem dX4_rust_25 : decode cX4_rust 25 = .ok (.istore 4, 2) := dk_54 4 (dk_at dksX4_rust_1 1 rfl rfl)
theorem dX4_rust_27 : decode cX4_rust 27 = .ok (.iconst 0, 1) := dk_3 (dk_at dksX4_rust_1 3 rfl rfl)
theorem dX4_rust_28 : decode cX4_rust 28 = .ok (.istore 5, 2) := dk_54 5 (dk_at dksX4_rust_1 4 rfl rfl)
theorem dX4_rust_30 : decode cX4_rust 30 = .ok (.aload_n 0, 1) := dk_42 (dk_at dksX4_rust_1 6 rfl rfl)
theorem dX4_rust_31 : decode cX4_rust 31 = .ok (.invokevirtual 200, 3) := dk_182 0 200 (dk_at dksX4_rust_1 7 rfl rfl)
theorem dX4_rust_34 : decode cX4_rust 34 = .ok (.aload_n 0, 1) := dk_42 (dk_at dksX4_rust_1 10 rfl rfl)
theorem dX4_rust_35 : decode cX4_rust 35 = .ok (.getfield 13, 3) := dk_180 0 13 (dk_at dksX4_rust_1 11 rfl rfl)
theorem dX4_rust_38 : decode cX4_rust 38 = .ok (.iconst 2, 1) := dk_5 (dk_at dksX4_rust_1 14 rfl rfl)
theorem dX4_rust_39 : decode cX4_rust 39 = .ok (.iload_n 1, 1) := dk_27 (dk_at dksX4_rust_1 15 rfl rfl)
theorem dX4_rust_40 : decode cX4_rust 40 = .ok (.imul, 1) := dk_104 (dk_at dksX4_rust_1 16 rfl rfl)
theorem dX4_rust_41 : decode cX4_rust 41 = .ok (.iconst 0, 1) := dk_3 (dk_at dksX4_rust_1 17 rfl rfl)
theorem dX4_rust_42 : decode cX4_rust 42 = .ok (.iadd, 1) := dk_96 (dk_at dksX4_rust_1 18 rfl rfl)
theorem dX4_rust_43 : decode cX4_rust 43 = .ok (.iload_n 3, 1) := dk_29 (dk_at dksX4_rust_1 19 rfl rfl)
theorem dX4_rust_44 : decode cX4_rust 44 = .ok (.iastore, 1) := dk_79 (dk_at dksX4_rust_1 20 rfl rfl)
theorem dX4_rust_45 : decode cX4_rust 45 = .ok (.iconst 0, 1) := dk_3 (dk_at dksX4_rust_1 21 rfl rfl)
theorem dX4_rust_46 : decode cX4_rust 46 = .ok (.istore 6, 2) := dk_54 6 (dk_at dksX4_rust_1 22 rfl rfl)
theorem dX4_rust_48 : decode cX4_rust 48 = .ok (.iload 6, 2) := dk_21 6 (dk_at dksX4_rust_2 0 rfl rfl)
theorem dX4_rust_50 : decode cX4_rust 50 = .ok (.aload_n 0, 1) := dk_42 (dk_at dksX4_rust_2 2 rfl rfl)
theorem dX4_rust_51 : decode cX4_rust 51 = .ok (.getfield 71, 3) := dk_180 0 71 (dk_at dksX4_rust_2 3 rfl rfl)
theorem dX4_rust_54 : decode cX4_rust 54 = .ok (.if_icmp .ge 36, 3) := dk_162 0 36 (dk_at dksX4_rust_2 6 rfl rfl)
theorem dX4_rust_57 : decode cX4_rust 57 = .ok (.iload 4, 2) := dk_21 4 (dk_at dksX4_rust_2 9 rfl rfl)
theorem dX4_rust_59 : decode cX4_rust 59 = .ok (.aload_n 0, 1) := dk_42 (dk_at dksX4_rust_2 11 rfl rfl)
theorem dX4_rust_60 : decode cX4_rust 60 = .ok (.iload 6, 2) := dk_21 6 (dk_at dksX4_rust_2 12 rfl rfl)
theorem dX4_rust_62 : decode cX4_rust 62 = .ok (.iconst 1, 1) := dk_4 (dk_at dksX4_rust_2 14 rfl rfl)
theorem dX4_rust_63 : decode cX4_rust 63 = .ok (.invokevirtual 157, 3) := dk_182 0 157 (dk_at dksX4_rust_2 15 rfl rfl)
theorem dX4_rust_66 : decode cX4_rust 66 = .ok (.iload_n 1, 1) := dk_27 (dk_at dksX4_rust_2 18 rfl rfl)
theorem dX4_rust_67 : decode cX4_rust 67 = .ok (.if_icmp .ne 7, 3) := dk_160 0 7 (dk_at dksX4_rust_2 19 rfl rfl)
theorem dX4_rust_70 : decode cX4_rust 70 = .ok (.iconst 1, 1) := dk_4 (dk_at dksX4_rust_2 22 rfl rfl)
theorem dX4_rust_71 : decode cX4_rust 71 = .ok (.goto 4, 3) := dk_167 0 4 (dk_at dksX4_rust_3 0 rfl rfl)
theorem dX4_rust_74 : decode cX4_rust 74 = .ok (.iconst 0, 1) := dk_3 (dk_at dksX4_rust_3 3 rfl rfl)
theorem dX4_rust_75 : decode cX4_rust 75 = .ok (.invokestatic 169, 3) := dk_184 0 169 (dk_at dksX4_rust_3 4 rfl rfl)
theorem dX4_rust_78 : decode cX4_rust 78 = .ok (.iload 6, 2) := dk_21 6 (dk_at dksX4_rust_3 7 rfl rfl)
theorem dX4_rust_80 : decode cX4_rust 80 = .ok (.ishl, 1) := dk_120 (dk_at dksX4_rust_3 9 rfl rfl)
theorem dX4_rust_81 : decode cX4_rust 81 = .ok (.ior, 1) := dk_128 (dk_at dksX4_rust_3 10 rfl rfl)
theorem dX4_rust_82 : decode cX4_rust 82 = .ok (.istore 4, 2) := dk_54 4 (dk_at dksX4_rust_3 11 rfl rfl)
theorem dX4_rust_84 : decode cX4_rust 84 = .ok (.iinc 6 1, 3) := dk_132 6 1 (dk_at dksX4_rust_3 13 rfl rfl)
theorem dX4_rust_87 : decode cX4_rust 87 = .ok (.goto (-39), 3) := dk_167 255 217 (dk_at dksX4_rust_3 16 rfl rfl)
theorem dX4_rust_90 : decode cX4_rust 90 = .ok (.aload_n 0, 1) := dk_42 (dk_at dksX4_rust_3 19 rfl rfl)
theorem dX4_rust_91 : decode cX4_rust 91 = .ok (.iload_n 2, 1) := dk_28 (dk_at dksX4_rust_3 20 rfl rfl)
theorem dX4_rust_92 : decode cX4_rust 92 = .ok (.invokevirtual 234, 3) := dk_182 0 234 (dk_at dksX4_rust_3 21 rfl rfl)
theorem dX4_rust_95 : decode cX4_rust 95 = .ok (.iconst 0, 1) := dk_3 (dk_at dksX4_rust_4 0 rfl rfl)
theorem dX4_rust_96 : decode cX4_rust 96 = .ok (.istore 6, 2) := dk_54 6 (dk_at dksX4_rust_4 1 rfl rfl)
theorem dX4_rust_98 : decode cX4_rust 98 = .ok (.iload 6, 2) := dk_21 6 (dk_at dksX4_rust_4 3 rfl rfl)
theorem dX4_rust_100 : decode cX4_rust 100 = .ok (.aload_n 0, 1) := dk_42 (dk_at dksX4_rust_4 5 rfl rfl)
theorem dX4_rust_101 : decode cX4_rust 101 = .ok (.getfield 71, 3) := dk_180 0 71 (dk_at dksX4_rust_4 6 rfl rfl)
theorem dX4_rust_104 : decode cX4_rust 104 = .ok (.if_icmp .ge 42, 3) := dk_162 0 42 (dk_at dksX4_rust_4 9 rfl rfl)
theorem dX4_rust_107 : decode cX4_rust 107 = .ok (.iload 5, 2) := dk_21 5 (dk_at dksX4_rust_4 12 rfl rfl)
theorem dX4_rust_109 : decode cX4_rust 109 = .ok (.iload 4, 2) := dk_21 4 (dk_at dksX4_rust_4 14 rfl rfl)
theorem dX4_rust_111 : decode cX4_rust 111 = .ok (.iload 6, 2) := dk_21 6 (dk_at dksX4_rust_4 16 rfl rfl)
theorem dX4_rust_113 : decode cX4_rust 113 = .ok (.ishr, 1) := dk_122 (dk_at dksX4_rust_4 18 rfl rfl)
theorem dX4_rust_114 : decode cX4_rust 114 = .ok (.iconst 1, 1) := dk_4 (dk_at dksX4_rust_4 19 rfl rfl)
theorem dX4_rust_115 : decode cX4_rust 115 = .ok (.iand, 1) := dk_126 (dk_at dksX4_rust_4 20 rfl rfl)
theorem dX4_rust_116 : decode cX4_rust 116 = .ok (.iconst 1, 1) := dk_4 (dk_at dksX4_rust_4 21 rfl rfl)
theorem dX4_rust_117 : decode cX4_rust 117 = .ok (.if_icmp .ne 16, 3) := dk_160 0 16 (dk_at dksX4_rust_5 0 rfl rfl)
theorem dX4_rust_120 : decode cX4_rust 120 = .ok (.aload_n 0, 1) := dk_42 (dk_at dksX4_rust_5 3 rfl rfl)
theorem dX4_rust_121 : decode cX4_rust 121 = .ok (.iload 6, 2) := dk_21 6 (dk_at dksX4_rust_5 4 rfl rfl)
theorem dX4_rust_123 : decode cX4_rust 123 = .ok (.invokevirtual 189, 3) := dk_182 0 189 (dk_at dksX4_rust_5 6 rfl rfl)
theorem dX4_rust_126 : decode cX4_rust 126 = .ok (.ifCond .eq 7, 3) := dk_153 0 7 (dk_at dksX4_rust_5 9 rfl rfl)
theorem dX4_rust_129 : decode cX4_rust 129 = .ok (.iconst 1, 1) := dk_4 (dk_at dksX4_rust_5 12 rfl rfl)
theorem dX4_rust_130 : decode cX4_rust 130 = .ok (.goto 4, 3) := dk_167 0 4 (dk_at dksX4_rust_5 13 rfl rfl)
theorem dX4_rust_133 : decode cX4_rust 133 = .ok (.iconst 0, 1) := dk_3 (dk_at dksX4_rust_5 16 rfl rfl)
theorem dX4_rust_134 : decode cX4_rust 134 = .ok (.invokestatic 169, 3) := dk_184 0 169 (dk_at dksX4_rust_5 17 rfl rfl)
theorem dX4_rust_137 : decode cX4_rust 137 = .ok (.iadd, 1) := dk_96 (dk_at dksX4_rust_5 20 rfl rfl)
theorem dX4_rust_138 : decode cX4_rust 138 = .ok (.istore 5, 2) := dk_54 5 (dk_at dksX4_rust_5 21 rfl rfl)
theorem dX4_rust_140 : decode cX4_rust 140 = .ok (.iinc 6 1, 3) := dk_132 6 1 (dk_at dksX4_rust_6 0 rfl rfl)
theorem dX4_rust_143 : decode cX4_rust 143 = .ok (.goto (-45), 3) := dk_167 255 211 (dk_at dksX4_rust_6 3 rfl rfl)
theorem dX4_rust_146 : decode cX4_rust 146 = .ok (.iload 5, 2) := dk_21 5 (dk_at dksX4_rust_6 6 rfl rfl)
theorem dX4_rust_148 : decode cX4_rust 148 = .ok (.ifCond .ne 5, 3) := dk_154 0 5 (dk_at dksX4_rust_6 8 rfl rfl)
theorem dX4_rust_151 : decode cX4_rust 151 = .ok (.iload_n 3, 1) := dk_29 (dk_at dksX4_rust_6 11 rfl rfl)
theorem dX4_rust_152 : decode cX4_rust 152 = .ok (.ireturn, 1) := dk_172 (dk_at dksX4_rust_6 12 rfl rfl)
theorem dX4_rust_153 : decode cX4_rust 153 = .ok (.iinc 3 1, 3) := dk_132 3 1 (dk_at dksX4_rust_6 13 rfl rfl)
theorem dX4_rust_156 : decode cX4_rust 156 = .ok (.goto (-138), 3) := dk_167 255 118 (dk_at dksX4_rust_6 16 rfl rfl)
theorem dX4_rust_159 : decode cX4_rust 159 = .ok (.bipush (-4), 2) := dk_16 252 (dk_at dksX4_rust_6 19 rfl rfl)
theorem dX4_rust_161 : decode cX4_rust 161 = .ok (.ireturn, 1) := dk_172 (dk_at dksX4_rust_6 21 rfl rfl)
abbrev cX4_bribe : ByteArray := prog_12_method_67_code
def yX4_bribe : MethodName := ⟨RX4, "bribe", "(II)I"⟩
def dkwX4_bribe_3 : List UInt8 := [172]
abbrev dktX4_bribe_3 : List UInt8 := dkwX4_bribe_3 ++ []
def dkwX4_bribe_2 : List UInt8 := [181, 0, 151, 42, 29, 42, 27, 182, 1, 8, 182, 1, 5, 132, 3, 1, 167, 255, 226, 42, 28, 182, 1, 11]
abbrev dktX4_bribe_2 : List UInt8 := dkwX4_bribe_2 ++ dktX4_bribe_3
def dkwX4_bribe_1 : List UInt8 := [182, 1, 8, 182, 1, 1, 3, 62, 29, 42, 180, 0, 68, 162, 0, 28, 42, 182, 0, 200, 42, 29]
abbrev dktX4_bribe_1 : List UInt8 := dkwX4_bribe_1 ++ dktX4_bribe_2
def dkwX4_bribe_0 : List UInt8 := [27, 184, 0, 242, 153, 0, 10, 28, 184, 0, 254, 154, 0, 5, 2, 172, 42, 182, 0, 200, 42, 42, 27]
abbrev dktX4_bribe_0 : List UInt8 := dkwX4_bribe_0 ++ dktX4_bribe_1
theorem dksX4_bribe_0 : cX4_bribe.data.toList.drop 0 = dktX4_bribe_0 := by decide +kernel
theorem dksX4_bribe_1 : cX4_bribe.data.toList.drop 23 = dktX4_bribe_1 := dk_seg dksX4_bribe_0 23 rfl rfl
theorem dksX4_bribe_2 : cX4_bribe.data.toList.drop 45 = dktX4_bribe_2 := dk_seg dksX4_bribe_1 22 rfl rfl
theorem dksX4_bribe_3 : cX4_bribe.data.toList.drop 69 = dktX4_bribe_3 := dk_seg dksX4_bribe_2 24 rfl rfl
theorem dX4_bribe_0 : decode cX4_bribe 0 = .ok (.iload_n 1, 1) := dk_27 (dk_at dksX4_bribe_0 0 rfl rfl)
theorem dX4_bribe_1 : decode cX4_bribe 1 = .ok (.invokestatic 242, 3) := dk_184 0 242 (dk_at dksX4_bribe_0 1 rfl rfl)
theorem dX4_bribe_4 : decode cX4_bribe 4 = .ok (.ifCond .eq 10, 3) := dk_153 0 10 (dk_at dksX4_bribe_0 4 rfl rfl)
theorem dX4_bribe_7 : decode cX4_bribe 7 = .ok (.iload_n 2, 1) := dk_28 (dk_at dksX4_bribe_0 7 rfl rfl)
theorem dX4_bribe_8 : decode cX4_bribe 8 = .ok (.invokestatic 254, 3) := dk_184 0 254 (dk_at dksX4_bribe_0 8 rfl rfl)
theorem dX4_bribe_11 : decode cX4_bribe 11 = .ok (.ifCond .ne 5, 3) := dk_154 0 5 (dk_at dksX4_bribe_0 11 rfl rfl)
theorem dX4_bribe_14 : decode cX4_bribe 14 = .ok (.iconst (-1), 1) := dk_2 (dk_at dksX4_bribe_0 14 rfl rfl)
theorem dX4_bribe_15 : decode cX4_bribe 15 = .ok (.ireturn, 1) := dk_172 (dk_at dksX4_bribe_0 15 rfl rfl)
theorem dX4_bribe_16 : decode cX4_bribe 16 = .ok (.aload_n 0, 1) := dk_42 (dk_at dksX4_bribe_0 16 rfl rfl)
theorem dX4_bribe_17 : decode cX4_bribe 17 = .ok (.invokevirtual 200, 3) := dk_182 0 200 (dk_at dksX4_bribe_0 17 rfl rfl)
theorem dX4_bribe_20 : decode cX4_bribe 20 = .ok (.aload_n 0, 1) := dk_42 (dk_at dksX4_bribe_0 20 rfl rfl)
theorem dX4_bribe_21 : decode cX4_bribe 21 = .ok (.aload_n 0, 1) := dk_42 (dk_at dksX4_bribe_0 21 rfl rfl)
theorem dX4_bribe_22 : decode cX4_bribe 22 = .ok (.iload_n 1, 1) := dk_27 (dk_at dksX4_bribe_0 22 rfl rfl)
theorem dX4_bribe_23 : decode cX4_bribe 23 = .ok (.invokevirtual 264, 3) := dk_182 1 8 (dk_at dksX4_bribe_1 0 rfl rfl)
theorem dX4_bribe_26 : decode cX4_bribe 26 = .ok (.invokevirtual 257, 3) := dk_182 1 1 (dk_at dksX4_bribe_1 3 rfl rfl)
theorem dX4_bribe_29 : decode cX4_bribe 29 = .ok (.iconst 0, 1) := dk_3 (dk_at dksX4_bribe_1 6 rfl rfl)
theorem dX4_bribe_30 : decode cX4_bribe 30 = .ok (.istore_n 3, 1) := dk_62 (dk_at dksX4_bribe_1 7 rfl rfl)
theorem dX4_bribe_31 : decode cX4_bribe 31 = .ok (.iload_n 3, 1) := dk_29 (dk_at dksX4_bribe_1 8 rfl rfl)
theorem dX4_bribe_32 : decode cX4_bribe 32 = .ok (.aload_n 0, 1) := dk_42 (dk_at dksX4_bribe_1 9 rfl rfl)
theorem dX4_bribe_33 : decode cX4_bribe 33 = .ok (.getfield 68, 3) := dk_180 0 68 (dk_at dksX4_bribe_1 10 rfl rfl)
theorem dX4_bribe_36 : decode cX4_bribe 36 = .ok (.if_icmp .ge 28, 3) := dk_162 0 28 (dk_at dksX4_bribe_1 13 rfl rfl)
theorem dX4_bribe_39 : decode cX4_bribe 39 = .ok (.aload_n 0, 1) := dk_42 (dk_at dksX4_bribe_1 16 rfl rfl)
theorem dX4_bribe_40 : decode cX4_bribe 40 = .ok (.invokevirtual 200, 3) := dk_182 0 200 (dk_at dksX4_bribe_1 17 rfl rfl)
theorem dX4_bribe_43 : decode cX4_bribe 43 = .ok (.aload_n 0, 1) := dk_42 (dk_at dksX4_bribe_1 20 rfl rfl)
theorem dX4_bribe_44 : decode cX4_bribe 44 = .ok (.iload_n 3, 1) := dk_29 (dk_at dksX4_bribe_1 21 rfl rfl)
theorem dX4_bribe_45 : decode cX4_bribe 45 = .ok (.putfield 151, 3) := dk_181 0 151 (dk_at dksX4_bribe_2 0 rfl rfl)
theorem dX4_bribe_48 : decode cX4_bribe 48 = .ok (.aload_n 0, 1) := dk_42 (dk_at dksX4_bribe_2 3 rfl rfl)
theorem dX4_bribe_49 : decode cX4_bribe 49 = .ok (.iload_n 3, 1) := dk_29 (dk_at dksX4_bribe_2 4 rfl rfl)
theorem dX4_bribe_50 : decode cX4_bribe 50 = .ok (.aload_n 0, 1) := dk_42 (dk_at dksX4_bribe_2 5 rfl rfl)
theorem dX4_bribe_51 : decode cX4_bribe 51 = .ok (.iload_n 1, 1) := dk_27 (dk_at dksX4_bribe_2 6 rfl rfl)
theorem dX4_bribe_52 : decode cX4_bribe 52 = .ok (.invokevirtual 264, 3) := dk_182 1 8 (dk_at dksX4_bribe_2 7 rfl rfl)
theorem dX4_bribe_55 : decode cX4_bribe 55 = .ok (.invokevirtual 261, 3) := dk_182 1 5 (dk_at dksX4_bribe_2 10 rfl rfl)
theorem dX4_bribe_58 : decode cX4_bribe 58 = .ok (.iinc 3 1, 3) := dk_132 3 1 (dk_at dksX4_bribe_2 13 rfl rfl)
theorem dX4_bribe_61 : decode cX4_bribe 61 = .ok (.goto (-30), 3) := dk_167 255 226 (dk_at dksX4_bribe_2 16 rfl rfl)
theorem dX4_bribe_64 : decode cX4_bribe 64 = .ok (.aload_n 0, 1) := dk_42 (dk_at dksX4_bribe_2 19 rfl rfl)
theorem dX4_bribe_65 : decode cX4_bribe 65 = .ok (.iload_n 2, 1) := dk_28 (dk_at dksX4_bribe_2 20 rfl rfl)
theorem dX4_bribe_66 : decode cX4_bribe 66 = .ok (.invokevirtual 267, 3) := dk_182 1 11 (dk_at dksX4_bribe_2 21 rfl rfl)
theorem dX4_bribe_69 : decode cX4_bribe 69 = .ok (.ireturn, 1) := dk_172 (dk_at dksX4_bribe_3 0 rfl rfl)
abbrev cX4_fallsIn : ByteArray := prog_12_method_63_code
def yX4_fallsIn : MethodName := ⟨RX4, "fallsIn", "(I)I"⟩
def dkwX4_fallsIn_0 : List UInt8 := [42, 27, 182, 0, 234, 42, 180, 0, 154, 172]
abbrev dktX4_fallsIn_0 : List UInt8 := dkwX4_fallsIn_0 ++ []
theorem dksX4_fallsIn_0 : cX4_fallsIn.data.toList.drop 0 = dktX4_fallsIn_0 := by decide +kernel
theorem dX4_fallsIn_0 : decode cX4_fallsIn 0 = .ok (.aload_n 0, 1) := dk_42 (dk_at dksX4_fallsIn_0 0 rfl rfl)
theorem dX4_fallsIn_1 : decode cX4_fallsIn 1 = .ok (.iload_n 1, 1) := dk_27 (dk_at dksX4_fallsIn_0 1 rfl rfl)
theorem dX4_fallsIn_2 : decode cX4_fallsIn 2 = .ok (.invokevirtual 234, 3) := dk_182 0 234 (dk_at dksX4_fallsIn_0 2 rfl rfl)
theorem dX4_fallsIn_5 : decode cX4_fallsIn 5 = .ok (.aload_n 0, 1) := dk_42 (dk_at dksX4_fallsIn_0 5 rfl rfl)
theorem dX4_fallsIn_6 : decode cX4_fallsIn 6 = .ok (.getfield 154, 3) := dk_180 0 154 (dk_at dksX4_fallsIn_0 6 rfl rfl)
theorem dX4_fallsIn_9 : decode cX4_fallsIn 9 = .ok (.ireturn, 1) := dk_172 (dk_at dksX4_fallsIn_0 9 rfl rfl)
abbrev cX4_judged : ByteArray := prog_12_method_62_code
def yX4_judged : MethodName := ⟨RX4, "judged", "(I)I"⟩
def dkwX4_judged_1 : List UInt8 := [167, 0, 7, 42, 180, 0, 251, 172]
abbrev dktX4_judged_1 : List UInt8 := dkwX4_judged_1 ++ []
def dkwX4_judged_0 : List UInt8 := [42, 180, 0, 248, 16, 252, 160, 0, 8, 16, 252, 167, 0, 18, 27, 154, 0, 10, 42, 180, 0, 248]
abbrev dktX4_judged_0 : List UInt8 := dkwX4_judged_0 ++ dktX4_judged_1
theorem dksX4_judged_0 : cX4_judged.data.toList.drop 0 = dktX4_judged_0 := by decide +kernel
theorem dksX4_judged_1 : cX4_judged.data.toList.drop 22 = dktX4_judged_1 := dk_seg dksX4_judged_0 22 rfl rfl
theorem dX4_judged_0 : decode cX4_judged 0 = .ok (.aload_n 0, 1) := dk_42 (dk_at dksX4_judged_0 0 rfl rfl)
theorem dX4_judged_1 : decode cX4_judged 1 = .ok (.getfield 248, 3) := dk_180 0 248 (dk_at dksX4_judged_0 1 rfl rfl)
theorem dX4_judged_4 : decode cX4_judged 4 = .ok (.bipush (-4), 2) := dk_16 252 (dk_at dksX4_judged_0 4 rfl rfl)
theorem dX4_judged_6 : decode cX4_judged 6 = .ok (.if_icmp .ne 8, 3) := dk_160 0 8 (dk_at dksX4_judged_0 6 rfl rfl)
theorem dX4_judged_9 : decode cX4_judged 9 = .ok (.bipush (-4), 2) := dk_16 252 (dk_at dksX4_judged_0 9 rfl rfl)
theorem dX4_judged_11 : decode cX4_judged 11 = .ok (.goto 18, 3) := dk_167 0 18 (dk_at dksX4_judged_0 11 rfl rfl)
theorem dX4_judged_14 : decode cX4_judged 14 = .ok (.iload_n 1, 1) := dk_27 (dk_at dksX4_judged_0 14 rfl rfl)
theorem dX4_judged_15 : decode cX4_judged 15 = .ok (.ifCond .ne 10, 3) := dk_154 0 10 (dk_at dksX4_judged_0 15 rfl rfl)
theorem dX4_judged_18 : decode cX4_judged 18 = .ok (.aload_n 0, 1) := dk_42 (dk_at dksX4_judged_0 18 rfl rfl)
theorem dX4_judged_19 : decode cX4_judged 19 = .ok (.getfield 248, 3) := dk_180 0 248 (dk_at dksX4_judged_0 19 rfl rfl)
theorem dX4_judged_22 : decode cX4_judged 22 = .ok (.goto 7, 3) := dk_167 0 7 (dk_at dksX4_judged_1 0 rfl rfl)
theorem dX4_judged_25 : decode cX4_judged 25 = .ok (.aload_n 0, 1) := dk_42 (dk_at dksX4_judged_1 3 rfl rfl)
theorem dX4_judged_26 : decode cX4_judged 26 = .ok (.getfield 251, 3) := dk_180 0 251 (dk_at dksX4_judged_1 4 rfl rfl)
theorem dX4_judged_29 : decode cX4_judged 29 = .ok (.ireturn, 1) := dk_172 (dk_at dksX4_judged_1 7 rfl rfl)
abbrev cX4_swap : ByteArray := prog_12_method_68_code
def yX4_swap : MethodName := ⟨RX4, "swap", "(II)I"⟩
def dkwX4_swap_4 : List UInt8 := [182, 1, 8, 182, 1, 5, 132, 4, 1, 167, 255, 196, 132, 3, 1, 167, 255, 177, 42, 28, 182, 1, 11, 172]
abbrev dktX4_swap_4 : List UInt8 := dkwX4_swap_4 ++ []
def dkwX4_swap_3 : List UInt8 := [182, 0, 157, 182, 0, 186, 42, 21, 4, 21, 5, 182, 0, 186, 42, 16, 10, 29, 104, 21, 4, 96, 42, 27]
abbrev dktX4_swap_3 : List UInt8 := dkwX4_swap_3 ++ dktX4_swap_4
def dkwX4_swap_2 : List UInt8 := [180, 0, 71, 162, 0, 57, 42, 182, 0, 200, 42, 29, 4, 182, 0, 157, 54, 5, 42, 29, 42, 21, 4, 4]
abbrev dktX4_swap_2 : List UInt8 := dkwX4_swap_2 ++ dktX4_swap_3
def dkwX4_swap_1 : List UInt8 := [182, 1, 8, 182, 1, 1, 3, 62, 29, 42, 180, 0, 71, 162, 0, 77, 29, 4, 96, 54, 4, 21, 4, 42]
abbrev dktX4_swap_1 : List UInt8 := dkwX4_swap_1 ++ dktX4_swap_2
def dkwX4_swap_0 : List UInt8 := [27, 184, 0, 242, 153, 0, 10, 28, 184, 0, 254, 154, 0, 5, 2, 172, 42, 182, 0, 200, 42, 42, 27]
abbrev dktX4_swap_0 : List UInt8 := dkwX4_swap_0 ++ dktX4_swap_1
theorem dksX4_swap_0 : cX4_swap.data.toList.drop 0 = dktX4_swap_0 := by decide +kernel
theorem dksX4_swap_1 : cX4_swap.data.toList.drop 23 = dktX4_swap_1 := dk_seg dksX4_swap_0 23 rfl rfl
theorem dksX4_swap_2 : cX4_swap.data.toList.drop 47 = dktX4_swap_2 := dk_seg dksX4_swap_1 24 rfl rfl
theorem dksX4_swap_3 : cX4_swap.data.toList.drop 71 = dktX4_swap_3 := dk_seg dksX4_swap_2 24 rfl rfl
theorem dksX4_swap_4 : cX4_swap.data.toList.drop 95 = dktX4_swap_4 := dk_seg dksX4_swap_3 24 rfl rfl
theorem dX4_swap_0 : decode cX4_swap 0 = .ok (.iload_n 1, 1) := dk_27 (dk_at dksX4_swap_0 0 rfl rfl)
theorem dX4_swap_1 : decode cX4_swap 1 = .ok (.invokestatic 242, 3) := dk_184 0 242 (dk_at dksX4_swap_0 1 rfl rfl)
theorem dX4_swap_4 : decode cX4_swap 4 = .ok (.ifCond .eq 10, 3) := dk_153 0 10 (dk_at dksX4_swap_0 4 rfl rfl)
theorem dX4_swap_7 : decode cX4_swap 7 = .ok (.iload_n 2, 1) := dk_28 (dk_at dksX4_swap_0 7 rfl rfl)
theorem dX4_swap_8 : decode cX4_swap 8 = .ok (.invokestatic 254, 3) := dk_184 0 254 (dk_at dksX4_swap_0 8 rfl rfl)
theorem dX4_swap_11 : decode cX4_swap 11 = .ok (.ifCond .ne 5, 3) := dk_154 0 5 (dk_at dksX4_swap_0 11 rfl rfl)
theorem dX4_swap_14 : decode cX4_swap 14 = .ok (.iconst (-1), 1) := dk_2 (dk_at dksX4_swap_0 14 rfl rfl)
theorem dX4_swap_15 : decode cX4_swap 15 = .ok (.ireturn, 1) := dk_172 (dk_at dksX4_swap_0 15 rfl rfl)
theorem dX4_swap_16 : decode cX4_swap 16 = .ok (.aload_n 0, 1) := dk_42 (dk_at dksX4_swap_0 16 rfl rfl)
theorem dX4_swap_17 : decode cX4_swap 17 = .ok (.invokevirtual 200, 3) := dk_182 0 200 (dk_at dksX4_swap_0 17 rfl rfl)
theorem dX4_swap_20 : decode cX4_swap 20 = .ok (.aload_n 0, 1) := dk_42 (dk_at dksX4_swap_0 20 rfl rfl)
theorem dX4_swap_21 : decode cX4_swap 21 = .ok (.aload_n 0, 1) := dk_42 (dk_at dksX4_swap_0 21 rfl rfl)
theorem dX4_swap_22 : decode cX4_swap 22 = .ok (.iload_n 1, 1) := dk_27 (dk_at dksX4_swap_0 22 rfl rfl)
theorem dX4_swap_23 : decode cX4_swap 23 = .ok (.invokevirtual 264, 3) := dk_182 1 8 (dk_at dksX4_swap_1 0 rfl rfl)
theorem dX4_swap_26 : decode cX4_swap 26 = .ok (.invokevirtual 257, 3) := dk_182 1 1 (dk_at dksX4_swap_1 3 rfl rfl)
theorem dX4_swap_29 : decode cX4_swap 29 = .ok (.iconst 0, 1) := dk_3 (dk_at dksX4_swap_1 6 rfl rfl)
theorem dX4_swap_30 : decode cX4_swap 30 = .ok (.istore_n 3, 1) := dk_62 (dk_at dksX4_swap_1 7 rfl rfl)
theorem dX4_swap_31 : decode cX4_swap 31 = .ok (.iload_n 3, 1) := dk_29 (dk_at dksX4_swap_1 8 rfl rfl)
theorem dX4_swap_32 : decode cX4_swap 32 = .ok (.aload_n 0, 1) := dk_42 (dk_at dksX4_swap_1 9 rfl rfl)
theorem dX4_swap_33 : decode cX4_swap 33 = .ok (.getfield 71, 3) := dk_180 0 71 (dk_at dksX4_swap_1 10 rfl rfl)
theorem dX4_swap_36 : decode cX4_swap 36 = .ok (.if_icmp .ge 77, 3) := dk_162 0 77 (dk_at dksX4_swap_1 13 rfl rfl)
theorem dX4_swap_39 : decode cX4_swap 39 = .ok (.iload_n 3, 1) := dk_29 (dk_at dksX4_swap_1 16 rfl rfl)
theorem dX4_swap_40 : decode cX4_swap 40 = .ok (.iconst 1, 1) := dk_4 (dk_at dksX4_swap_1 17 rfl rfl)
theorem dX4_swap_41 : decode cX4_swap 41 = .ok (.iadd, 1) := dk_96 (dk_at dksX4_swap_1 18 rfl rfl)
theorem dX4_swap_42 : decode cX4_swap 42 = .ok (.istore 4, 2) := dk_54 4 (dk_at dksX4_swap_1 19 rfl rfl)
theorem dX4_swap_44 : decode cX4_swap 44 = .ok (.iload 4, 2) := dk_21 4 (dk_at dksX4_swap_1 21 rfl rfl)
theorem dX4_swap_46 : decode cX4_swap 46 = .ok (.aload_n 0, 1) := dk_42 (dk_at dksX4_swap_1 23 rfl rfl)
theorem dX4_swap_47 : decode cX4_swap 47 = .ok (.getfield 71, 3) := dk_180 0 71 (dk_at dksX4_swap_2 0 rfl rfl)
theorem dX4_swap_50 : decode cX4_swap 50 = .ok (.if_icmp .ge 57, 3) := dk_162 0 57 (dk_at dksX4_swap_2 3 rfl rfl)
theorem dX4_swap_53 : decode cX4_swap 53 = .ok (.aload_n 0, 1) := dk_42 (dk_at dksX4_swap_2 6 rfl rfl)
theorem dX4_swap_54 : decode cX4_swap 54 = .ok (.invokevirtual 200, 3) := dk_182 0 200 (dk_at dksX4_swap_2 7 rfl rfl)
theorem dX4_swap_57 : decode cX4_swap 57 = .ok (.aload_n 0, 1) := dk_42 (dk_at dksX4_swap_2 10 rfl rfl)
theorem dX4_swap_58 : decode cX4_swap 58 = .ok (.iload_n 3, 1) := dk_29 (dk_at dksX4_swap_2 11 rfl rfl)
theorem dX4_swap_59 : decode cX4_swap 59 = .ok (.iconst 1, 1) := dk_4 (dk_at dksX4_swap_2 12 rfl rfl)
theorem dX4_swap_60 : decode cX4_swap 60 = .ok (.invokevirtual 157, 3) := dk_182 0 157 (dk_at dksX4_swap_2 13 rfl rfl)
theorem dX4_swap_63 : decode cX4_swap 63 = .ok (.istore 5, 2) := dk_54 5 (dk_at dksX4_swap_2 16 rfl rfl)
theorem dX4_swap_65 : decode cX4_swap 65 = .ok (.aload_n 0, 1) := dk_42 (dk_at dksX4_swap_2 18 rfl rfl)
theorem dX4_swap_66 : decode cX4_swap 66 = .ok (.iload_n 3, 1) := dk_29 (dk_at dksX4_swap_2 19 rfl rfl)
theorem dX4_swap_67 : decode cX4_swap 67 = .ok (.aload_n 0, 1) := dk_42 (dk_at dksX4_swap_2 20 rfl rfl)
theorem dX4_swap_68 : decode cX4_swap 68 = .ok (.iload 4, 2) := dk_21 4 (dk_at dksX4_swap_2 21 rfl rfl)
theorem dX4_swap_70 : decode cX4_swap 70 = .ok (.iconst 1, 1) := dk_4 (dk_at dksX4_swap_2 23 rfl rfl)
theorem dX4_swap_71 : decode cX4_swap 71 = .ok (.invokevirtual 157, 3) := dk_182 0 157 (dk_at dksX4_swap_3 0 rfl rfl)
theorem dX4_swap_74 : decode cX4_swap 74 = .ok (.invokevirtual 186, 3) := dk_182 0 186 (dk_at dksX4_swap_3 3 rfl rfl)
theorem dX4_swap_77 : decode cX4_swap 77 = .ok (.aload_n 0, 1) := dk_42 (dk_at dksX4_swap_3 6 rfl rfl)
theorem dX4_swap_78 : decode cX4_swap 78 = .ok (.iload 4, 2) := dk_21 4 (dk_at dksX4_swap_3 7 rfl rfl)
theorem dX4_swap_80 : decode cX4_swap 80 = .ok (.iload 5, 2) := dk_21 5 (dk_at dksX4_swap_3 9 rfl rfl)
theorem dX4_swap_82 : decode cX4_swap 82 = .ok (.invokevirtual 186, 3) := dk_182 0 186 (dk_at dksX4_swap_3 11 rfl rfl)
theorem dX4_swap_85 : decode cX4_swap 85 = .ok (.aload_n 0, 1) := dk_42 (dk_at dksX4_swap_3 14 rfl rfl)
theorem dX4_swap_86 : decode cX4_swap 86 = .ok (.bipush 10, 2) := dk_16 10 (dk_at dksX4_swap_3 15 rfl rfl)
theorem dX4_swap_88 : decode cX4_swap 88 = .ok (.iload_n 3, 1) := dk_29 (dk_at dksX4_swap_3 17 rfl rfl)
theorem dX4_swap_89 : decode cX4_swap 89 = .ok (.imul, 1) := dk_104 (dk_at dksX4_swap_3 18 rfl rfl)
theorem dX4_swap_90 : decode cX4_swap 90 = .ok (.iload 4, 2) := dk_21 4 (dk_at dksX4_swap_3 19 rfl rfl)
theorem dX4_swap_92 : decode cX4_swap 92 = .ok (.iadd, 1) := dk_96 (dk_at dksX4_swap_3 21 rfl rfl)
theorem dX4_swap_93 : decode cX4_swap 93 = .ok (.aload_n 0, 1) := dk_42 (dk_at dksX4_swap_3 22 rfl rfl)
theorem dX4_swap_94 : decode cX4_swap 94 = .ok (.iload_n 1, 1) := dk_27 (dk_at dksX4_swap_3 23 rfl rfl)
theorem dX4_swap_95 : decode cX4_swap 95 = .ok (.invokevirtual 264, 3) := dk_182 1 8 (dk_at dksX4_swap_4 0 rfl rfl)
theorem dX4_swap_98 : decode cX4_swap 98 = .ok (.invokevirtual 261, 3) := dk_182 1 5 (dk_at dksX4_swap_4 3 rfl rfl)
theorem dX4_swap_101 : decode cX4_swap 101 = .ok (.iinc 4 1, 3) := dk_132 4 1 (dk_at dksX4_swap_4 6 rfl rfl)
theorem dX4_swap_104 : decode cX4_swap 104 = .ok (.goto (-60), 3) := dk_167 255 196 (dk_at dksX4_swap_4 9 rfl rfl)
theorem dX4_swap_107 : decode cX4_swap 107 = .ok (.iinc 3 1, 3) := dk_132 3 1 (dk_at dksX4_swap_4 12 rfl rfl)
theorem dX4_swap_110 : decode cX4_swap 110 = .ok (.goto (-79), 3) := dk_167 255 177 (dk_at dksX4_swap_4 15 rfl rfl)
theorem dX4_swap_113 : decode cX4_swap 113 = .ok (.aload_n 0, 1) := dk_42 (dk_at dksX4_swap_4 18 rfl rfl)
theorem dX4_swap_114 : decode cX4_swap 114 = .ok (.iload_n 2, 1) := dk_28 (dk_at dksX4_swap_4 19 rfl rfl)
theorem dX4_swap_115 : decode cX4_swap 115 = .ok (.invokevirtual 267, 3) := dk_182 1 11 (dk_at dksX4_swap_4 20 rfl rfl)
theorem dX4_swap_118 : decode cX4_swap 118 = .ok (.ireturn, 1) := dk_172 (dk_at dksX4_swap_4 23 rfl rfl)
abbrev cX4_kind : ByteArray := prog_12_method_69_code
def yX4_kind : MethodName := ⟨RX4, "kind", "(III)I"⟩
def dkwX4_kind_3 : List UInt8 := [154, 0, 10, 42, 180, 0, 248, 167, 0, 8, 42, 180, 0, 251, 116, 172]
abbrev dktX4_kind_3 : List UInt8 := dkwX4_kind_3 ++ []
def dkwX4_kind_2 : List UInt8 := [182, 0, 179, 42, 21, 4, 42, 28, 182, 1, 8, 116, 182, 1, 5, 132, 4, 1, 167, 255, 223, 29]
abbrev dktX4_kind_2 : List UInt8 := dkwX4_kind_2 ++ dktX4_kind_3
def dkwX4_kind_1 : List UInt8 := [42, 4, 182, 1, 1, 3, 54, 4, 21, 4, 7, 162, 0, 33, 42, 182, 0, 200, 42, 27, 3, 21, 4]
abbrev dktX4_kind_1 : List UInt8 := dkwX4_kind_1 ++ dktX4_kind_2
def dkwX4_kind_0 : List UInt8 := [42, 27, 182, 0, 217, 153, 0, 17, 28, 184, 0, 242, 153, 0, 10, 29, 184, 0, 254, 154, 0, 5, 2, 172]
abbrev dktX4_kind_0 : List UInt8 := dkwX4_kind_0 ++ dktX4_kind_1
theorem dksX4_kind_0 : cX4_kind.data.toList.drop 0 = dktX4_kind_0 := by decide +kernel
theorem dksX4_kind_1 : cX4_kind.data.toList.drop 24 = dktX4_kind_1 := dk_seg dksX4_kind_0 24 rfl rfl
theorem dksX4_kind_2 : cX4_kind.data.toList.drop 47 = dktX4_kind_2 := dk_seg dksX4_kind_1 23 rfl rfl
theorem dksX4_kind_3 : cX4_kind.data.toList.drop 69 = dktX4_kind_3 := dk_seg dksX4_kind_2 22 rfl rfl
theorem dX4_kind_0 : decode cX4_kind 0 = .ok (.aload_n 0, 1) := dk_42 (dk_at dksX4_kind_0 0 rfl rfl)
theorem dX4_kind_1 : decode cX4_kind 1 = .ok (.iload_n 1, 1) := dk_27 (dk_at dksX4_kind_0 1 rfl rfl)
theorem dX4_kind_2 : decode cX4_kind 2 = .ok (.invokevirtual 217, 3) := dk_182 0 217 (dk_at dksX4_kind_0 2 rfl rfl)
theorem dX4_kind_5 : decode cX4_kind 5 = .ok (.ifCond .eq 17, 3) := dk_153 0 17 (dk_at dksX4_kind_0 5 rfl rfl)
theorem dX4_kind_8 : decode cX4_kind 8 = .ok (.iload_n 2, 1) := dk_28 (dk_at dksX4_kind_0 8 rfl rfl)
theorem dX4_kind_9 : decode cX4_kind 9 = .ok (.invokestatic 242, 3) := dk_184 0 242 (dk_at dksX4_kind_0 9 rfl rfl)
theorem dX4_kind_12 : decode cX4_kind 12 = .ok (.ifCond .eq 10, 3) := dk_153 0 10 (dk_at dksX4_kind_0 12 rfl rfl)
theorem dX4_kind_15 : decode cX4_kind 15 = .ok (.iload_n 3, 1) := dk_29 (dk_at dksX4_kind_0 15 rfl rfl)
theorem dX4_kind_16 : decode cX4_kind 16 = .ok (.invokestatic 254, 3) := dk_184 0 254 (dk_at dksX4_kind_0 16 rfl rfl)
theorem dX4_kind_19 : decode cX4_kind 19 = .ok (.ifCond .ne 5, 3) := dk_154 0 5 (dk_at dksX4_kind_0 19 rfl rfl)
theorem dX4_kind_22 : decode cX4_kind 22 = .ok (.iconst (-1), 1) := dk_2 (dk_at dksX4_kind_0 22 rfl rfl)
theorem dX4_kind_23 : decode cX4_kind 23 = .ok (.ireturn, 1) := dk_172 (dk_at dksX4_kind_0 23 rfl rfl)
theorem dX4_kind_24 : decode cX4_kind 24 = .ok (.aload_n 0, 1) := dk_42 (dk_at dksX4_kind_1 0 rfl rfl)
theorem dX4_kind_25 : decode cX4_kind 25 = .ok (.iconst 1, 1) := dk_4 (dk_at dksX4_kind_1 1 rfl rfl)
theorem dX4_kind_26 : decode cX4_kind 26 = .ok (.invokevirtual 257, 3) := dk_182 1 1 (dk_at dksX4_kind_1 2 rfl rfl)
theorem dX4_kind_29 : decode cX4_kind 29 = .ok (.iconst 0, 1) := dk_3 (dk_at dksX4_kind_1 5 rfl rfl)
theorem dX4_kind_30 : decode cX4_kind 30 = .ok (.istore 4, 2) := dk_54 4 (dk_at dksX4_kind_1 6 rfl rfl)
theorem dX4_kind_32 : decode cX4_kind 32 = .ok (.iload 4, 2) := dk_21 4 (dk_at dksX4_kind_1 8 rfl rfl)
theorem dX4_kind_34 : decode cX4_kind 34 = .ok (.iconst 4, 1) := dk_7 (dk_at dksX4_kind_1 10 rfl rfl)
theorem dX4_kind_35 : decode cX4_kind 35 = .ok (.if_icmp .ge 33, 3) := dk_162 0 33 (dk_at dksX4_kind_1 11 rfl rfl)
theorem dX4_kind_38 : decode cX4_kind 38 = .ok (.aload_n 0, 1) := dk_42 (dk_at dksX4_kind_1 14 rfl rfl)
theorem dX4_kind_39 : decode cX4_kind 39 = .ok (.invokevirtual 200, 3) := dk_182 0 200 (dk_at dksX4_kind_1 15 rfl rfl)
theorem dX4_kind_42 : decode cX4_kind 42 = .ok (.aload_n 0, 1) := dk_42 (dk_at dksX4_kind_1 18 rfl rfl)
theorem dX4_kind_43 : decode cX4_kind 43 = .ok (.iload_n 1, 1) := dk_27 (dk_at dksX4_kind_1 19 rfl rfl)
theorem dX4_kind_44 : decode cX4_kind 44 = .ok (.iconst 0, 1) := dk_3 (dk_at dksX4_kind_1 20 rfl rfl)
theorem dX4_kind_45 : decode cX4_kind 45 = .ok (.iload 4, 2) := dk_21 4 (dk_at dksX4_kind_1 21 rfl rfl)
theorem dX4_kind_47 : decode cX4_kind 47 = .ok (.invokevirtual 179, 3) := dk_182 0 179 (dk_at dksX4_kind_2 0 rfl rfl)
theorem dX4_kind_50 : decode cX4_kind 50 = .ok (.aload_n 0, 1) := dk_42 (dk_at dksX4_kind_2 3 rfl rfl)
theorem dX4_kind_51 : decode cX4_kind 51 = .ok (.iload 4, 2) := dk_21 4 (dk_at dksX4_kind_2 4 rfl rfl)
theorem dX4_kind_53 : decode cX4_kind 53 = .ok (.aload_n 0, 1) := dk_42 (dk_at dksX4_kind_2 6 rfl rfl)
theorem dX4_kind_54 : decode cX4_kind 54 = .ok (.iload_n 2, 1) := dk_28 (dk_at dksX4_kind_2 7 rfl rfl)
theorem dX4_kind_55 : decode cX4_kind 55 = .ok (.invokevirtual 264, 3) := dk_182 1 8 (dk_at dksX4_kind_2 8 rfl rfl)
theorem dX4_kind_58 : decode cX4_kind 58 = .ok (.ineg, 1) := dk_116 (dk_at dksX4_kind_2 11 rfl rfl)
theorem dX4_kind_59 : decode cX4_kind 59 = .ok (.invokevirtual 261, 3) := dk_182 1 5 (dk_at dksX4_kind_2 12 rfl rfl)
theorem dX4_kind_62 : decode cX4_kind 62 = .ok (.iinc 4 1, 3) := dk_132 4 1 (dk_at dksX4_kind_2 15 rfl rfl)
theorem dX4_kind_65 : decode cX4_kind 65 = .ok (.goto (-33), 3) := dk_167 255 223 (dk_at dksX4_kind_2 18 rfl rfl)
theorem dX4_kind_68 : decode cX4_kind 68 = .ok (.iload_n 3, 1) := dk_29 (dk_at dksX4_kind_2 21 rfl rfl)
theorem dX4_kind_69 : decode cX4_kind 69 = .ok (.ifCond .ne 10, 3) := dk_154 0 10 (dk_at dksX4_kind_3 0 rfl rfl)
theorem dX4_kind_72 : decode cX4_kind 72 = .ok (.aload_n 0, 1) := dk_42 (dk_at dksX4_kind_3 3 rfl rfl)
theorem dX4_kind_73 : decode cX4_kind 73 = .ok (.getfield 248, 3) := dk_180 0 248 (dk_at dksX4_kind_3 4 rfl rfl)
theorem dX4_kind_76 : decode cX4_kind 76 = .ok (.goto 8, 3) := dk_167 0 8 (dk_at dksX4_kind_3 7 rfl rfl)
theorem dX4_kind_79 : decode cX4_kind 79 = .ok (.aload_n 0, 1) := dk_42 (dk_at dksX4_kind_3 10 rfl rfl)
theorem dX4_kind_80 : decode cX4_kind 80 = .ok (.getfield 251, 3) := dk_180 0 251 (dk_at dksX4_kind_3 11 rfl rfl)
theorem dX4_kind_83 : decode cX4_kind 83 = .ok (.ineg, 1) := dk_116 (dk_at dksX4_kind_3 14 rfl rfl)
theorem dX4_kind_84 : decode cX4_kind 84 = .ok (.ireturn, 1) := dk_172 (dk_at dksX4_kind_3 15 rfl rfl)
abbrev cX4_luck : ByteArray := prog_12_method_73_code
def yX4_luck : MethodName := ⟨RX4, "luck", "(IIII)J"⟩
def dkwX4_luck_2 : List UInt8 := [29, 182, 1, 34, 42, 180, 1, 18, 42, 180, 1, 25, 21, 4, 184, 1, 37, 173]
abbrev dktX4_luck_2 : List UInt8 := dkwX4_luck_2 ++ []
def dkwX4_luck_1 : List UInt8 := [20, 1, 30, 184, 0, 76, 153, 0, 11, 21, 4, 184, 0, 254, 154, 0, 7, 20, 1, 32, 173, 42, 27, 28]
abbrev dktX4_luck_1 : List UInt8 := dkwX4_luck_1 ++ dktX4_luck_2
def dkwX4_luck_0 : List UInt8 := [27, 133, 9, 20, 1, 28, 184, 0, 76, 153, 0, 31, 42, 28, 182, 0, 220, 153, 0, 23, 29, 133, 9]
abbrev dktX4_luck_0 : List UInt8 := dkwX4_luck_0 ++ dktX4_luck_1
theorem dksX4_luck_0 : cX4_luck.data.toList.drop 0 = dktX4_luck_0 := by decide +kernel
theorem dksX4_luck_1 : cX4_luck.data.toList.drop 23 = dktX4_luck_1 := dk_seg dksX4_luck_0 23 rfl rfl
theorem dksX4_luck_2 : cX4_luck.data.toList.drop 47 = dktX4_luck_2 := dk_seg dksX4_luck_1 24 rfl rfl
theorem dX4_luck_0 : decode cX4_luck 0 = .ok (.iload_n 1, 1) := dk_27 (dk_at dksX4_luck_0 0 rfl rfl)
theorem dX4_luck_1 : decode cX4_luck 1 = .ok (.i2l, 1) := dk_133 (dk_at dksX4_luck_0 1 rfl rfl)
theorem dX4_luck_2 : decode cX4_luck 2 = .ok (.lconst 0, 1) := dk_9 (dk_at dksX4_luck_0 2 rfl rfl)
theorem dX4_luck_3 : decode cX4_luck 3 = .ok (.ldc2_w 284, 3) := dk_20 1 28 (dk_at dksX4_luck_0 3 rfl rfl)
theorem dX4_luck_6 : decode cX4_luck 6 = .ok (.invokestatic 76, 3) := dk_184 0 76 (dk_at dksX4_luck_0 6 rfl rfl)
theorem dX4_luck_9 : decode cX4_luck 9 = .ok (.ifCond .eq 31, 3) := dk_153 0 31 (dk_at dksX4_luck_0 9 rfl rfl)
theorem dX4_luck_12 : decode cX4_luck 12 = .ok (.aload_n 0, 1) := dk_42 (dk_at dksX4_luck_0 12 rfl rfl)
theorem dX4_luck_13 : decode cX4_luck 13 = .ok (.iload_n 2, 1) := dk_28 (dk_at dksX4_luck_0 13 rfl rfl)
theorem dX4_luck_14 : decode cX4_luck 14 = .ok (.invokevirtual 220, 3) := dk_182 0 220 (dk_at dksX4_luck_0 14 rfl rfl)
theorem dX4_luck_17 : decode cX4_luck 17 = .ok (.ifCond .eq 23, 3) := dk_153 0 23 (dk_at dksX4_luck_0 17 rfl rfl)
theorem dX4_luck_20 : decode cX4_luck 20 = .ok (.iload_n 3, 1) := dk_29 (dk_at dksX4_luck_0 20 rfl rfl)
theorem dX4_luck_21 : decode cX4_luck 21 = .ok (.i2l, 1) := dk_133 (dk_at dksX4_luck_0 21 rfl rfl)
theorem dX4_luck_22 : decode cX4_luck 22 = .ok (.lconst 0, 1) := dk_9 (dk_at dksX4_luck_0 22 rfl rfl)
theorem dX4_luck_23 : decode cX4_luck 23 = .ok (.ldc2_w 286, 3) := dk_20 1 30 (dk_at dksX4_luck_1 0 rfl rfl)
theorem dX4_luck_26 : decode cX4_luck 26 = .ok (.invokestatic 76, 3) := dk_184 0 76 (dk_at dksX4_luck_1 3 rfl rfl)
theorem dX4_luck_29 : decode cX4_luck 29 = .ok (.ifCond .eq 11, 3) := dk_153 0 11 (dk_at dksX4_luck_1 6 rfl rfl)
theorem dX4_luck_32 : decode cX4_luck 32 = .ok (.iload 4, 2) := dk_21 4 (dk_at dksX4_luck_1 9 rfl rfl)
theorem dX4_luck_34 : decode cX4_luck 34 = .ok (.invokestatic 254, 3) := dk_184 0 254 (dk_at dksX4_luck_1 11 rfl rfl)
theorem dX4_luck_37 : decode cX4_luck 37 = .ok (.ifCond .ne 7, 3) := dk_154 0 7 (dk_at dksX4_luck_1 14 rfl rfl)
theorem dX4_luck_40 : decode cX4_luck 40 = .ok (.ldc2_w 288, 3) := dk_20 1 32 (dk_at dksX4_luck_1 17 rfl rfl)
theorem dX4_luck_43 : decode cX4_luck 43 = .ok (.lreturn, 1) := dk_173 (dk_at dksX4_luck_1 20 rfl rfl)
theorem dX4_luck_44 : decode cX4_luck 44 = .ok (.aload_n 0, 1) := dk_42 (dk_at dksX4_luck_1 21 rfl rfl)
theorem dX4_luck_45 : decode cX4_luck 45 = .ok (.iload_n 1, 1) := dk_27 (dk_at dksX4_luck_1 22 rfl rfl)
theorem dX4_luck_46 : decode cX4_luck 46 = .ok (.iload_n 2, 1) := dk_28 (dk_at dksX4_luck_1 23 rfl rfl)
theorem dX4_luck_47 : decode cX4_luck 47 = .ok (.iload_n 3, 1) := dk_29 (dk_at dksX4_luck_2 0 rfl rfl)
theorem dX4_luck_48 : decode cX4_luck 48 = .ok (.invokevirtual 290, 3) := dk_182 1 34 (dk_at dksX4_luck_2 1 rfl rfl)
theorem dX4_luck_51 : decode cX4_luck 51 = .ok (.aload_n 0, 1) := dk_42 (dk_at dksX4_luck_2 4 rfl rfl)
theorem dX4_luck_52 : decode cX4_luck 52 = .ok (.getfield 274, 3) := dk_180 1 18 (dk_at dksX4_luck_2 5 rfl rfl)
theorem dX4_luck_55 : decode cX4_luck 55 = .ok (.aload_n 0, 1) := dk_42 (dk_at dksX4_luck_2 8 rfl rfl)
theorem dX4_luck_56 : decode cX4_luck 56 = .ok (.getfield 281, 3) := dk_180 1 25 (dk_at dksX4_luck_2 9 rfl rfl)
theorem dX4_luck_59 : decode cX4_luck 59 = .ok (.iload 4, 2) := dk_21 4 (dk_at dksX4_luck_2 12 rfl rfl)
theorem dX4_luck_61 : decode cX4_luck 61 = .ok (.invokestatic 293, 3) := dk_184 1 37 (dk_at dksX4_luck_2 14 rfl rfl)
theorem dX4_luck_64 : decode cX4_luck 64 = .ok (.lreturn, 1) := dk_173 (dk_at dksX4_luck_2 17 rfl rfl)
abbrev cX4_findOdds : ByteArray := prog_12_method_72_code
def yX4_findOdds : MethodName := ⟨RX4, "findOdds", "(III)V"⟩
def dkwX4_findOdds_7 : List UInt8 := [132, 4, 1, 167, 255, 133, 177]
abbrev dktX4_findOdds_7 : List UInt8 := dkwX4_findOdds_7 ++ []
def dkwX4_findOdds_6 : List UInt8 := [9, 97, 181, 1, 18, 42, 89, 180, 1, 22, 22, 5, 42, 180, 0, 154, 133, 105, 97, 181, 1, 22]
abbrev dktX4_findOdds_6 : List UInt8 := dkwX4_findOdds_6 ++ dktX4_findOdds_7
def dkwX4_findOdds_5 : List UInt8 := [42, 89, 180, 1, 18, 28, 16, 252, 159, 0, 16, 42, 28, 182, 0, 189, 154, 0, 8, 22, 5, 167, 0, 4]
abbrev dktX4_findOdds_5 : List UInt8 := dkwX4_findOdds_5 ++ dktX4_findOdds_6
def dkwX4_findOdds_4 : List UInt8 := [133, 167, 0, 8, 16, 10, 27, 100, 133, 105, 55, 5, 42, 21, 8, 182, 0, 196, 132, 7, 1, 167, 255, 203]
abbrev dktX4_findOdds_4 : List UInt8 := dkwX4_findOdds_4 ++ dktX4_findOdds_5
def dkwX4_findOdds_3 : List UInt8 := [21, 7, 122, 4, 126, 4, 160, 0, 7, 4, 167, 0, 4, 3, 54, 8, 22, 5, 21, 8, 153, 0, 8, 27]
abbrev dktX4_findOdds_3 : List UInt8 := dkwX4_findOdds_3 ++ dktX4_findOdds_4
def dkwX4_findOdds_2 : List UInt8 := [29, 120, 162, 0, 121, 10, 55, 5, 42, 182, 0, 200, 3, 54, 7, 21, 7, 29, 162, 0, 53, 21, 4]
abbrev dktX4_findOdds_2 : List UInt8 := dkwX4_findOdds_2 ++ dktX4_findOdds_3
def dkwX4_findOdds_1 : List UInt8 := [42, 89, 180, 1, 25, 20, 1, 28, 105, 181, 1, 25, 132, 4, 1, 167, 255, 235, 3, 54, 4, 21, 4, 4]
abbrev dktX4_findOdds_1 : List UInt8 := dkwX4_findOdds_1 ++ dktX4_findOdds_2
def dkwX4_findOdds_0 : List UInt8 := [42, 9, 181, 1, 18, 42, 9, 181, 1, 22, 42, 10, 181, 1, 25, 3, 54, 4, 21, 4, 29, 162, 0, 21]
abbrev dktX4_findOdds_0 : List UInt8 := dkwX4_findOdds_0 ++ dktX4_findOdds_1
theorem dksX4_findOdds_0 : cX4_findOdds.data.toList.drop 0 = dktX4_findOdds_0 := by decide +kernel
theorem dksX4_findOdds_1 : cX4_findOdds.data.toList.drop 24 = dktX4_findOdds_1 := dk_seg dksX4_findOdds_0 24 rfl rfl
theorem dksX4_findOdds_2 : cX4_findOdds.data.toList.drop 48 = dktX4_findOdds_2 := dk_seg dksX4_findOdds_1 24 rfl rfl
theorem dksX4_findOdds_3 : cX4_findOdds.data.toList.drop 71 = dktX4_findOdds_3 := dk_seg dksX4_findOdds_2 23 rfl rfl
theorem dksX4_findOdds_4 : cX4_findOdds.data.toList.drop 95 = dktX4_findOdds_4 := dk_seg dksX4_findOdds_3 24 rfl rfl
theorem dksX4_findOdds_5 : cX4_findOdds.data.toList.drop 119 = dktX4_findOdds_5 := dk_seg dksX4_findOdds_4 24 rfl rfl
theorem dksX4_findOdds_6 : cX4_findOdds.data.toList.drop 143 = dktX4_findOdds_6 := dk_seg dksX4_findOdds_5 24 rfl rfl
theorem dksX4_findOdds_7 : cX4_findOdds.data.toList.drop 165 = dktX4_findOdds_7 := dk_seg dksX4_findOdds_6 22 rfl rfl
theorem dX4_findOdds_0 : decode cX4_findOdds 0 = .ok (.aload_n 0, 1) := dk_42 (dk_at dksX4_findOdds_0 0 rfl rfl)
theorem dX4_findOdds_1 : decode cX4_findOdds 1 = .ok (.lconst 0, 1) := dk_9 (dk_at dksX4_findOdds_0 1 rfl rfl)
theorem dX4_findOdds_2 : decode cX4_findOdds 2 = .ok (.putfield 274, 3) := dk_181 1 18 (dk_at dksX4_findOdds_0 2 rfl rfl)
theorem dX4_findOdds_5 : decode cX4_findOdds 5 = .ok (.aload_n 0, 1) := dk_42 (dk_at dksX4_findOdds_0 5 rfl rfl)
theorem dX4_findOdds_6 : decode cX4_findOdds 6 = .ok (.lconst 0, 1) := dk_9 (dk_at dksX4_findOdds_0 6 rfl rfl)
theorem dX4_findOdds_7 : decode cX4_findOdds 7 = .ok (.putfield 278, 3) := dk_181 1 22 (dk_at dksX4_findOdds_0 7 rfl rfl)
theorem dX4_findOdds_10 : decode cX4_findOdds 10 = .ok (.aload_n 0, 1) := dk_42 (dk_at dksX4_findOdds_0 10 rfl rfl)
theorem dX4_findOdds_11 : decode cX4_findOdds 11 = .ok (.lconst 1, 1) := dk_10 (dk_at dksX4_findOdds_0 11 rfl rfl)
theorem dX4_findOdds_12 : decode cX4_findOdds 12 = .ok (.putfield 281, 3) := dk_181 1 25 (dk_at dksX4_findOdds_0 12 rfl rfl)
theorem dX4_findOdds_15 : decode cX4_findOdds 15 = .ok (.iconst 0, 1) := dk_3 (dk_at dksX4_findOdds_0 15 rfl rfl)
theorem dX4_findOdds_16 : decode cX4_findOdds 16 = .ok (.istore 4, 2) := dk_54 4 (dk_at dksX4_findOdds_0 16 rfl rfl)
theorem dX4_findOdds_18 : decode cX4_findOdds 18 = .ok (.iload 4, 2) := dk_21 4 (dk_at dksX4_findOdds_0 18 rfl rfl)
theorem dX4_findOdds_20 : decode cX4_findOdds 20 = .ok (.iload_n 3, 1) := dk_29 (dk_at dksX4_findOdds_0 20 rfl rfl)
theorem dX4_findOdds_21 : decode cX4_findOdds 21 = .ok (.if_icmp .ge 21, 3) := dk_162 0 21 (dk_at dksX4_findOdds_0 21 rfl rfl)
theorem dX4_findOdds_24 : decode cX4_findOdds 24 = .ok (.aload_n 0, 1) := dk_42 (dk_at dksX4_findOdds_1 0 rfl rfl)
theorem dX4_findOdds_25 : decode cX4_findOdds 25 = .ok (.dup, 1) := dk_89 (dk_at dksX4_findOdds_1 1 rfl rfl)
theorem dX4_findOdds_26 : decode cX4_findOdds 26 = .ok (.getfield 281, 3) := dk_180 1 25 (dk_at dksX4_findOdds_1 2 rfl rfl)
theorem dX4_findOdds_29 : decode cX4_findOdds 29 = .ok (.ldc2_w 284, 3) := dk_20 1 28 (dk_at dksX4_findOdds_1 5 rfl rfl)
theorem dX4_findOdds_32 : decode cX4_findOdds 32 = .ok (.lmul, 1) := dk_105 (dk_at dksX4_findOdds_1 8 rfl rfl)
theorem dX4_findOdds_33 : decode cX4_findOdds 33 = .ok (.putfield 281, 3) := dk_181 1 25 (dk_at dksX4_findOdds_1 9 rfl rfl)
theorem dX4_findOdds_36 : decode cX4_findOdds 36 = .ok (.iinc 4 1, 3) := dk_132 4 1 (dk_at dksX4_findOdds_1 12 rfl rfl)
theorem dX4_findOdds_39 : decode cX4_findOdds 39 = .ok (.goto (-21), 3) := dk_167 255 235 (dk_at dksX4_findOdds_1 15 rfl rfl)
theorem dX4_findOdds_42 : decode cX4_findOdds 42 = .ok (.iconst 0, 1) := dk_3 (dk_at dksX4_findOdds_1 18 rfl rfl)
theorem dX4_findOdds_43 : decode cX4_findOdds 43 = .ok (.istore 4, 2) := dk_54 4 (dk_at dksX4_findOdds_1 19 rfl rfl)
theorem dX4_findOdds_45 : decode cX4_findOdds 45 = .ok (.iload 4, 2) := dk_21 4 (dk_at dksX4_findOdds_1 21 rfl rfl)
theorem dX4_findOdds_47 : decode cX4_findOdds 47 = .ok (.iconst 1, 1) := dk_4 (dk_at dksX4_findOdds_1 23 rfl rfl)
theorem dX4_findOdds_48 : decode cX4_findOdds 48 = .ok (.iload_n 3, 1) := dk_29 (dk_at dksX4_findOdds_2 0 rfl rfl)
theorem dX4_findOdds_49 : decode cX4_findOdds 49 = .ok (.ishl, 1) := dk_120 (dk_at dksX4_findOdds_2 1 rfl rfl)
theorem dX4_findOdds_50 : decode cX4_findOdds 50 = .ok (.if_icmp .ge 121, 3) := dk_162 0 121 (dk_at dksX4_findOdds_2 2 rfl rfl)
theorem dX4_findOdds_53 : decode cX4_findOdds 53 = .ok (.lconst 1, 1) := dk_10 (dk_at dksX4_findOdds_2 5 rfl rfl)
theorem dX4_findOdds_54 : decode cX4_findOdds 54 = .ok (.lstore 5, 2) := dk_55 5 (dk_at dksX4_findOdds_2 6 rfl rfl)
theorem dX4_findOdds_56 : decode cX4_findOdds 56 = .ok (.aload_n 0, 1) := dk_42 (dk_at dksX4_findOdds_2 8 rfl rfl)
theorem dX4_findOdds_57 : decode cX4_findOdds 57 = .ok (.invokevirtual 200, 3) := dk_182 0 200 (dk_at dksX4_findOdds_2 9 rfl rfl)
theorem dX4_findOdds_60 : decode cX4_findOdds 60 = .ok (.iconst 0, 1) := dk_3 (dk_at dksX4_findOdds_2 12 rfl rfl)
theorem dX4_findOdds_61 : decode cX4_findOdds 61 = .ok (.istore 7, 2) := dk_54 7 (dk_at dksX4_findOdds_2 13 rfl rfl)
theorem dX4_findOdds_63 : decode cX4_findOdds 63 = .ok (.iload 7, 2) := dk_21 7 (dk_at dksX4_findOdds_2 15 rfl rfl)
theorem dX4_findOdds_65 : decode cX4_findOdds 65 = .ok (.iload_n 3, 1) := dk_29 (dk_at dksX4_findOdds_2 17 rfl rfl)
theorem dX4_findOdds_66 : decode cX4_findOdds 66 = .ok (.if_icmp .ge 53, 3) := dk_162 0 53 (dk_at dksX4_findOdds_2 18 rfl rfl)
theorem dX4_findOdds_69 : decode cX4_findOdds 69 = .ok (.iload 4, 2) := dk_21 4 (dk_at dksX4_findOdds_2 21 rfl rfl)
theorem dX4_findOdds_71 : decode cX4_findOdds 71 = .ok (.iload 7, 2) := dk_21 7 (dk_at dksX4_findOdds_3 0 rfl rfl)
theorem dX4_findOdds_73 : decode cX4_findOdds 73 = .ok (.ishr, 1) := dk_122 (dk_at dksX4_findOdds_3 2 rfl rfl)
theorem dX4_findOdds_74 : decode cX4_findOdds 74 = .ok (.iconst 1, 1) := dk_4 (dk_at dksX4_findOdds_3 3 rfl rfl)
theorem dX4_findOdds_75 : decode cX4_findOdds 75 = .ok (.iand, 1) := dk_126 (dk_at dksX4_findOdds_3 4 rfl rfl)
theorem dX4_findOdds_76 : decode cX4_findOdds 76 = .ok (.iconst 1, 1) := dk_4 (dk_at dksX4_findOdds_3 5 rfl rfl)
theorem dX4_findOdds_77 : decode cX4_findOdds 77 = .ok (.if_icmp .ne 7, 3) := dk_160 0 7 (dk_at dksX4_findOdds_3 6 rfl rfl)
theorem dX4_findOdds_80 : decode cX4_findOdds 80 = .ok (.iconst 1, 1) := dk_4 (dk_at dksX4_findOdds_3 9 rfl rfl)
theorem dX4_findOdds_81 : decode cX4_findOdds 81 = .ok (.goto 4, 3) := dk_167 0 4 (dk_at dksX4_findOdds_3 10 rfl rfl)
theorem dX4_findOdds_84 : decode cX4_findOdds 84 = .ok (.iconst 0, 1) := dk_3 (dk_at dksX4_findOdds_3 13 rfl rfl)
theorem dX4_findOdds_85 : decode cX4_findOdds 85 = .ok (.istore 8, 2) := dk_54 8 (dk_at dksX4_findOdds_3 14 rfl rfl)
theorem dX4_findOdds_87 : decode cX4_findOdds 87 = .ok (.lload 5, 2) := dk_22 5 (dk_at dksX4_findOdds_3 16 rfl rfl)
theorem dX4_findOdds_89 : decode cX4_findOdds 89 = .ok (.iload 8, 2) := dk_21 8 (dk_at dksX4_findOdds_3 18 rfl rfl)
theorem dX4_findOdds_91 : decode cX4_findOdds 91 = .ok (.ifCond .eq 8, 3) := dk_153 0 8 (dk_at dksX4_findOdds_3 20 rfl rfl)
theorem dX4_findOdds_94 : decode cX4_findOdds 94 = .ok (.iload_n 1, 1) := dk_27 (dk_at dksX4_findOdds_3 23 rfl rfl)
theorem dX4_findOdds_95 : decode cX4_findOdds 95 = .ok (.i2l, 1) := dk_133 (dk_at dksX4_findOdds_4 0 rfl rfl)
theorem dX4_findOdds_96 : decode cX4_findOdds 96 = .ok (.goto 8, 3) := dk_167 0 8 (dk_at dksX4_findOdds_4 1 rfl rfl)
theorem dX4_findOdds_99 : decode cX4_findOdds 99 = .ok (.bipush 10, 2) := dk_16 10 (dk_at dksX4_findOdds_4 4 rfl rfl)
theorem dX4_findOdds_101 : decode cX4_findOdds 101 = .ok (.iload_n 1, 1) := dk_27 (dk_at dksX4_findOdds_4 6 rfl rfl)
theorem dX4_findOdds_102 : decode cX4_findOdds 102 = .ok (.isub, 1) := dk_100 (dk_at dksX4_findOdds_4 7 rfl rfl)
theorem dX4_findOdds_103 : decode cX4_findOdds 103 = .ok (.i2l, 1) := dk_133 (dk_at dksX4_findOdds_4 8 rfl rfl)
theorem dX4_findOdds_104 : decode cX4_findOdds 104 = .ok (.lmul, 1) := dk_105 (dk_at dksX4_findOdds_4 9 rfl rfl)
theorem dX4_findOdds_105 : decode cX4_findOdds 105 = .ok (.lstore 5, 2) := dk_55 5 (dk_at dksX4_findOdds_4 10 rfl rfl)
theorem dX4_findOdds_107 : decode cX4_findOdds 107 = .ok (.aload_n 0, 1) := dk_42 (dk_at dksX4_findOdds_4 12 rfl rfl)
theorem dX4_findOdds_108 : decode cX4_findOdds 108 = .ok (.iload 8, 2) := dk_21 8 (dk_at dksX4_findOdds_4 13 rfl rfl)
theorem dX4_findOdds_110 : decode cX4_findOdds 110 = .ok (.invokevirtual 196, 3) := dk_182 0 196 (dk_at dksX4_findOdds_4 15 rfl rfl)
theorem dX4_findOdds_113 : decode cX4_findOdds 113 = .ok (.iinc 7 1, 3) := dk_132 7 1 (dk_at dksX4_findOdds_4 18 rfl rfl)
theorem dX4_findOdds_116 : decode cX4_findOdds 116 = .ok (.goto (-53), 3) := dk_167 255 203 (dk_at dksX4_findOdds_4 21 rfl rfl)
theorem dX4_findOdds_119 : decode cX4_findOdds 119 = .ok (.aload_n 0, 1) := dk_42 (dk_at dksX4_findOdds_5 0 rfl rfl)
theorem dX4_findOdds_120 : decode cX4_findOdds 120 = .ok (.dup, 1) := dk_89 (dk_at dksX4_findOdds_5 1 rfl rfl)
theorem dX4_findOdds_121 : decode cX4_findOdds 121 = .ok (.getfield 274, 3) := dk_180 1 18 (dk_at dksX4_findOdds_5 2 rfl rfl)
theorem dX4_findOdds_124 : decode cX4_findOdds 124 = .ok (.iload_n 2, 1) := dk_28 (dk_at dksX4_findOdds_5 5 rfl rfl)
theorem dX4_findOdds_125 : decode cX4_findOdds 125 = .ok (.bipush (-4), 2) := dk_16 252 (dk_at dksX4_findOdds_5 6 rfl rfl)
theorem dX4_findOdds_127 : decode cX4_findOdds 127 = .ok (.if_icmp .eq 16, 3) := dk_159 0 16 (dk_at dksX4_findOdds_5 8 rfl rfl)
theorem dX4_findOdds_130 : decode cX4_findOdds 130 = .ok (.aload_n 0, 1) := dk_42 (dk_at dksX4_findOdds_5 11 rfl rfl)
theorem dX4_findOdds_131 : decode cX4_findOdds 131 = .ok (.iload_n 2, 1) := dk_28 (dk_at dksX4_findOdds_5 12 rfl rfl)
theorem dX4_findOdds_132 : decode cX4_findOdds 132 = .ok (.invokevirtual 189, 3) := dk_182 0 189 (dk_at dksX4_findOdds_5 13 rfl rfl)
theorem dX4_findOdds_135 : decode cX4_findOdds 135 = .ok (.ifCond .ne 8, 3) := dk_154 0 8 (dk_at dksX4_findOdds_5 16 rfl rfl)
theorem dX4_findOdds_138 : decode cX4_findOdds 138 = .ok (.lload 5, 2) := dk_22 5 (dk_at dksX4_findOdds_5 19 rfl rfl)
theorem dX4_findOdds_140 : decode cX4_findOdds 140 = .ok (.goto 4, 3) := dk_167 0 4 (dk_at dksX4_findOdds_5 21 rfl rfl)
theorem dX4_findOdds_143 : decode cX4_findOdds 143 = .ok (.lconst 0, 1) := dk_9 (dk_at dksX4_findOdds_6 0 rfl rfl)
theorem dX4_findOdds_144 : decode cX4_findOdds 144 = .ok (.ladd, 1) := dk_97 (dk_at dksX4_findOdds_6 1 rfl rfl)
theorem dX4_findOdds_145 : decode cX4_findOdds 145 = .ok (.putfield 274, 3) := dk_181 1 18 (dk_at dksX4_findOdds_6 2 rfl rfl)
theorem dX4_findOdds_148 : decode cX4_findOdds 148 = .ok (.aload_n 0, 1) := dk_42 (dk_at dksX4_findOdds_6 5 rfl rfl)
theorem dX4_findOdds_149 : decode cX4_findOdds 149 = .ok (.dup, 1) := dk_89 (dk_at dksX4_findOdds_6 6 rfl rfl)
theorem dX4_findOdds_150 : decode cX4_findOdds 150 = .ok (.getfield 278, 3) := dk_180 1 22 (dk_at dksX4_findOdds_6 7 rfl rfl)
theorem dX4_findOdds_153 : decode cX4_findOdds 153 = .ok (.lload 5, 2) := dk_22 5 (dk_at dksX4_findOdds_6 10 rfl rfl)
theorem dX4_findOdds_155 : decode cX4_findOdds 155 = .ok (.aload_n 0, 1) := dk_42 (dk_at dksX4_findOdds_6 12 rfl rfl)
theorem dX4_findOdds_156 : decode cX4_findOdds 156 = .ok (.getfield 154, 3) := dk_180 0 154 (dk_at dksX4_findOdds_6 13 rfl rfl)
theorem dX4_findOdds_159 : decode cX4_findOdds 159 = .ok (.i2l, 1) := dk_133 (dk_at dksX4_findOdds_6 16 rfl rfl)
theorem dX4_findOdds_160 : decode cX4_findOdds 160 = .ok (.lmul, 1) := dk_105 (dk_at dksX4_findOdds_6 17 rfl rfl)
theorem dX4_findOdds_161 : decode cX4_findOdds 161 = .ok (.ladd, 1) := dk_97 (dk_at dksX4_findOdds_6 18 rfl rfl)
theorem dX4_findOdds_162 : decode cX4_findOdds 162 = .ok (.putfield 278, 3) := dk_181 1 22 (dk_at dksX4_findOdds_6 19 rfl rfl)
theorem dX4_findOdds_165 : decode cX4_findOdds 165 = .ok (.iinc 4 1, 3) := dk_132 4 1 (dk_at dksX4_findOdds_7 0 rfl rfl)
theorem dX4_findOdds_168 : decode cX4_findOdds 168 = .ok (.goto (-123), 3) := dk_167 255 133 (dk_at dksX4_findOdds_7 3 rfl rfl)
theorem dX4_findOdds_171 : decode cX4_findOdds 171 = .ok (.return_, 1) := dk_177 (dk_at dksX4_findOdds_7 6 rfl rfl)
abbrev cX4_told : ByteArray := prog_12_method_71_code
def yX4_told : MethodName := ⟨RX4, "told", "(JJI)J"⟩
def dkwX4_told_0 : List UInt8 := [32, 30, 184, 1, 14, 55, 5, 21, 4, 154, 0, 10, 30, 22, 5, 109, 167, 0, 7, 32, 22, 5, 109, 173]
abbrev dktX4_told_0 : List UInt8 := dkwX4_told_0 ++ []
theorem dksX4_told_0 : cX4_told.data.toList.drop 0 = dktX4_told_0 := by decide +kernel
theorem dX4_told_0 : decode cX4_told 0 = .ok (.lload_n 2, 1) := dk_32 (dk_at dksX4_told_0 0 rfl rfl)
theorem dX4_told_1 : decode cX4_told 1 = .ok (.lload_n 0, 1) := dk_30 (dk_at dksX4_told_0 1 rfl rfl)
theorem dX4_told_2 : decode cX4_told 2 = .ok (.invokestatic 270, 3) := dk_184 1 14 (dk_at dksX4_told_0 2 rfl rfl)
theorem dX4_told_5 : decode cX4_told 5 = .ok (.lstore 5, 2) := dk_55 5 (dk_at dksX4_told_0 5 rfl rfl)
theorem dX4_told_7 : decode cX4_told 7 = .ok (.iload 4, 2) := dk_21 4 (dk_at dksX4_told_0 7 rfl rfl)
theorem dX4_told_9 : decode cX4_told 9 = .ok (.ifCond .ne 10, 3) := dk_154 0 10 (dk_at dksX4_told_0 9 rfl rfl)
theorem dX4_told_12 : decode cX4_told 12 = .ok (.lload_n 0, 1) := dk_30 (dk_at dksX4_told_0 12 rfl rfl)
theorem dX4_told_13 : decode cX4_told 13 = .ok (.lload 5, 2) := dk_22 5 (dk_at dksX4_told_0 13 rfl rfl)
theorem dX4_told_15 : decode cX4_told 15 = .ok (.ldiv, 1) := dk_109 (dk_at dksX4_told_0 15 rfl rfl)
theorem dX4_told_16 : decode cX4_told 16 = .ok (.goto 7, 3) := dk_167 0 7 (dk_at dksX4_told_0 16 rfl rfl)
theorem dX4_told_19 : decode cX4_told 19 = .ok (.lload_n 2, 1) := dk_32 (dk_at dksX4_told_0 19 rfl rfl)
theorem dX4_told_20 : decode cX4_told 20 = .ok (.lload 5, 2) := dk_22 5 (dk_at dksX4_told_0 20 rfl rfl)
theorem dX4_told_22 : decode cX4_told 22 = .ok (.ldiv, 1) := dk_109 (dk_at dksX4_told_0 22 rfl rfl)
theorem dX4_told_23 : decode cX4_told 23 = .ok (.lreturn, 1) := dk_173 (dk_at dksX4_told_0 23 rfl rfl)
abbrev cX4_common : ByteArray := prog_12_method_70_code
def yX4_common : MethodName := ⟨RX4, "common", "(JJ)J"⟩
def dkwX4_common_1 : List UInt8 := [22, 8, 55, 6, 167, 255, 234, 22, 4, 173]
abbrev dktX4_common_1 : List UInt8 := dkwX4_common_1 ++ []
def dkwX4_common_0 : List UInt8 := [30, 55, 4, 32, 55, 6, 22, 6, 9, 148, 153, 0, 21, 22, 4, 22, 6, 113, 55, 8, 22, 6, 55, 4]
abbrev dktX4_common_0 : List UInt8 := dkwX4_common_0 ++ dktX4_common_1
theorem dksX4_common_0 : cX4_common.data.toList.drop 0 = dktX4_common_0 := by decide +kernel
theorem dksX4_common_1 : cX4_common.data.toList.drop 24 = dktX4_common_1 := dk_seg dksX4_common_0 24 rfl rfl
theorem dX4_common_0 : decode cX4_common 0 = .ok (.lload_n 0, 1) := dk_30 (dk_at dksX4_common_0 0 rfl rfl)
theorem dX4_common_1 : decode cX4_common 1 = .ok (.lstore 4, 2) := dk_55 4 (dk_at dksX4_common_0 1 rfl rfl)
theorem dX4_common_3 : decode cX4_common 3 = .ok (.lload_n 2, 1) := dk_32 (dk_at dksX4_common_0 3 rfl rfl)
theorem dX4_common_4 : decode cX4_common 4 = .ok (.lstore 6, 2) := dk_55 6 (dk_at dksX4_common_0 4 rfl rfl)
theorem dX4_common_6 : decode cX4_common 6 = .ok (.lload 6, 2) := dk_22 6 (dk_at dksX4_common_0 6 rfl rfl)
theorem dX4_common_8 : decode cX4_common 8 = .ok (.lconst 0, 1) := dk_9 (dk_at dksX4_common_0 8 rfl rfl)
theorem dX4_common_9 : decode cX4_common 9 = .ok (.lcmp, 1) := dk_148 (dk_at dksX4_common_0 9 rfl rfl)
theorem dX4_common_10 : decode cX4_common 10 = .ok (.ifCond .eq 21, 3) := dk_153 0 21 (dk_at dksX4_common_0 10 rfl rfl)
theorem dX4_common_13 : decode cX4_common 13 = .ok (.lload 4, 2) := dk_22 4 (dk_at dksX4_common_0 13 rfl rfl)
theorem dX4_common_15 : decode cX4_common 15 = .ok (.lload 6, 2) := dk_22 6 (dk_at dksX4_common_0 15 rfl rfl)
theorem dX4_common_17 : decode cX4_common 17 = .ok (.lrem, 1) := dk_113 (dk_at dksX4_common_0 17 rfl rfl)
theorem dX4_common_18 : decode cX4_common 18 = .ok (.lstore 8, 2) := dk_55 8 (dk_at dksX4_common_0 18 rfl rfl)
theorem dX4_common_20 : decode cX4_common 20 = .ok (.lload 6, 2) := dk_22 6 (dk_at dksX4_common_0 20 rfl rfl)
theorem dX4_common_22 : decode cX4_common 22 = .ok (.lstore 4, 2) := dk_55 4 (dk_at dksX4_common_0 22 rfl rfl)
theorem dX4_common_24 : decode cX4_common 24 = .ok (.lload 8, 2) := dk_22 8 (dk_at dksX4_common_1 0 rfl rfl)
theorem dX4_common_26 : decode cX4_common 26 = .ok (.lstore 6, 2) := dk_55 6 (dk_at dksX4_common_1 2 rfl rfl)
theorem dX4_common_28 : decode cX4_common 28 = .ok (.goto (-22), 3) := dk_167 255 234 (dk_at dksX4_common_1 4 rfl rfl)
theorem dX4_common_31 : decode cX4_common 31 = .ok (.lload 4, 2) := dk_22 4 (dk_at dksX4_common_1 7 rfl rfl)
theorem dX4_common_33 : decode cX4_common 33 = .ok (.lreturn, 1) := dk_173 (dk_at dksX4_common_1 9 rfl rfl)
abbrev cX4_mean : ByteArray := prog_12_method_74_code
def yX4_mean : MethodName := ⟨RX4, "mean", "(III)J"⟩
def dkwX4_mean_2 : List UInt8 := [180, 1, 25, 29, 184, 1, 37, 173]
abbrev dktX4_mean_2 : List UInt8 := dkwX4_mean_2 ++ []
def dkwX4_mean_1 : List UInt8 := [29, 184, 0, 254, 154, 0, 7, 20, 1, 32, 173, 42, 27, 16, 252, 28, 182, 1, 34, 42, 180, 1, 22, 42]
abbrev dktX4_mean_1 : List UInt8 := dkwX4_mean_1 ++ dktX4_mean_2
def dkwX4_mean_0 : List UInt8 := [27, 133, 9, 20, 1, 28, 184, 0, 76, 153, 0, 22, 28, 133, 9, 20, 1, 30, 184, 0, 76, 153, 0, 10]
abbrev dktX4_mean_0 : List UInt8 := dkwX4_mean_0 ++ dktX4_mean_1
theorem dksX4_mean_0 : cX4_mean.data.toList.drop 0 = dktX4_mean_0 := by decide +kernel
theorem dksX4_mean_1 : cX4_mean.data.toList.drop 24 = dktX4_mean_1 := dk_seg dksX4_mean_0 24 rfl rfl
theorem dksX4_mean_2 : cX4_mean.data.toList.drop 48 = dktX4_mean_2 := dk_seg dksX4_mean_1 24 rfl rfl
theorem dX4_mean_0 : decode cX4_mean 0 = .ok (.iload_n 1, 1) := dk_27 (dk_at dksX4_mean_0 0 rfl rfl)
theorem dX4_mean_1 : decode cX4_mean 1 = .ok (.i2l, 1) := dk_133 (dk_at dksX4_mean_0 1 rfl rfl)
theorem dX4_mean_2 : decode cX4_mean 2 = .ok (.lconst 0, 1) := dk_9 (dk_at dksX4_mean_0 2 rfl rfl)
theorem dX4_mean_3 : decode cX4_mean 3 = .ok (.ldc2_w 284, 3) := dk_20 1 28 (dk_at dksX4_mean_0 3 rfl rfl)
theorem dX4_mean_6 : decode cX4_mean 6 = .ok (.invokestatic 76, 3) := dk_184 0 76 (dk_at dksX4_mean_0 6 rfl rfl)
theorem dX4_mean_9 : decode cX4_mean 9 = .ok (.ifCond .eq 22, 3) := dk_153 0 22 (dk_at dksX4_mean_0 9 rfl rfl)
theorem dX4_mean_12 : decode cX4_mean 12 = .ok (.iload_n 2, 1) := dk_28 (dk_at dksX4_mean_0 12 rfl rfl)
theorem dX4_mean_13 : decode cX4_mean 13 = .ok (.i2l, 1) := dk_133 (dk_at dksX4_mean_0 13 rfl rfl)
theorem dX4_mean_14 : decode cX4_mean 14 = .ok (.lconst 0, 1) := dk_9 (dk_at dksX4_mean_0 14 rfl rfl)
theorem dX4_mean_15 : decode cX4_mean 15 = .ok (.ldc2_w 286, 3) := dk_20 1 30 (dk_at dksX4_mean_0 15 rfl rfl)
theorem dX4_mean_18 : decode cX4_mean 18 = .ok (.invokestatic 76, 3) := dk_184 0 76 (dk_at dksX4_mean_0 18 rfl rfl)
theorem dX4_mean_21 : decode cX4_mean 21 = .ok (.ifCond .eq 10, 3) := dk_153 0 10 (dk_at dksX4_mean_0 21 rfl rfl)
theorem dX4_mean_24 : decode cX4_mean 24 = .ok (.iload_n 3, 1) := dk_29 (dk_at dksX4_mean_1 0 rfl rfl)
theorem dX4_mean_25 : decode cX4_mean 25 = .ok (.invokestatic 254, 3) := dk_184 0 254 (dk_at dksX4_mean_1 1 rfl rfl)
theorem dX4_mean_28 : decode cX4_mean 28 = .ok (.ifCond .ne 7, 3) := dk_154 0 7 (dk_at dksX4_mean_1 4 rfl rfl)
theorem dX4_mean_31 : decode cX4_mean 31 = .ok (.ldc2_w 288, 3) := dk_20 1 32 (dk_at dksX4_mean_1 7 rfl rfl)
theorem dX4_mean_34 : decode cX4_mean 34 = .ok (.lreturn, 1) := dk_173 (dk_at dksX4_mean_1 10 rfl rfl)
theorem dX4_mean_35 : decode cX4_mean 35 = .ok (.aload_n 0, 1) := dk_42 (dk_at dksX4_mean_1 11 rfl rfl)
theorem dX4_mean_36 : decode cX4_mean 36 = .ok (.iload_n 1, 1) := dk_27 (dk_at dksX4_mean_1 12 rfl rfl)
theorem dX4_mean_37 : decode cX4_mean 37 = .ok (.bipush (-4), 2) := dk_16 252 (dk_at dksX4_mean_1 13 rfl rfl)
theorem dX4_mean_39 : decode cX4_mean 39 = .ok (.iload_n 2, 1) := dk_28 (dk_at dksX4_mean_1 15 rfl rfl)
theorem dX4_mean_40 : decode cX4_mean 40 = .ok (.invokevirtual 290, 3) := dk_182 1 34 (dk_at dksX4_mean_1 16 rfl rfl)
theorem dX4_mean_43 : decode cX4_mean 43 = .ok (.aload_n 0, 1) := dk_42 (dk_at dksX4_mean_1 19 rfl rfl)
theorem dX4_mean_44 : decode cX4_mean 44 = .ok (.getfield 278, 3) := dk_180 1 22 (dk_at dksX4_mean_1 20 rfl rfl)
theorem dX4_mean_47 : decode cX4_mean 47 = .ok (.aload_n 0, 1) := dk_42 (dk_at dksX4_mean_1 23 rfl rfl)
theorem dX4_mean_48 : decode cX4_mean 48 = .ok (.getfield 281, 3) := dk_180 1 25 (dk_at dksX4_mean_2 0 rfl rfl)
theorem dX4_mean_51 : decode cX4_mean 51 = .ok (.iload_n 3, 1) := dk_29 (dk_at dksX4_mean_2 3 rfl rfl)
theorem dX4_mean_52 : decode cX4_mean 52 = .ok (.invokestatic 293, 3) := dk_184 1 37 (dk_at dksX4_mean_2 4 rfl rfl)
theorem dX4_mean_55 : decode cX4_mean 55 = .ok (.lreturn, 1) := dk_173 (dk_at dksX4_mean_2 7 rfl rfl)
abbrev cX4_see : ByteArray := prog_12_method_75_code
def yX4_see : MethodName := ⟨RX4, "see", "(IIZ)I"⟩
def dkwX4_see_4 : List UInt8 := [180, 0, 7, 16, 39, 46, 172]
abbrev dktX4_see_4 : List UInt8 := dkwX4_see_4 ++ []
def dkwX4_see_3 : List UInt8 := [180, 0, 7, 21, 4, 5, 96, 29, 184, 0, 169, 79, 42, 180, 0, 7, 16, 39, 92, 46, 4, 96, 79, 42]
abbrev dktX4_see_3 : List UInt8 := dkwX4_see_3 ++ dktX4_see_4
def dkwX4_see_2 : List UInt8 := [104, 96, 54, 4, 42, 180, 0, 7, 21, 4, 27, 79, 42, 180, 0, 7, 21, 4, 4, 96, 28, 79, 42]
abbrev dktX4_see_2 : List UInt8 := dkwX4_see_2 ++ dktX4_see_3
def dkwX4_see_1 : List UInt8 := [180, 0, 7, 16, 39, 46, 16, 6, 160, 0, 6, 16, 253, 172, 16, 40, 6, 42, 180, 0, 7, 16, 39, 46]
abbrev dktX4_see_1 : List UInt8 := dkwX4_see_1 ++ dktX4_see_2
def dkwX4_see_0 : List UInt8 := [27, 133, 9, 20, 0, 230, 184, 0, 76, 153, 0, 11, 42, 28, 182, 0, 220, 154, 0, 5, 2, 172, 42]
abbrev dktX4_see_0 : List UInt8 := dkwX4_see_0 ++ dktX4_see_1
theorem dksX4_see_0 : cX4_see.data.toList.drop 0 = dktX4_see_0 := by decide +kernel
theorem dksX4_see_1 : cX4_see.data.toList.drop 23 = dktX4_see_1 := dk_seg dksX4_see_0 23 rfl rfl
theorem dksX4_see_2 : cX4_see.data.toList.drop 47 = dktX4_see_2 := dk_seg dksX4_see_1 24 rfl rfl
theorem dksX4_see_3 : cX4_see.data.toList.drop 70 = dktX4_see_3 := dk_seg dksX4_see_2 23 rfl rfl
theorem dksX4_see_4 : cX4_see.data.toList.drop 94 = dktX4_see_4 := dk_seg dksX4_see_3 24 rfl rfl
theorem dX4_see_0 : decode cX4_see 0 = .ok (.iload_n 1, 1) := dk_27 (dk_at dksX4_see_0 0 rfl rfl)
theorem dX4_see_1 : decode cX4_see 1 = .ok (.i2l, 1) := dk_133 (dk_at dksX4_see_0 1 rfl rfl)
theorem dX4_see_2 : decode cX4_see 2 = .ok (.lconst 0, 1) := dk_9 (dk_at dksX4_see_0 2 rfl rfl)
theorem dX4_see_3 : decode cX4_see 3 = .ok (.ldc2_w 230, 3) := dk_20 0 230 (dk_at dksX4_see_0 3 rfl rfl)
theorem dX4_see_6 : decode cX4_see 6 = .ok (.invokestatic 76, 3) := dk_184 0 76 (dk_at dksX4_see_0 6 rfl rfl)
theorem dX4_see_9 : decode cX4_see 9 = .ok (.ifCond .eq 11, 3) := dk_153 0 11 (dk_at dksX4_see_0 9 rfl rfl)
theorem dX4_see_12 : decode cX4_see 12 = .ok (.aload_n 0, 1) := dk_42 (dk_at dksX4_see_0 12 rfl rfl)
theorem dX4_see_13 : decode cX4_see 13 = .ok (.iload_n 2, 1) := dk_28 (dk_at dksX4_see_0 13 rfl rfl)
theorem dX4_see_14 : decode cX4_see 14 = .ok (.invokevirtual 220, 3) := dk_182 0 220 (dk_at dksX4_see_0 14 rfl rfl)
theorem dX4_see_17 : decode cX4_see 17 = .ok (.ifCond .ne 5, 3) := dk_154 0 5 (dk_at dksX4_see_0 17 rfl rfl)
theorem dX4_see_20 : decode cX4_see 20 = .ok (.iconst (-1), 1) := dk_2 (dk_at dksX4_see_0 20 rfl rfl)
theorem dX4_see_21 : decode cX4_see 21 = .ok (.ireturn, 1) := dk_172 (dk_at dksX4_see_0 21 rfl rfl)
theorem dX4_see_22 : decode cX4_see 22 = .ok (.aload_n 0, 1) := dk_42 (dk_at dksX4_see_0 22 rfl rfl)
theorem dX4_see_23 : decode cX4_see 23 = .ok (.getfield 7, 3) := dk_180 0 7 (dk_at dksX4_see_1 0 rfl rfl)
theorem dX4_see_26 : decode cX4_see 26 = .ok (.bipush 39, 2) := dk_16 39 (dk_at dksX4_see_1 3 rfl rfl)
theorem dX4_see_28 : decode cX4_see 28 = .ok (.iaload, 1) := dk_46 (dk_at dksX4_see_1 5 rfl rfl)
theorem dX4_see_29 : decode cX4_see 29 = .ok (.bipush 6, 2) := dk_16 6 (dk_at dksX4_see_1 6 rfl rfl)
theorem dX4_see_31 : decode cX4_see 31 = .ok (.if_icmp .ne 6, 3) := dk_160 0 6 (dk_at dksX4_see_1 8 rfl rfl)
theorem dX4_see_34 : decode cX4_see 34 = .ok (.bipush (-3), 2) := dk_16 253 (dk_at dksX4_see_1 11 rfl rfl)
theorem dX4_see_36 : decode cX4_see 36 = .ok (.ireturn, 1) := dk_172 (dk_at dksX4_see_1 13 rfl rfl)
theorem dX4_see_37 : decode cX4_see 37 = .ok (.bipush 40, 2) := dk_16 40 (dk_at dksX4_see_1 14 rfl rfl)
theorem dX4_see_39 : decode cX4_see 39 = .ok (.iconst 3, 1) := dk_6 (dk_at dksX4_see_1 16 rfl rfl)
theorem dX4_see_40 : decode cX4_see 40 = .ok (.aload_n 0, 1) := dk_42 (dk_at dksX4_see_1 17 rfl rfl)
theorem dX4_see_41 : decode cX4_see 41 = .ok (.getfield 7, 3) := dk_180 0 7 (dk_at dksX4_see_1 18 rfl rfl)
theorem dX4_see_44 : decode cX4_see 44 = .ok (.bipush 39, 2) := dk_16 39 (dk_at dksX4_see_1 21 rfl rfl)
theorem dX4_see_46 : decode cX4_see 46 = .ok (.iaload, 1) := dk_46 (dk_at dksX4_see_1 23 rfl rfl)
theorem dX4_see_47 : decode cX4_see 47 = .ok (.imul, 1) := dk_104 (dk_at dksX4_see_2 0 rfl rfl)
theorem dX4_see_48 : decode cX4_see 48 = .ok (.iadd, 1) := dk_96 (dk_at dksX4_see_2 1 rfl rfl)
theorem dX4_see_49 : decode cX4_see 49 = .ok (.istore 4, 2) := dk_54 4 (dk_at dksX4_see_2 2 rfl rfl)
theorem dX4_see_51 : decode cX4_see 51 = .ok (.aload_n 0, 1) := dk_42 (dk_at dksX4_see_2 4 rfl rfl)
theorem dX4_see_52 : decode cX4_see 52 = .ok (.getfield 7, 3) := dk_180 0 7 (dk_at dksX4_see_2 5 rfl rfl)
theorem dX4_see_55 : decode cX4_see 55 = .ok (.iload 4, 2) := dk_21 4 (dk_at dksX4_see_2 8 rfl rfl)
theorem dX4_see_57 : decode cX4_see 57 = .ok (.iload_n 1, 1) := dk_27 (dk_at dksX4_see_2 10 rfl rfl)
theorem dX4_see_58 : decode cX4_see 58 = .ok (.iastore, 1) := dk_79 (dk_at dksX4_see_2 11 rfl rfl)
theorem dX4_see_59 : decode cX4_see 59 = .ok (.aload_n 0, 1) := dk_42 (dk_at dksX4_see_2 12 rfl rfl)
theorem dX4_see_60 : decode cX4_see 60 = .ok (.getfield 7, 3) := dk_180 0 7 (dk_at dksX4_see_2 13 rfl rfl)
theorem dX4_see_63 : decode cX4_see 63 = .ok (.iload 4, 2) := dk_21 4 (dk_at dksX4_see_2 16 rfl rfl)
theorem dX4_see_65 : decode cX4_see 65 = .ok (.iconst 1, 1) := dk_4 (dk_at dksX4_see_2 18 rfl rfl)
theorem dX4_see_66 : decode cX4_see 66 = .ok (.iadd, 1) := dk_96 (dk_at dksX4_see_2 19 rfl rfl)
theorem dX4_see_67 : decode cX4_see 67 = .ok (.iload_n 2, 1) := dk_28 (dk_at dksX4_see_2 20 rfl rfl)
theorem dX4_see_68 : decode cX4_see 68 = .ok (.iastore, 1) := dk_79 (dk_at dksX4_see_2 21 rfl rfl)
theorem dX4_see_69 : decode cX4_see 69 = .ok (.aload_n 0, 1) := dk_42 (dk_at dksX4_see_2 22 rfl rfl)
theorem dX4_see_70 : decode cX4_see 70 = .ok (.getfield 7, 3) := dk_180 0 7 (dk_at dksX4_see_3 0 rfl rfl)
theorem dX4_see_73 : decode cX4_see 73 = .ok (.iload 4, 2) := dk_21 4 (dk_at dksX4_see_3 3 rfl rfl)
theorem dX4_see_75 : decode cX4_see 75 = .ok (.iconst 2, 1) := dk_5 (dk_at dksX4_see_3 5 rfl rfl)
theorem dX4_see_76 : decode cX4_see 76 = .ok (.iadd, 1) := dk_96 (dk_at dksX4_see_3 6 rfl rfl)
theorem dX4_see_77 : decode cX4_see 77 = .ok (.iload_n 3, 1) := dk_29 (dk_at dksX4_see_3 7 rfl rfl)
theorem dX4_see_78 : decode cX4_see 78 = .ok (.invokestatic 169, 3) := dk_184 0 169 (dk_at dksX4_see_3 8 rfl rfl)
theorem dX4_see_81 : decode cX4_see 81 = .ok (.iastore, 1) := dk_79 (dk_at dksX4_see_3 11 rfl rfl)
theorem dX4_see_82 : decode cX4_see 82 = .ok (.aload_n 0, 1) := dk_42 (dk_at dksX4_see_3 12 rfl rfl)
theorem dX4_see_83 : decode cX4_see 83 = .ok (.getfield 7, 3) := dk_180 0 7 (dk_at dksX4_see_3 13 rfl rfl)
theorem dX4_see_86 : decode cX4_see 86 = .ok (.bipush 39, 2) := dk_16 39 (dk_at dksX4_see_3 16 rfl rfl)
theorem dX4_see_88 : decode cX4_see 88 = .ok (.dup2, 1) := dk_92 (dk_at dksX4_see_3 18 rfl rfl)
theorem dX4_see_89 : decode cX4_see 89 = .ok (.iaload, 1) := dk_46 (dk_at dksX4_see_3 19 rfl rfl)
theorem dX4_see_90 : decode cX4_see 90 = .ok (.iconst 1, 1) := dk_4 (dk_at dksX4_see_3 20 rfl rfl)
theorem dX4_see_91 : decode cX4_see 91 = .ok (.iadd, 1) := dk_96 (dk_at dksX4_see_3 21 rfl rfl)
theorem dX4_see_92 : decode cX4_see 92 = .ok (.iastore, 1) := dk_79 (dk_at dksX4_see_3 22 rfl rfl)
theorem dX4_see_93 : decode cX4_see 93 = .ok (.aload_n 0, 1) := dk_42 (dk_at dksX4_see_3 23 rfl rfl)
theorem dX4_see_94 : decode cX4_see 94 = .ok (.getfield 7, 3) := dk_180 0 7 (dk_at dksX4_see_4 0 rfl rfl)
theorem dX4_see_97 : decode cX4_see 97 = .ok (.bipush 39, 2) := dk_16 39 (dk_at dksX4_see_4 3 rfl rfl)
theorem dX4_see_99 : decode cX4_see 99 = .ok (.iaload, 1) := dk_46 (dk_at dksX4_see_4 5 rfl rfl)
theorem dX4_see_100 : decode cX4_see 100 = .ok (.ireturn, 1) := dk_172 (dk_at dksX4_see_4 6 rfl rfl)
abbrev cX4_forget : ByteArray := prog_12_method_76_code
def yX4_forget : MethodName := ⟨RX4, "forget", "(I)I"⟩
def dkwX4_forget_1 : List UInt8 := [167, 0, 4, 2, 172]
abbrev dktX4_forget_1 : List UInt8 := dkwX4_forget_1 ++ []
def dkwX4_forget_0 : List UInt8 := [27, 133, 9, 42, 180, 0, 7, 16, 39, 46, 133, 184, 0, 76, 153, 0, 13, 42, 16, 39, 27, 182, 0, 225]
abbrev dktX4_forget_0 : List UInt8 := dkwX4_forget_0 ++ dktX4_forget_1
theorem dksX4_forget_0 : cX4_forget.data.toList.drop 0 = dktX4_forget_0 := by decide +kernel
theorem dksX4_forget_1 : cX4_forget.data.toList.drop 24 = dktX4_forget_1 := dk_seg dksX4_forget_0 24 rfl rfl
theorem dX4_forget_0 : decode cX4_forget 0 = .ok (.iload_n 1, 1) := dk_27 (dk_at dksX4_forget_0 0 rfl rfl)
theorem dX4_forget_1 : decode cX4_forget 1 = .ok (.i2l, 1) := dk_133 (dk_at dksX4_forget_0 1 rfl rfl)
theorem dX4_forget_2 : decode cX4_forget 2 = .ok (.lconst 0, 1) := dk_9 (dk_at dksX4_forget_0 2 rfl rfl)
theorem dX4_forget_3 : decode cX4_forget 3 = .ok (.aload_n 0, 1) := dk_42 (dk_at dksX4_forget_0 3 rfl rfl)
theorem dX4_forget_4 : decode cX4_forget 4 = .ok (.getfield 7, 3) := dk_180 0 7 (dk_at dksX4_forget_0 4 rfl rfl)
theorem dX4_forget_7 : decode cX4_forget 7 = .ok (.bipush 39, 2) := dk_16 39 (dk_at dksX4_forget_0 7 rfl rfl)
theorem dX4_forget_9 : decode cX4_forget 9 = .ok (.iaload, 1) := dk_46 (dk_at dksX4_forget_0 9 rfl rfl)
theorem dX4_forget_10 : decode cX4_forget 10 = .ok (.i2l, 1) := dk_133 (dk_at dksX4_forget_0 10 rfl rfl)
theorem dX4_forget_11 : decode cX4_forget 11 = .ok (.invokestatic 76, 3) := dk_184 0 76 (dk_at dksX4_forget_0 11 rfl rfl)
theorem dX4_forget_14 : decode cX4_forget 14 = .ok (.ifCond .eq 13, 3) := dk_153 0 13 (dk_at dksX4_forget_0 14 rfl rfl)
theorem dX4_forget_17 : decode cX4_forget 17 = .ok (.aload_n 0, 1) := dk_42 (dk_at dksX4_forget_0 17 rfl rfl)
theorem dX4_forget_18 : decode cX4_forget 18 = .ok (.bipush 39, 2) := dk_16 39 (dk_at dksX4_forget_0 18 rfl rfl)
theorem dX4_forget_20 : decode cX4_forget 20 = .ok (.iload_n 1, 1) := dk_27 (dk_at dksX4_forget_0 20 rfl rfl)
theorem dX4_forget_21 : decode cX4_forget 21 = .ok (.invokevirtual 225, 3) := dk_182 0 225 (dk_at dksX4_forget_0 21 rfl rfl)
theorem dX4_forget_24 : decode cX4_forget 24 = .ok (.goto 4, 3) := dk_167 0 4 (dk_at dksX4_forget_1 0 rfl rfl)
theorem dX4_forget_27 : decode cX4_forget 27 = .ok (.iconst (-1), 1) := dk_2 (dk_at dksX4_forget_1 3 rfl rfl)
theorem dX4_forget_28 : decode cX4_forget 28 = .ok (.ireturn, 1) := dk_172 (dk_at dksX4_forget_1 4 rfl rfl)
abbrev cX4_kinds : ByteArray := prog_12_method_79_code
def yX4_kinds : MethodName := ⟨RX4, "kinds", "(I)I"⟩
def dkwX4_kinds_1 : List UInt8 := [2, 172]
abbrev dktX4_kinds_1 : List UInt8 := dkwX4_kinds_1 ++ []
def dkwX4_kinds_0 : List UInt8 := [42, 27, 182, 0, 217, 153, 0, 19, 42, 16, 12, 6, 27, 104, 96, 3, 96, 7, 182, 1, 44, 167, 0, 4]
abbrev dktX4_kinds_0 : List UInt8 := dkwX4_kinds_0 ++ dktX4_kinds_1
theorem dksX4_kinds_0 : cX4_kinds.data.toList.drop 0 = dktX4_kinds_0 := by decide +kernel
theorem dksX4_kinds_1 : cX4_kinds.data.toList.drop 24 = dktX4_kinds_1 := dk_seg dksX4_kinds_0 24 rfl rfl
theorem dX4_kinds_0 : decode cX4_kinds 0 = .ok (.aload_n 0, 1) := dk_42 (dk_at dksX4_kinds_0 0 rfl rfl)
theorem dX4_kinds_1 : decode cX4_kinds 1 = .ok (.iload_n 1, 1) := dk_27 (dk_at dksX4_kinds_0 1 rfl rfl)
theorem dX4_kinds_2 : decode cX4_kinds 2 = .ok (.invokevirtual 217, 3) := dk_182 0 217 (dk_at dksX4_kinds_0 2 rfl rfl)
theorem dX4_kinds_5 : decode cX4_kinds 5 = .ok (.ifCond .eq 19, 3) := dk_153 0 19 (dk_at dksX4_kinds_0 5 rfl rfl)
theorem dX4_kinds_8 : decode cX4_kinds 8 = .ok (.aload_n 0, 1) := dk_42 (dk_at dksX4_kinds_0 8 rfl rfl)
theorem dX4_kinds_9 : decode cX4_kinds 9 = .ok (.bipush 12, 2) := dk_16 12 (dk_at dksX4_kinds_0 9 rfl rfl)
theorem dX4_kinds_11 : decode cX4_kinds 11 = .ok (.iconst 3, 1) := dk_6 (dk_at dksX4_kinds_0 11 rfl rfl)
theorem dX4_kinds_12 : decode cX4_kinds 12 = .ok (.iload_n 1, 1) := dk_27 (dk_at dksX4_kinds_0 12 rfl rfl)
theorem dX4_kinds_13 : decode cX4_kinds 13 = .ok (.imul, 1) := dk_104 (dk_at dksX4_kinds_0 13 rfl rfl)
theorem dX4_kinds_14 : decode cX4_kinds 14 = .ok (.iadd, 1) := dk_96 (dk_at dksX4_kinds_0 14 rfl rfl)
theorem dX4_kinds_15 : decode cX4_kinds 15 = .ok (.iconst 0, 1) := dk_3 (dk_at dksX4_kinds_0 15 rfl rfl)
theorem dX4_kinds_16 : decode cX4_kinds 16 = .ok (.iadd, 1) := dk_96 (dk_at dksX4_kinds_0 16 rfl rfl)
theorem dX4_kinds_17 : decode cX4_kinds 17 = .ok (.iconst 4, 1) := dk_7 (dk_at dksX4_kinds_0 17 rfl rfl)
theorem dX4_kinds_18 : decode cX4_kinds 18 = .ok (.invokevirtual 300, 3) := dk_182 1 44 (dk_at dksX4_kinds_0 18 rfl rfl)
theorem dX4_kinds_21 : decode cX4_kinds 21 = .ok (.goto 4, 3) := dk_167 0 4 (dk_at dksX4_kinds_0 21 rfl rfl)
theorem dX4_kinds_24 : decode cX4_kinds 24 = .ok (.iconst (-1), 1) := dk_2 (dk_at dksX4_kinds_1 0 rfl rfl)
theorem dX4_kinds_25 : decode cX4_kinds 25 = .ok (.ireturn, 1) := dk_172 (dk_at dksX4_kinds_1 1 rfl rfl)
abbrev cX4_which : ByteArray := prog_12_method_78_code
def yX4_which : MethodName := ⟨RX4, "which", "(II)I"⟩
def dkwX4_which_1 : List UInt8 := [120, 128, 62, 132, 4, 1, 167, 255, 231, 29, 172]
abbrev dktX4_which_1 : List UInt8 := dkwX4_which_1 ++ []
def dkwX4_which_0 : List UInt8 := [3, 62, 3, 54, 4, 21, 4, 28, 162, 0, 25, 29, 42, 27, 21, 4, 182, 1, 41, 184, 0, 169, 21, 4]
abbrev dktX4_which_0 : List UInt8 := dkwX4_which_0 ++ dktX4_which_1
theorem dksX4_which_0 : cX4_which.data.toList.drop 0 = dktX4_which_0 := by decide +kernel
theorem dksX4_which_1 : cX4_which.data.toList.drop 24 = dktX4_which_1 := dk_seg dksX4_which_0 24 rfl rfl
theorem dX4_which_0 : decode cX4_which 0 = .ok (.iconst 0, 1) := dk_3 (dk_at dksX4_which_0 0 rfl rfl)
theorem dX4_which_1 : decode cX4_which 1 = .ok (.istore_n 3, 1) := dk_62 (dk_at dksX4_which_0 1 rfl rfl)
theorem dX4_which_2 : decode cX4_which 2 = .ok (.iconst 0, 1) := dk_3 (dk_at dksX4_which_0 2 rfl rfl)
theorem dX4_which_3 : decode cX4_which 3 = .ok (.istore 4, 2) := dk_54 4 (dk_at dksX4_which_0 3 rfl rfl)
theorem dX4_which_5 : decode cX4_which 5 = .ok (.iload 4, 2) := dk_21 4 (dk_at dksX4_which_0 5 rfl rfl)
theorem dX4_which_7 : decode cX4_which 7 = .ok (.iload_n 2, 1) := dk_28 (dk_at dksX4_which_0 7 rfl rfl)
theorem dX4_which_8 : decode cX4_which 8 = .ok (.if_icmp .ge 25, 3) := dk_162 0 25 (dk_at dksX4_which_0 8 rfl rfl)
theorem dX4_which_11 : decode cX4_which 11 = .ok (.iload_n 3, 1) := dk_29 (dk_at dksX4_which_0 11 rfl rfl)
theorem dX4_which_12 : decode cX4_which 12 = .ok (.aload_n 0, 1) := dk_42 (dk_at dksX4_which_0 12 rfl rfl)
theorem dX4_which_13 : decode cX4_which 13 = .ok (.iload_n 1, 1) := dk_27 (dk_at dksX4_which_0 13 rfl rfl)
theorem dX4_which_14 : decode cX4_which 14 = .ok (.iload 4, 2) := dk_21 4 (dk_at dksX4_which_0 14 rfl rfl)
theorem dX4_which_16 : decode cX4_which 16 = .ok (.invokevirtual 297, 3) := dk_182 1 41 (dk_at dksX4_which_0 16 rfl rfl)
theorem dX4_which_19 : decode cX4_which 19 = .ok (.invokestatic 169, 3) := dk_184 0 169 (dk_at dksX4_which_0 19 rfl rfl)
theorem dX4_which_22 : decode cX4_which 22 = .ok (.iload 4, 2) := dk_21 4 (dk_at dksX4_which_0 22 rfl rfl)
theorem dX4_which_24 : decode cX4_which 24 = .ok (.ishl, 1) := dk_120 (dk_at dksX4_which_1 0 rfl rfl)
theorem dX4_which_25 : decode cX4_which 25 = .ok (.ior, 1) := dk_128 (dk_at dksX4_which_1 1 rfl rfl)
theorem dX4_which_26 : decode cX4_which 26 = .ok (.istore_n 3, 1) := dk_62 (dk_at dksX4_which_1 2 rfl rfl)
theorem dX4_which_27 : decode cX4_which 27 = .ok (.iinc 4 1, 3) := dk_132 4 1 (dk_at dksX4_which_1 3 rfl rfl)
theorem dX4_which_30 : decode cX4_which 30 = .ok (.goto (-25), 3) := dk_167 255 231 (dk_at dksX4_which_1 6 rfl rfl)
theorem dX4_which_33 : decode cX4_which 33 = .ok (.iload_n 3, 1) := dk_29 (dk_at dksX4_which_1 9 rfl rfl)
theorem dX4_which_34 : decode cX4_which 34 = .ok (.ireturn, 1) := dk_172 (dk_at dksX4_which_1 10 rfl rfl)
abbrev cX4_isSoWith : ByteArray := prog_12_method_77_code
def yX4_isSoWith : MethodName := ⟨RX4, "isSoWith", "(II)Z"⟩
def dkwX4_isSoWith_6 : List UInt8 := [167, 255, 186, 29, 172]
abbrev dktX4_isSoWith_6 : List UInt8 := dkwX4_isSoWith_6 ++ []
def dkwX4_isSoWith_5 : List UInt8 := [46, 96, 46, 42, 180, 0, 7, 21, 5, 5, 96, 46, 160, 0, 7, 4, 167, 0, 4, 3, 62, 132, 4, 1]
abbrev dktX4_isSoWith_5 : List UInt8 := dkwX4_isSoWith_5 ++ dktX4_isSoWith_6
def dkwX4_isSoWith_4 : List UInt8 := [153, 0, 43, 42, 180, 0, 26, 7, 42, 180, 0, 7, 21, 5, 46, 104, 42, 180, 0, 7, 21, 5, 4, 96]
abbrev dktX4_isSoWith_4 : List UInt8 := dkwX4_isSoWith_4 ++ dktX4_isSoWith_5
def dkwX4_isSoWith_3 : List UInt8 := [54, 4, 21, 4, 42, 180, 0, 7, 16, 39, 46, 162, 0, 64, 16, 40, 6, 21, 4, 104, 96, 54, 5, 29]
abbrev dktX4_isSoWith_3 : List UInt8 := dkwX4_isSoWith_3 ++ dktX4_isSoWith_4
def dkwX4_isSoWith_2 : List UInt8 := [184, 0, 169, 79, 132, 4, 1, 167, 255, 224, 42, 3, 182, 0, 196, 132, 3, 1, 167, 255, 204, 4, 62, 3]
abbrev dktX4_isSoWith_2 : List UInt8 := dkwX4_isSoWith_2 ++ dktX4_isSoWith_3
def dkwX4_isSoWith_1 : List UInt8 := [42, 180, 0, 71, 162, 0, 29, 42, 180, 0, 26, 7, 29, 104, 21, 4, 96, 42, 21, 4, 182, 0, 189]
abbrev dktX4_isSoWith_1 : List UInt8 := dkwX4_isSoWith_1 ++ dktX4_isSoWith_2
def dkwX4_isSoWith_0 : List UInt8 := [42, 182, 0, 200, 42, 180, 0, 13, 27, 28, 79, 3, 62, 29, 16, 20, 163, 0, 52, 3, 54, 4, 21, 4]
abbrev dktX4_isSoWith_0 : List UInt8 := dkwX4_isSoWith_0 ++ dktX4_isSoWith_1
theorem dksX4_isSoWith_0 : cX4_isSoWith.data.toList.drop 0 = dktX4_isSoWith_0 := by decide +kernel
theorem dksX4_isSoWith_1 : cX4_isSoWith.data.toList.drop 24 = dktX4_isSoWith_1 := dk_seg dksX4_isSoWith_0 24 rfl rfl
theorem dksX4_isSoWith_2 : cX4_isSoWith.data.toList.drop 47 = dktX4_isSoWith_2 := dk_seg dksX4_isSoWith_1 23 rfl rfl
theorem dksX4_isSoWith_3 : cX4_isSoWith.data.toList.drop 71 = dktX4_isSoWith_3 := dk_seg dksX4_isSoWith_2 24 rfl rfl
theorem dksX4_isSoWith_4 : cX4_isSoWith.data.toList.drop 95 = dktX4_isSoWith_4 := dk_seg dksX4_isSoWith_3 24 rfl rfl
theorem dksX4_isSoWith_5 : cX4_isSoWith.data.toList.drop 119 = dktX4_isSoWith_5 := dk_seg dksX4_isSoWith_4 24 rfl rfl
theorem dksX4_isSoWith_6 : cX4_isSoWith.data.toList.drop 143 = dktX4_isSoWith_6 := dk_seg dksX4_isSoWith_5 24 rfl rfl
theorem dX4_isSoWith_0 : decode cX4_isSoWith 0 = .ok (.aload_n 0, 1) := dk_42 (dk_at dksX4_isSoWith_0 0 rfl rfl)
theorem dX4_isSoWith_1 : decode cX4_isSoWith 1 = .ok (.invokevirtual 200, 3) := dk_182 0 200 (dk_at dksX4_isSoWith_0 1 rfl rfl)
theorem dX4_isSoWith_4 : decode cX4_isSoWith 4 = .ok (.aload_n 0, 1) := dk_42 (dk_at dksX4_isSoWith_0 4 rfl rfl)
theorem dX4_isSoWith_5 : decode cX4_isSoWith 5 = .ok (.getfield 13, 3) := dk_180 0 13 (dk_at dksX4_isSoWith_0 5 rfl rfl)
theorem dX4_isSoWith_8 : decode cX4_isSoWith 8 = .ok (.iload_n 1, 1) := dk_27 (dk_at dksX4_isSoWith_0 8 rfl rfl)
theorem dX4_isSoWith_9 : decode cX4_isSoWith 9 = .ok (.iload_n 2, 1) := dk_28 (dk_at dksX4_isSoWith_0 9 rfl rfl)
theorem dX4_isSoWith_10 : decode cX4_isSoWith 10 = .ok (.iastore, 1) := dk_79 (dk_at dksX4_isSoWith_0 10 rfl rfl)
theorem dX4_isSoWith_11 : decode cX4_isSoWith 11 = .ok (.iconst 0, 1) := dk_3 (dk_at dksX4_isSoWith_0 11 rfl rfl)
theorem dX4_isSoWith_12 : decode cX4_isSoWith 12 = .ok (.istore_n 3, 1) := dk_62 (dk_at dksX4_isSoWith_0 12 rfl rfl)
theorem dX4_isSoWith_13 : decode cX4_isSoWith 13 = .ok (.iload_n 3, 1) := dk_29 (dk_at dksX4_isSoWith_0 13 rfl rfl)
theorem dX4_isSoWith_14 : decode cX4_isSoWith 14 = .ok (.bipush 20, 2) := dk_16 20 (dk_at dksX4_isSoWith_0 14 rfl rfl)
theorem dX4_isSoWith_16 : decode cX4_isSoWith 16 = .ok (.if_icmp .gt 52, 3) := dk_163 0 52 (dk_at dksX4_isSoWith_0 16 rfl rfl)
theorem dX4_isSoWith_19 : decode cX4_isSoWith 19 = .ok (.iconst 0, 1) := dk_3 (dk_at dksX4_isSoWith_0 19 rfl rfl)
theorem dX4_isSoWith_20 : decode cX4_isSoWith 20 = .ok (.istore 4, 2) := dk_54 4 (dk_at dksX4_isSoWith_0 20 rfl rfl)
theorem dX4_isSoWith_22 : decode cX4_isSoWith 22 = .ok (.iload 4, 2) := dk_21 4 (dk_at dksX4_isSoWith_0 22 rfl rfl)
theorem dX4_isSoWith_24 : decode cX4_isSoWith 24 = .ok (.aload_n 0, 1) := dk_42 (dk_at dksX4_isSoWith_1 0 rfl rfl)
theorem dX4_isSoWith_25 : decode cX4_isSoWith 25 = .ok (.getfield 71, 3) := dk_180 0 71 (dk_at dksX4_isSoWith_1 1 rfl rfl)
theorem dX4_isSoWith_28 : decode cX4_isSoWith 28 = .ok (.if_icmp .ge 29, 3) := dk_162 0 29 (dk_at dksX4_isSoWith_1 4 rfl rfl)
theorem dX4_isSoWith_31 : decode cX4_isSoWith 31 = .ok (.aload_n 0, 1) := dk_42 (dk_at dksX4_isSoWith_1 7 rfl rfl)
theorem dX4_isSoWith_32 : decode cX4_isSoWith 32 = .ok (.getfield 26, 3) := dk_180 0 26 (dk_at dksX4_isSoWith_1 8 rfl rfl)
theorem dX4_isSoWith_35 : decode cX4_isSoWith 35 = .ok (.iconst 4, 1) := dk_7 (dk_at dksX4_isSoWith_1 11 rfl rfl)
theorem dX4_isSoWith_36 : decode cX4_isSoWith 36 = .ok (.iload_n 3, 1) := dk_29 (dk_at dksX4_isSoWith_1 12 rfl rfl)
theorem dX4_isSoWith_37 : decode cX4_isSoWith 37 = .ok (.imul, 1) := dk_104 (dk_at dksX4_isSoWith_1 13 rfl rfl)
theorem dX4_isSoWith_38 : decode cX4_isSoWith 38 = .ok (.iload 4, 2) := dk_21 4 (dk_at dksX4_isSoWith_1 14 rfl rfl)
theorem dX4_isSoWith_40 : decode cX4_isSoWith 40 = .ok (.iadd, 1) := dk_96 (dk_at dksX4_isSoWith_1 16 rfl rfl)
theorem dX4_isSoWith_41 : decode cX4_isSoWith 41 = .ok (.aload_n 0, 1) := dk_42 (dk_at dksX4_isSoWith_1 17 rfl rfl)
theorem dX4_isSoWith_42 : decode cX4_isSoWith 42 = .ok (.iload 4, 2) := dk_21 4 (dk_at dksX4_isSoWith_1 18 rfl rfl)
theorem dX4_isSoWith_44 : decode cX4_isSoWith 44 = .ok (.invokevirtual 189, 3) := dk_182 0 189 (dk_at dksX4_isSoWith_1 20 rfl rfl)
theorem dX4_isSoWith_47 : decode cX4_isSoWith 47 = .ok (.invokestatic 169, 3) := dk_184 0 169 (dk_at dksX4_isSoWith_2 0 rfl rfl)
theorem dX4_isSoWith_50 : decode cX4_isSoWith 50 = .ok (.iastore, 1) := dk_79 (dk_at dksX4_isSoWith_2 3 rfl rfl)
theorem dX4_isSoWith_51 : decode cX4_isSoWith 51 = .ok (.iinc 4 1, 3) := dk_132 4 1 (dk_at dksX4_isSoWith_2 4 rfl rfl)
theorem dX4_isSoWith_54 : decode cX4_isSoWith 54 = .ok (.goto (-32), 3) := dk_167 255 224 (dk_at dksX4_isSoWith_2 7 rfl rfl)
theorem dX4_isSoWith_57 : decode cX4_isSoWith 57 = .ok (.aload_n 0, 1) := dk_42 (dk_at dksX4_isSoWith_2 10 rfl rfl)
theorem dX4_isSoWith_58 : decode cX4_isSoWith 58 = .ok (.iconst 0, 1) := dk_3 (dk_at dksX4_isSoWith_2 11 rfl rfl)
theorem dX4_isSoWith_59 : decode cX4_isSoWith 59 = .ok (.invokevirtual 196, 3) := dk_182 0 196 (dk_at dksX4_isSoWith_2 12 rfl rfl)
theorem dX4_isSoWith_62 : decode cX4_isSoWith 62 = .ok (.iinc 3 1, 3) := dk_132 3 1 (dk_at dksX4_isSoWith_2 15 rfl rfl)
theorem dX4_isSoWith_65 : decode cX4_isSoWith 65 = .ok (.goto (-52), 3) := dk_167 255 204 (dk_at dksX4_isSoWith_2 18 rfl rfl)
theorem dX4_isSoWith_68 : decode cX4_isSoWith 68 = .ok (.iconst 1, 1) := dk_4 (dk_at dksX4_isSoWith_2 21 rfl rfl)
theorem dX4_isSoWith_69 : decode cX4_isSoWith 69 = .ok (.istore_n 3, 1) := dk_62 (dk_at dksX4_isSoWith_2 22 rfl rfl)
theorem dX4_isSoWith_70 : decode cX4_isSoWith 70 = .ok (.iconst 0, 1) := dk_3 (dk_at dksX4_isSoWith_2 23 rfl rfl)
theorem dX4_isSoWith_71 : decode cX4_isSoWith 71 = .ok (.istore 4, 2) := dk_54 4 (dk_at dksX4_isSoWith_3 0 rfl rfl)
theorem dX4_isSoWith_73 : decode cX4_isSoWith 73 = .ok (.iload 4, 2) := dk_21 4 (dk_at dksX4_isSoWith_3 2 rfl rfl)
theorem dX4_isSoWith_75 : decode cX4_isSoWith 75 = .ok (.aload_n 0, 1) := dk_42 (dk_at dksX4_isSoWith_3 4 rfl rfl)
theorem dX4_isSoWith_76 : decode cX4_isSoWith 76 = .ok (.getfield 7, 3) := dk_180 0 7 (dk_at dksX4_isSoWith_3 5 rfl rfl)
theorem dX4_isSoWith_79 : decode cX4_isSoWith 79 = .ok (.bipush 39, 2) := dk_16 39 (dk_at dksX4_isSoWith_3 8 rfl rfl)
theorem dX4_isSoWith_81 : decode cX4_isSoWith 81 = .ok (.iaload, 1) := dk_46 (dk_at dksX4_isSoWith_3 10 rfl rfl)
theorem dX4_isSoWith_82 : decode cX4_isSoWith 82 = .ok (.if_icmp .ge 64, 3) := dk_162 0 64 (dk_at dksX4_isSoWith_3 11 rfl rfl)
theorem dX4_isSoWith_85 : decode cX4_isSoWith 85 = .ok (.bipush 40, 2) := dk_16 40 (dk_at dksX4_isSoWith_3 14 rfl rfl)
theorem dX4_isSoWith_87 : decode cX4_isSoWith 87 = .ok (.iconst 3, 1) := dk_6 (dk_at dksX4_isSoWith_3 16 rfl rfl)
theorem dX4_isSoWith_88 : decode cX4_isSoWith 88 = .ok (.iload 4, 2) := dk_21 4 (dk_at dksX4_isSoWith_3 17 rfl rfl)
theorem dX4_isSoWith_90 : decode cX4_isSoWith 90 = .ok (.imul, 1) := dk_104 (dk_at dksX4_isSoWith_3 19 rfl rfl)
theorem dX4_isSoWith_91 : decode cX4_isSoWith 91 = .ok (.iadd, 1) := dk_96 (dk_at dksX4_isSoWith_3 20 rfl rfl)
theorem dX4_isSoWith_92 : decode cX4_isSoWith 92 = .ok (.istore 5, 2) := dk_54 5 (dk_at dksX4_isSoWith_3 21 rfl rfl)
theorem dX4_isSoWith_94 : decode cX4_isSoWith 94 = .ok (.iload_n 3, 1) := dk_29 (dk_at dksX4_isSoWith_3 23 rfl rfl)
theorem dX4_isSoWith_95 : decode cX4_isSoWith 95 = .ok (.ifCond .eq 43, 3) := dk_153 0 43 (dk_at dksX4_isSoWith_4 0 rfl rfl)
theorem dX4_isSoWith_98 : decode cX4_isSoWith 98 = .ok (.aload_n 0, 1) := dk_42 (dk_at dksX4_isSoWith_4 3 rfl rfl)
theorem dX4_isSoWith_99 : decode cX4_isSoWith 99 = .ok (.getfield 26, 3) := dk_180 0 26 (dk_at dksX4_isSoWith_4 4 rfl rfl)
theorem dX4_isSoWith_102 : decode cX4_isSoWith 102 = .ok (.iconst 4, 1) := dk_7 (dk_at dksX4_isSoWith_4 7 rfl rfl)
theorem dX4_isSoWith_103 : decode cX4_isSoWith 103 = .ok (.aload_n 0, 1) := dk_42 (dk_at dksX4_isSoWith_4 8 rfl rfl)
theorem dX4_isSoWith_104 : decode cX4_isSoWith 104 = .ok (.getfield 7, 3) := dk_180 0 7 (dk_at dksX4_isSoWith_4 9 rfl rfl)
theorem dX4_isSoWith_107 : decode cX4_isSoWith 107 = .ok (.iload 5, 2) := dk_21 5 (dk_at dksX4_isSoWith_4 12 rfl rfl)
theorem dX4_isSoWith_109 : decode cX4_isSoWith 109 = .ok (.iaload, 1) := dk_46 (dk_at dksX4_isSoWith_4 14 rfl rfl)
theorem dX4_isSoWith_110 : decode cX4_isSoWith 110 = .ok (.imul, 1) := dk_104 (dk_at dksX4_isSoWith_4 15 rfl rfl)
theorem dX4_isSoWith_111 : decode cX4_isSoWith 111 = .ok (.aload_n 0, 1) := dk_42 (dk_at dksX4_isSoWith_4 16 rfl rfl)
theorem dX4_isSoWith_112 : decode cX4_isSoWith 112 = .ok (.getfield 7, 3) := dk_180 0 7 (dk_at dksX4_isSoWith_4 17 rfl rfl)
theorem dX4_isSoWith_115 : decode cX4_isSoWith 115 = .ok (.iload 5, 2) := dk_21 5 (dk_at dksX4_isSoWith_4 20 rfl rfl)
theorem dX4_isSoWith_117 : decode cX4_isSoWith 117 = .ok (.iconst 1, 1) := dk_4 (dk_at dksX4_isSoWith_4 22 rfl rfl)
theorem dX4_isSoWith_118 : decode cX4_isSoWith 118 = .ok (.iadd, 1) := dk_96 (dk_at dksX4_isSoWith_4 23 rfl rfl)
theorem dX4_isSoWith_119 : decode cX4_isSoWith 119 = .ok (.iaload, 1) := dk_46 (dk_at dksX4_isSoWith_5 0 rfl rfl)
theorem dX4_isSoWith_120 : decode cX4_isSoWith 120 = .ok (.iadd, 1) := dk_96 (dk_at dksX4_isSoWith_5 1 rfl rfl)
theorem dX4_isSoWith_121 : decode cX4_isSoWith 121 = .ok (.iaload, 1) := dk_46 (dk_at dksX4_isSoWith_5 2 rfl rfl)
theorem dX4_isSoWith_122 : decode cX4_isSoWith 122 = .ok (.aload_n 0, 1) := dk_42 (dk_at dksX4_isSoWith_5 3 rfl rfl)
theorem dX4_isSoWith_123 : decode cX4_isSoWith 123 = .ok (.getfield 7, 3) := dk_180 0 7 (dk_at dksX4_isSoWith_5 4 rfl rfl)
theorem dX4_isSoWith_126 : decode cX4_isSoWith 126 = .ok (.iload 5, 2) := dk_21 5 (dk_at dksX4_isSoWith_5 7 rfl rfl)
theorem dX4_isSoWith_128 : decode cX4_isSoWith 128 = .ok (.iconst 2, 1) := dk_5 (dk_at dksX4_isSoWith_5 9 rfl rfl)
theorem dX4_isSoWith_129 : decode cX4_isSoWith 129 = .ok (.iadd, 1) := dk_96 (dk_at dksX4_isSoWith_5 10 rfl rfl)
theorem dX4_isSoWith_130 : decode cX4_isSoWith 130 = .ok (.iaload, 1) := dk_46 (dk_at dksX4_isSoWith_5 11 rfl rfl)
theorem dX4_isSoWith_131 : decode cX4_isSoWith 131 = .ok (.if_icmp .ne 7, 3) := dk_160 0 7 (dk_at dksX4_isSoWith_5 12 rfl rfl)
theorem dX4_isSoWith_134 : decode cX4_isSoWith 134 = .ok (.iconst 1, 1) := dk_4 (dk_at dksX4_isSoWith_5 15 rfl rfl)
theorem dX4_isSoWith_135 : decode cX4_isSoWith 135 = .ok (.goto 4, 3) := dk_167 0 4 (dk_at dksX4_isSoWith_5 16 rfl rfl)
theorem dX4_isSoWith_138 : decode cX4_isSoWith 138 = .ok (.iconst 0, 1) := dk_3 (dk_at dksX4_isSoWith_5 19 rfl rfl)
theorem dX4_isSoWith_139 : decode cX4_isSoWith 139 = .ok (.istore_n 3, 1) := dk_62 (dk_at dksX4_isSoWith_5 20 rfl rfl)
theorem dX4_isSoWith_140 : decode cX4_isSoWith 140 = .ok (.iinc 4 1, 3) := dk_132 4 1 (dk_at dksX4_isSoWith_5 21 rfl rfl)
theorem dX4_isSoWith_143 : decode cX4_isSoWith 143 = .ok (.goto (-70), 3) := dk_167 255 186 (dk_at dksX4_isSoWith_6 0 rfl rfl)
theorem dX4_isSoWith_146 : decode cX4_isSoWith 146 = .ok (.iload_n 3, 1) := dk_29 (dk_at dksX4_isSoWith_6 3 rfl rfl)
theorem dX4_isSoWith_147 : decode cX4_isSoWith 147 = .ok (.ireturn, 1) := dk_172 (dk_at dksX4_isSoWith_6 4 rfl rfl)
abbrev cX4_squares : ByteArray := prog_12_method_80_code
def yX4_squares : MethodName := ⟨RX4, "squares", "(I)I"⟩
def dkwX4_squares_1 : List UInt8 := [167, 0, 4, 2, 172]
abbrev dktX4_squares_1 : List UInt8 := dkwX4_squares_1 ++ []
def dkwX4_squares_0 : List UInt8 := [42, 27, 182, 0, 217, 153, 0, 20, 42, 16, 12, 6, 27, 104, 96, 4, 96, 16, 6, 182, 1, 44]
abbrev dktX4_squares_0 : List UInt8 := dkwX4_squares_0 ++ dktX4_squares_1
theorem dksX4_squares_0 : cX4_squares.data.toList.drop 0 = dktX4_squares_0 := by decide +kernel
theorem dksX4_squares_1 : cX4_squares.data.toList.drop 22 = dktX4_squares_1 := dk_seg dksX4_squares_0 22 rfl rfl
theorem dX4_squares_0 : decode cX4_squares 0 = .ok (.aload_n 0, 1) := dk_42 (dk_at dksX4_squares_0 0 rfl rfl)
theorem dX4_squares_1 : decode cX4_squares 1 = .ok (.iload_n 1, 1) := dk_27 (dk_at dksX4_squares_0 1 rfl rfl)
theorem dX4_squares_2 : decode cX4_squares 2 = .ok (.invokevirtual 217, 3) := dk_182 0 217 (dk_at dksX4_squares_0 2 rfl rfl)
theorem dX4_squares_5 : decode cX4_squares 5 = .ok (.ifCond .eq 20, 3) := dk_153 0 20 (dk_at dksX4_squares_0 5 rfl rfl)
theorem dX4_squares_8 : decode cX4_squares 8 = .ok (.aload_n 0, 1) := dk_42 (dk_at dksX4_squares_0 8 rfl rfl)
theorem dX4_squares_9 : decode cX4_squares 9 = .ok (.bipush 12, 2) := dk_16 12 (dk_at dksX4_squares_0 9 rfl rfl)
theorem dX4_squares_11 : decode cX4_squares 11 = .ok (.iconst 3, 1) := dk_6 (dk_at dksX4_squares_0 11 rfl rfl)
theorem dX4_squares_12 : decode cX4_squares 12 = .ok (.iload_n 1, 1) := dk_27 (dk_at dksX4_squares_0 12 rfl rfl)
theorem dX4_squares_13 : decode cX4_squares 13 = .ok (.imul, 1) := dk_104 (dk_at dksX4_squares_0 13 rfl rfl)
theorem dX4_squares_14 : decode cX4_squares 14 = .ok (.iadd, 1) := dk_96 (dk_at dksX4_squares_0 14 rfl rfl)
theorem dX4_squares_15 : decode cX4_squares 15 = .ok (.iconst 1, 1) := dk_4 (dk_at dksX4_squares_0 15 rfl rfl)
theorem dX4_squares_16 : decode cX4_squares 16 = .ok (.iadd, 1) := dk_96 (dk_at dksX4_squares_0 16 rfl rfl)
theorem dX4_squares_17 : decode cX4_squares 17 = .ok (.bipush 6, 2) := dk_16 6 (dk_at dksX4_squares_0 17 rfl rfl)
theorem dX4_squares_19 : decode cX4_squares 19 = .ok (.invokevirtual 300, 3) := dk_182 1 44 (dk_at dksX4_squares_0 19 rfl rfl)
theorem dX4_squares_22 : decode cX4_squares 22 = .ok (.goto 4, 3) := dk_167 0 4 (dk_at dksX4_squares_1 0 rfl rfl)
theorem dX4_squares_25 : decode cX4_squares 25 = .ok (.iconst (-1), 1) := dk_2 (dk_at dksX4_squares_1 3 rfl rfl)
theorem dX4_squares_26 : decode cX4_squares 26 = .ok (.ireturn, 1) := dk_172 (dk_at dksX4_squares_1 4 rfl rfl)
abbrev cX4_ask : ByteArray := prog_12_method_81_code
def yX4_ask : MethodName := ⟨RX4, "ask", "(II)I"⟩
def dkwX4_ask_9 : List UInt8 := [42, 28, 182, 1, 11, 172]
abbrev dktX4_ask_9 : List UInt8 := dkwX4_ask_9 ++ []
def dkwX4_ask_8 : List UInt8 := [164, 0, 8, 21, 5, 167, 0, 10, 42, 180, 0, 29, 21, 4, 46, 182, 1, 5, 132, 4, 1, 167, 255, 184]
abbrev dktX4_ask_8 : List UInt8 := dkwX4_ask_8 ++ dktX4_ask_9
def dkwX4_ask_7 : List UInt8 := [54, 5, 42, 16, 10, 21, 4, 7, 108, 104, 21, 4, 7, 112, 96, 21, 5, 42, 180, 0, 29, 21, 4, 46]
abbrev dktX4_ask_7 : List UInt8 := dkwX4_ask_7 ++ dktX4_ask_8
def dkwX4_ask_6 : List UInt8 := [162, 0, 71, 21, 4, 7, 112, 42, 180, 0, 71, 162, 0, 54, 29, 42, 180, 0, 29, 21, 4, 46, 100]
abbrev dktX4_ask_6 : List UInt8 := dkwX4_ask_6 ++ dktX4_ask_7
def dkwX4_ask_5 : List UInt8 := [167, 255, 214, 132, 3, 1, 132, 4, 1, 167, 255, 178, 42, 29, 182, 1, 1, 3, 54, 4, 21, 4, 16, 84]
abbrev dktX4_ask_5 : List UInt8 := dkwX4_ask_5 ++ dktX4_ask_6
def dkwX4_ask_4 : List UInt8 := [180, 0, 71, 162, 0, 13, 42, 180, 0, 26, 21, 5, 46, 167, 0, 4, 3, 96, 79, 132, 5, 1]
abbrev dktX4_ask_4 : List UInt8 := dkwX4_ask_4 ++ dktX4_ask_5
def dkwX4_ask_3 : List UInt8 := [54, 5, 21, 5, 16, 84, 162, 0, 41, 42, 180, 0, 29, 21, 5, 92, 46, 21, 5, 7, 112, 42]
abbrev dktX4_ask_3 : List UInt8 := dkwX4_ask_3 ++ dktX4_ask_4
def dkwX4_ask_2 : List UInt8 := [16, 6, 162, 0, 77, 42, 16, 12, 6, 27, 104, 96, 4, 96, 21, 4, 182, 1, 41, 153, 0, 54, 3]
abbrev dktX4_ask_2 : List UInt8 := dkwX4_ask_2 ++ dktX4_ask_3
def dkwX4_ask_1 : List UInt8 := [16, 84, 162, 0, 17, 42, 180, 0, 29, 21, 4, 3, 79, 132, 4, 1, 167, 255, 238, 3, 54, 4, 21, 4]
abbrev dktX4_ask_1 : List UInt8 := dkwX4_ask_1 ++ dktX4_ask_2
def dkwX4_ask_0 : List UInt8 := [42, 27, 182, 0, 217, 153, 0, 10, 28, 184, 0, 254, 154, 0, 5, 2, 172, 3, 62, 3, 54, 4, 21, 4]
abbrev dktX4_ask_0 : List UInt8 := dkwX4_ask_0 ++ dktX4_ask_1
theorem dksX4_ask_0 : cX4_ask.data.toList.drop 0 = dktX4_ask_0 := by decide +kernel
theorem dksX4_ask_1 : cX4_ask.data.toList.drop 24 = dktX4_ask_1 := dk_seg dksX4_ask_0 24 rfl rfl
theorem dksX4_ask_2 : cX4_ask.data.toList.drop 48 = dktX4_ask_2 := dk_seg dksX4_ask_1 24 rfl rfl
theorem dksX4_ask_3 : cX4_ask.data.toList.drop 71 = dktX4_ask_3 := dk_seg dksX4_ask_2 23 rfl rfl
theorem dksX4_ask_4 : cX4_ask.data.toList.drop 93 = dktX4_ask_4 := dk_seg dksX4_ask_3 22 rfl rfl
theorem dksX4_ask_5 : cX4_ask.data.toList.drop 115 = dktX4_ask_5 := dk_seg dksX4_ask_4 22 rfl rfl
theorem dksX4_ask_6 : cX4_ask.data.toList.drop 139 = dktX4_ask_6 := dk_seg dksX4_ask_5 24 rfl rfl
theorem dksX4_ask_7 : cX4_ask.data.toList.drop 162 = dktX4_ask_7 := dk_seg dksX4_ask_6 23 rfl rfl
theorem dksX4_ask_8 : cX4_ask.data.toList.drop 186 = dktX4_ask_8 := dk_seg dksX4_ask_7 24 rfl rfl
theorem dksX4_ask_9 : cX4_ask.data.toList.drop 210 = dktX4_ask_9 := dk_seg dksX4_ask_8 24 rfl rfl
theorem dX4_ask_0 : decode cX4_ask 0 = .ok (.aload_n 0, 1) := dk_42 (dk_at dksX4_ask_0 0 rfl rfl)
theorem dX4_ask_1 : decode cX4_ask 1 = .ok (.iload_n 1, 1) := dk_27 (dk_at dksX4_ask_0 1 rfl rfl)
theorem dX4_ask_2 : decode cX4_ask 2 = .ok (.invokevirtual 217, 3) := dk_182 0 217 (dk_at dksX4_ask_0 2 rfl rfl)
theorem dX4_ask_5 : decode cX4_ask 5 = .ok (.ifCond .eq 10, 3) := dk_153 0 10 (dk_at dksX4_ask_0 5 rfl rfl)
theorem dX4_ask_8 : decode cX4_ask 8 = .ok (.iload_n 2, 1) := dk_28 (dk_at dksX4_ask_0 8 rfl rfl)
theorem dX4_ask_9 : decode cX4_ask 9 = .ok (.invokestatic 254, 3) := dk_184 0 254 (dk_at dksX4_ask_0 9 rfl rfl)
theorem dX4_ask_12 : decode cX4_ask 12 = .ok (.ifCond .ne 5, 3) := dk_154 0 5 (dk_at dksX4_ask_0 12 rfl rfl)
theorem dX4_ask_15 : decode cX4_ask 15 = .ok (.iconst (-1), 1) := dk_2 (dk_at dksX4_ask_0 15 rfl rfl)
theorem dX4_ask_16 : decode cX4_ask 16 = .ok (.ireturn, 1) := dk_172 (dk_at dksX4_ask_0 16 rfl rfl)
theorem dX4_ask_17 : decode cX4_ask 17 = .ok (.iconst 0, 1) := dk_3 (dk_at dksX4_ask_0 17 rfl rfl)
theorem dX4_ask_18 : decode cX4_ask 18 = .ok (.istore_n 3, 1) := dk_62 (dk_at dksX4_ask_0 18 rfl rfl)
theorem dX4_ask_19 : decode cX4_ask 19 = .ok (.iconst 0, 1) := dk_3 (dk_at dksX4_ask_0 19 rfl rfl)
theorem dX4_ask_20 : decode cX4_ask 20 = .ok (.istore 4, 2) := dk_54 4 (dk_at dksX4_ask_0 20 rfl rfl)
theorem dX4_ask_22 : decode cX4_ask 22 = .ok (.iload 4, 2) := dk_21 4 (dk_at dksX4_ask_0 22 rfl rfl)
theorem dX4_ask_24 : decode cX4_ask 24 = .ok (.bipush 84, 2) := dk_16 84 (dk_at dksX4_ask_1 0 rfl rfl)
theorem dX4_ask_26 : decode cX4_ask 26 = .ok (.if_icmp .ge 17, 3) := dk_162 0 17 (dk_at dksX4_ask_1 2 rfl rfl)
theorem dX4_ask_29 : decode cX4_ask 29 = .ok (.aload_n 0, 1) := dk_42 (dk_at dksX4_ask_1 5 rfl rfl)
theorem dX4_ask_30 : decode cX4_ask 30 = .ok (.getfield 29, 3) := dk_180 0 29 (dk_at dksX4_ask_1 6 rfl rfl)
theorem dX4_ask_33 : decode cX4_ask 33 = .ok (.iload 4, 2) := dk_21 4 (dk_at dksX4_ask_1 9 rfl rfl)
theorem dX4_ask_35 : decode cX4_ask 35 = .ok (.iconst 0, 1) := dk_3 (dk_at dksX4_ask_1 11 rfl rfl)
theorem dX4_ask_36 : decode cX4_ask 36 = .ok (.iastore, 1) := dk_79 (dk_at dksX4_ask_1 12 rfl rfl)
theorem dX4_ask_37 : decode cX4_ask 37 = .ok (.iinc 4 1, 3) := dk_132 4 1 (dk_at dksX4_ask_1 13 rfl rfl)
theorem dX4_ask_40 : decode cX4_ask 40 = .ok (.goto (-18), 3) := dk_167 255 238 (dk_at dksX4_ask_1 16 rfl rfl)
theorem dX4_ask_43 : decode cX4_ask 43 = .ok (.iconst 0, 1) := dk_3 (dk_at dksX4_ask_1 19 rfl rfl)
theorem dX4_ask_44 : decode cX4_ask 44 = .ok (.istore 4, 2) := dk_54 4 (dk_at dksX4_ask_1 20 rfl rfl)
theorem dX4_ask_46 : decode cX4_ask 46 = .ok (.iload 4, 2) := dk_21 4 (dk_at dksX4_ask_1 22 rfl rfl)
theorem dX4_ask_48 : decode cX4_ask 48 = .ok (.bipush 6, 2) := dk_16 6 (dk_at dksX4_ask_2 0 rfl rfl)
theorem dX4_ask_50 : decode cX4_ask 50 = .ok (.if_icmp .ge 77, 3) := dk_162 0 77 (dk_at dksX4_ask_2 2 rfl rfl)
theorem dX4_ask_53 : decode cX4_ask 53 = .ok (.aload_n 0, 1) := dk_42 (dk_at dksX4_ask_2 5 rfl rfl)
theorem dX4_ask_54 : decode cX4_ask 54 = .ok (.bipush 12, 2) := dk_16 12 (dk_at dksX4_ask_2 6 rfl rfl)
theorem dX4_ask_56 : decode cX4_ask 56 = .ok (.iconst 3, 1) := dk_6 (dk_at dksX4_ask_2 8 rfl rfl)
theorem dX4_ask_57 : decode cX4_ask 57 = .ok (.iload_n 1, 1) := dk_27 (dk_at dksX4_ask_2 9 rfl rfl)
theorem dX4_ask_58 : decode cX4_ask 58 = .ok (.imul, 1) := dk_104 (dk_at dksX4_ask_2 10 rfl rfl)
theorem dX4_ask_59 : decode cX4_ask 59 = .ok (.iadd, 1) := dk_96 (dk_at dksX4_ask_2 11 rfl rfl)
theorem dX4_ask_60 : decode cX4_ask 60 = .ok (.iconst 1, 1) := dk_4 (dk_at dksX4_ask_2 12 rfl rfl)
theorem dX4_ask_61 : decode cX4_ask 61 = .ok (.iadd, 1) := dk_96 (dk_at dksX4_ask_2 13 rfl rfl)
theorem dX4_ask_62 : decode cX4_ask 62 = .ok (.iload 4, 2) := dk_21 4 (dk_at dksX4_ask_2 14 rfl rfl)
theorem dX4_ask_64 : decode cX4_ask 64 = .ok (.invokevirtual 297, 3) := dk_182 1 41 (dk_at dksX4_ask_2 16 rfl rfl)
theorem dX4_ask_67 : decode cX4_ask 67 = .ok (.ifCond .eq 54, 3) := dk_153 0 54 (dk_at dksX4_ask_2 19 rfl rfl)
theorem dX4_ask_70 : decode cX4_ask 70 = .ok (.iconst 0, 1) := dk_3 (dk_at dksX4_ask_2 22 rfl rfl)
theorem dX4_ask_71 : decode cX4_ask 71 = .ok (.istore 5, 2) := dk_54 5 (dk_at dksX4_ask_3 0 rfl rfl)
theorem dX4_ask_73 : decode cX4_ask 73 = .ok (.iload 5, 2) := dk_21 5 (dk_at dksX4_ask_3 2 rfl rfl)
theorem dX4_ask_75 : decode cX4_ask 75 = .ok (.bipush 84, 2) := dk_16 84 (dk_at dksX4_ask_3 4 rfl rfl)
theorem dX4_ask_77 : decode cX4_ask 77 = .ok (.if_icmp .ge 41, 3) := dk_162 0 41 (dk_at dksX4_ask_3 6 rfl rfl)
theorem dX4_ask_80 : decode cX4_ask 80 = .ok (.aload_n 0, 1) := dk_42 (dk_at dksX4_ask_3 9 rfl rfl)
theorem dX4_ask_81 : decode cX4_ask 81 = .ok (.getfield 29, 3) := dk_180 0 29 (dk_at dksX4_ask_3 10 rfl rfl)
theorem dX4_ask_84 : decode cX4_ask 84 = .ok (.iload 5, 2) := dk_21 5 (dk_at dksX4_ask_3 13 rfl rfl)
theorem dX4_ask_86 : decode cX4_ask 86 = .ok (.dup2, 1) := dk_92 (dk_at dksX4_ask_3 15 rfl rfl)
theorem dX4_ask_87 : decode cX4_ask 87 = .ok (.iaload, 1) := dk_46 (dk_at dksX4_ask_3 16 rfl rfl)
theorem dX4_ask_88 : decode cX4_ask 88 = .ok (.iload 5, 2) := dk_21 5 (dk_at dksX4_ask_3 17 rfl rfl)
theorem dX4_ask_90 : decode cX4_ask 90 = .ok (.iconst 4, 1) := dk_7 (dk_at dksX4_ask_3 19 rfl rfl)
theorem dX4_ask_91 : decode cX4_ask 91 = .ok (.irem, 1) := dk_112 (dk_at dksX4_ask_3 20 rfl rfl)
theorem dX4_ask_92 : decode cX4_ask 92 = .ok (.aload_n 0, 1) := dk_42 (dk_at dksX4_ask_3 21 rfl rfl)
theorem dX4_ask_93 : decode cX4_ask 93 = .ok (.getfield 71, 3) := dk_180 0 71 (dk_at dksX4_ask_4 0 rfl rfl)
theorem dX4_ask_96 : decode cX4_ask 96 = .ok (.if_icmp .ge 13, 3) := dk_162 0 13 (dk_at dksX4_ask_4 3 rfl rfl)
theorem dX4_ask_99 : decode cX4_ask 99 = .ok (.aload_n 0, 1) := dk_42 (dk_at dksX4_ask_4 6 rfl rfl)
theorem dX4_ask_100 : decode cX4_ask 100 = .ok (.getfield 26, 3) := dk_180 0 26 (dk_at dksX4_ask_4 7 rfl rfl)
theorem dX4_ask_103 : decode cX4_ask 103 = .ok (.iload 5, 2) := dk_21 5 (dk_at dksX4_ask_4 10 rfl rfl)
theorem dX4_ask_105 : decode cX4_ask 105 = .ok (.iaload, 1) := dk_46 (dk_at dksX4_ask_4 12 rfl rfl)
theorem dX4_ask_106 : decode cX4_ask 106 = .ok (.goto 4, 3) := dk_167 0 4 (dk_at dksX4_ask_4 13 rfl rfl)
theorem dX4_ask_109 : decode cX4_ask 109 = .ok (.iconst 0, 1) := dk_3 (dk_at dksX4_ask_4 16 rfl rfl)
theorem dX4_ask_110 : decode cX4_ask 110 = .ok (.iadd, 1) := dk_96 (dk_at dksX4_ask_4 17 rfl rfl)
theorem dX4_ask_111 : decode cX4_ask 111 = .ok (.iastore, 1) := dk_79 (dk_at dksX4_ask_4 18 rfl rfl)
theorem dX4_ask_112 : decode cX4_ask 112 = .ok (.iinc 5 1, 3) := dk_132 5 1 (dk_at dksX4_ask_4 19 rfl rfl)
theorem dX4_ask_115 : decode cX4_ask 115 = .ok (.goto (-42), 3) := dk_167 255 214 (dk_at dksX4_ask_5 0 rfl rfl)
theorem dX4_ask_118 : decode cX4_ask 118 = .ok (.iinc 3 1, 3) := dk_132 3 1 (dk_at dksX4_ask_5 3 rfl rfl)
theorem dX4_ask_121 : decode cX4_ask 121 = .ok (.iinc 4 1, 3) := dk_132 4 1 (dk_at dksX4_ask_5 6 rfl rfl)
theorem dX4_ask_124 : decode cX4_ask 124 = .ok (.goto (-78), 3) := dk_167 255 178 (dk_at dksX4_ask_5 9 rfl rfl)
theorem dX4_ask_127 : decode cX4_ask 127 = .ok (.aload_n 0, 1) := dk_42 (dk_at dksX4_ask_5 12 rfl rfl)
theorem dX4_ask_128 : decode cX4_ask 128 = .ok (.iload_n 3, 1) := dk_29 (dk_at dksX4_ask_5 13 rfl rfl)
theorem dX4_ask_129 : decode cX4_ask 129 = .ok (.invokevirtual 257, 3) := dk_182 1 1 (dk_at dksX4_ask_5 14 rfl rfl)
theorem dX4_ask_132 : decode cX4_ask 132 = .ok (.iconst 0, 1) := dk_3 (dk_at dksX4_ask_5 17 rfl rfl)
theorem dX4_ask_133 : decode cX4_ask 133 = .ok (.istore 4, 2) := dk_54 4 (dk_at dksX4_ask_5 18 rfl rfl)
theorem dX4_ask_135 : decode cX4_ask 135 = .ok (.iload 4, 2) := dk_21 4 (dk_at dksX4_ask_5 20 rfl rfl)
theorem dX4_ask_137 : decode cX4_ask 137 = .ok (.bipush 84, 2) := dk_16 84 (dk_at dksX4_ask_5 22 rfl rfl)
theorem dX4_ask_139 : decode cX4_ask 139 = .ok (.if_icmp .ge 71, 3) := dk_162 0 71 (dk_at dksX4_ask_6 0 rfl rfl)
theorem dX4_ask_142 : decode cX4_ask 142 = .ok (.iload 4, 2) := dk_21 4 (dk_at dksX4_ask_6 3 rfl rfl)
theorem dX4_ask_144 : decode cX4_ask 144 = .ok (.iconst 4, 1) := dk_7 (dk_at dksX4_ask_6 5 rfl rfl)
theorem dX4_ask_145 : decode cX4_ask 145 = .ok (.irem, 1) := dk_112 (dk_at dksX4_ask_6 6 rfl rfl)
theorem dX4_ask_146 : decode cX4_ask 146 = .ok (.aload_n 0, 1) := dk_42 (dk_at dksX4_ask_6 7 rfl rfl)
theorem dX4_ask_147 : decode cX4_ask 147 = .ok (.getfield 71, 3) := dk_180 0 71 (dk_at dksX4_ask_6 8 rfl rfl)
theorem dX4_ask_150 : decode cX4_ask 150 = .ok (.if_icmp .ge 54, 3) := dk_162 0 54 (dk_at dksX4_ask_6 11 rfl rfl)
theorem dX4_ask_153 : decode cX4_ask 153 = .ok (.iload_n 3, 1) := dk_29 (dk_at dksX4_ask_6 14 rfl rfl)
theorem dX4_ask_154 : decode cX4_ask 154 = .ok (.aload_n 0, 1) := dk_42 (dk_at dksX4_ask_6 15 rfl rfl)
theorem dX4_ask_155 : decode cX4_ask 155 = .ok (.getfield 29, 3) := dk_180 0 29 (dk_at dksX4_ask_6 16 rfl rfl)
theorem dX4_ask_158 : decode cX4_ask 158 = .ok (.iload 4, 2) := dk_21 4 (dk_at dksX4_ask_6 19 rfl rfl)
theorem dX4_ask_160 : decode cX4_ask 160 = .ok (.iaload, 1) := dk_46 (dk_at dksX4_ask_6 21 rfl rfl)
theorem dX4_ask_161 : decode cX4_ask 161 = .ok (.isub, 1) := dk_100 (dk_at dksX4_ask_6 22 rfl rfl)
theorem dX4_ask_162 : decode cX4_ask 162 = .ok (.istore 5, 2) := dk_54 5 (dk_at dksX4_ask_7 0 rfl rfl)
theorem dX4_ask_164 : decode cX4_ask 164 = .ok (.aload_n 0, 1) := dk_42 (dk_at dksX4_ask_7 2 rfl rfl)
theorem dX4_ask_165 : decode cX4_ask 165 = .ok (.bipush 10, 2) := dk_16 10 (dk_at dksX4_ask_7 3 rfl rfl)
theorem dX4_ask_167 : decode cX4_ask 167 = .ok (.iload 4, 2) := dk_21 4 (dk_at dksX4_ask_7 5 rfl rfl)
theorem dX4_ask_169 : decode cX4_ask 169 = .ok (.iconst 4, 1) := dk_7 (dk_at dksX4_ask_7 7 rfl rfl)
theorem dX4_ask_170 : decode cX4_ask 170 = .ok (.idiv, 1) := dk_108 (dk_at dksX4_ask_7 8 rfl rfl)
theorem dX4_ask_171 : decode cX4_ask 171 = .ok (.imul, 1) := dk_104 (dk_at dksX4_ask_7 9 rfl rfl)
theorem dX4_ask_172 : decode cX4_ask 172 = .ok (.iload 4, 2) := dk_21 4 (dk_at dksX4_ask_7 10 rfl rfl)
theorem dX4_ask_174 : decode cX4_ask 174 = .ok (.iconst 4, 1) := dk_7 (dk_at dksX4_ask_7 12 rfl rfl)
theorem dX4_ask_175 : decode cX4_ask 175 = .ok (.irem, 1) := dk_112 (dk_at dksX4_ask_7 13 rfl rfl)
theorem dX4_ask_176 : decode cX4_ask 176 = .ok (.iadd, 1) := dk_96 (dk_at dksX4_ask_7 14 rfl rfl)
theorem dX4_ask_177 : decode cX4_ask 177 = .ok (.iload 5, 2) := dk_21 5 (dk_at dksX4_ask_7 15 rfl rfl)
theorem dX4_ask_179 : decode cX4_ask 179 = .ok (.aload_n 0, 1) := dk_42 (dk_at dksX4_ask_7 17 rfl rfl)
theorem dX4_ask_180 : decode cX4_ask 180 = .ok (.getfield 29, 3) := dk_180 0 29 (dk_at dksX4_ask_7 18 rfl rfl)
theorem dX4_ask_183 : decode cX4_ask 183 = .ok (.iload 4, 2) := dk_21 4 (dk_at dksX4_ask_7 21 rfl rfl)
theorem dX4_ask_185 : decode cX4_ask 185 = .ok (.iaload, 1) := dk_46 (dk_at dksX4_ask_7 23 rfl rfl)
theorem dX4_ask_186 : decode cX4_ask 186 = .ok (.if_icmp .le 8, 3) := dk_164 0 8 (dk_at dksX4_ask_8 0 rfl rfl)
theorem dX4_ask_189 : decode cX4_ask 189 = .ok (.iload 5, 2) := dk_21 5 (dk_at dksX4_ask_8 3 rfl rfl)
theorem dX4_ask_191 : decode cX4_ask 191 = .ok (.goto 10, 3) := dk_167 0 10 (dk_at dksX4_ask_8 5 rfl rfl)
theorem dX4_ask_194 : decode cX4_ask 194 = .ok (.aload_n 0, 1) := dk_42 (dk_at dksX4_ask_8 8 rfl rfl)
theorem dX4_ask_195 : decode cX4_ask 195 = .ok (.getfield 29, 3) := dk_180 0 29 (dk_at dksX4_ask_8 9 rfl rfl)
theorem dX4_ask_198 : decode cX4_ask 198 = .ok (.iload 4, 2) := dk_21 4 (dk_at dksX4_ask_8 12 rfl rfl)
theorem dX4_ask_200 : decode cX4_ask 200 = .ok (.iaload, 1) := dk_46 (dk_at dksX4_ask_8 14 rfl rfl)
theorem dX4_ask_201 : decode cX4_ask 201 = .ok (.invokevirtual 261, 3) := dk_182 1 5 (dk_at dksX4_ask_8 15 rfl rfl)
theorem dX4_ask_204 : decode cX4_ask 204 = .ok (.iinc 4 1, 3) := dk_132 4 1 (dk_at dksX4_ask_8 18 rfl rfl)
theorem dX4_ask_207 : decode cX4_ask 207 = .ok (.goto (-72), 3) := dk_167 255 184 (dk_at dksX4_ask_8 21 rfl rfl)
theorem dX4_ask_210 : decode cX4_ask 210 = .ok (.aload_n 0, 1) := dk_42 (dk_at dksX4_ask_9 0 rfl rfl)
theorem dX4_ask_211 : decode cX4_ask 211 = .ok (.iload_n 2, 1) := dk_28 (dk_at dksX4_ask_9 1 rfl rfl)
theorem dX4_ask_212 : decode cX4_ask 212 = .ok (.invokevirtual 267, 3) := dk_182 1 11 (dk_at dksX4_ask_9 2 rfl rfl)
theorem dX4_ask_215 : decode cX4_ask 215 = .ok (.ireturn, 1) := dk_172 (dk_at dksX4_ask_9 5 rfl rfl)
abbrev cX4_drift : ByteArray := prog_12_method_82_code
def yX4_drift : MethodName := ⟨RX4, "drift", "(III)I"⟩
def dkwX4_drift_5 : List UInt8 := [172]
abbrev dktX4_drift_5 : List UInt8 := dkwX4_drift_5 ++ []
def dkwX4_drift_4 : List UInt8 := [182, 0, 196, 132, 5, 1, 167, 255, 200, 29, 154, 0, 10, 42, 180, 0, 154, 167, 0, 7, 42, 182, 0, 206]
abbrev dktX4_drift_4 : List UInt8 := dkwX4_drift_4 ++ dktX4_drift_5
def dkwX4_drift_3 : List UInt8 := [54, 6, 42, 21, 6, 42, 180, 0, 71, 112, 21, 6, 16, 8, 108, 16, 6, 112, 182, 0, 186, 42, 3]
abbrev dktX4_drift_3 : List UInt8 := dkwX4_drift_3 ++ dktX4_drift_4
def dkwX4_drift_2 : List UInt8 := [162, 0, 56, 21, 4, 19, 1, 47, 104, 17, 48, 57, 96, 54, 4, 21, 4, 16, 16, 122, 17, 127, 255, 126]
abbrev dktX4_drift_2 : List UInt8 := dkwX4_drift_2 ++ dktX4_drift_3
def dkwX4_drift_1 : List UInt8 := [180, 0, 71, 154, 0, 6, 16, 254, 172, 27, 54, 4, 42, 182, 0, 200, 3, 54, 5, 21, 5, 28]
abbrev dktX4_drift_1 : List UInt8 := dkwX4_drift_1 ++ dktX4_drift_2
def dkwX4_drift_0 : List UInt8 := [28, 133, 10, 20, 0, 240, 184, 0, 76, 153, 0, 10, 29, 184, 0, 254, 154, 0, 5, 2, 172, 42]
abbrev dktX4_drift_0 : List UInt8 := dkwX4_drift_0 ++ dktX4_drift_1
theorem dksX4_drift_0 : cX4_drift.data.toList.drop 0 = dktX4_drift_0 := by decide +kernel
theorem dksX4_drift_1 : cX4_drift.data.toList.drop 22 = dktX4_drift_1 := dk_seg dksX4_drift_0 22 rfl rfl
theorem dksX4_drift_2 : cX4_drift.data.toList.drop 44 = dktX4_drift_2 := dk_seg dksX4_drift_1 22 rfl rfl
theorem dksX4_drift_3 : cX4_drift.data.toList.drop 68 = dktX4_drift_3 := dk_seg dksX4_drift_2 24 rfl rfl
theorem dksX4_drift_4 : cX4_drift.data.toList.drop 91 = dktX4_drift_4 := dk_seg dksX4_drift_3 23 rfl rfl
theorem dksX4_drift_5 : cX4_drift.data.toList.drop 115 = dktX4_drift_5 := dk_seg dksX4_drift_4 24 rfl rfl
theorem dX4_drift_0 : decode cX4_drift 0 = .ok (.iload_n 2, 1) := dk_28 (dk_at dksX4_drift_0 0 rfl rfl)
theorem dX4_drift_1 : decode cX4_drift 1 = .ok (.i2l, 1) := dk_133 (dk_at dksX4_drift_0 1 rfl rfl)
theorem dX4_drift_2 : decode cX4_drift 2 = .ok (.lconst 1, 1) := dk_10 (dk_at dksX4_drift_0 2 rfl rfl)
theorem dX4_drift_3 : decode cX4_drift 3 = .ok (.ldc2_w 240, 3) := dk_20 0 240 (dk_at dksX4_drift_0 3 rfl rfl)
theorem dX4_drift_6 : decode cX4_drift 6 = .ok (.invokestatic 76, 3) := dk_184 0 76 (dk_at dksX4_drift_0 6 rfl rfl)
theorem dX4_drift_9 : decode cX4_drift 9 = .ok (.ifCond .eq 10, 3) := dk_153 0 10 (dk_at dksX4_drift_0 9 rfl rfl)
theorem dX4_drift_12 : decode cX4_drift 12 = .ok (.iload_n 3, 1) := dk_29 (dk_at dksX4_drift_0 12 rfl rfl)
theorem dX4_drift_13 : decode cX4_drift 13 = .ok (.invokestatic 254, 3) := dk_184 0 254 (dk_at dksX4_drift_0 13 rfl rfl)
theorem dX4_drift_16 : decode cX4_drift 16 = .ok (.ifCond .ne 5, 3) := dk_154 0 5 (dk_at dksX4_drift_0 16 rfl rfl)
theorem dX4_drift_19 : decode cX4_drift 19 = .ok (.iconst (-1), 1) := dk_2 (dk_at dksX4_drift_0 19 rfl rfl)
theorem dX4_drift_20 : decode cX4_drift 20 = .ok (.ireturn, 1) := dk_172 (dk_at dksX4_drift_0 20 rfl rfl)
theorem dX4_drift_21 : decode cX4_drift 21 = .ok (.aload_n 0, 1) := dk_42 (dk_at dksX4_drift_0 21 rfl rfl)
theorem dX4_drift_22 : decode cX4_drift 22 = .ok (.getfield 71, 3) := dk_180 0 71 (dk_at dksX4_drift_1 0 rfl rfl)
theorem dX4_drift_25 : decode cX4_drift 25 = .ok (.ifCond .ne 6, 3) := dk_154 0 6 (dk_at dksX4_drift_1 3 rfl rfl)
theorem dX4_drift_28 : decode cX4_drift 28 = .ok (.bipush (-2), 2) := dk_16 254 (dk_at dksX4_drift_1 6 rfl rfl)
theorem dX4_drift_30 : decode cX4_drift 30 = .ok (.ireturn, 1) := dk_172 (dk_at dksX4_drift_1 8 rfl rfl)
theorem dX4_drift_31 : decode cX4_drift 31 = .ok (.iload_n 1, 1) := dk_27 (dk_at dksX4_drift_1 9 rfl rfl)
theorem dX4_drift_32 : decode cX4_drift 32 = .ok (.istore 4, 2) := dk_54 4 (dk_at dksX4_drift_1 10 rfl rfl)
theorem dX4_drift_34 : decode cX4_drift 34 = .ok (.aload_n 0, 1) := dk_42 (dk_at dksX4_drift_1 12 rfl rfl)
theorem dX4_drift_35 : decode cX4_drift 35 = .ok (.invokevirtual 200, 3) := dk_182 0 200 (dk_at dksX4_drift_1 13 rfl rfl)
theorem dX4_drift_38 : decode cX4_drift 38 = .ok (.iconst 0, 1) := dk_3 (dk_at dksX4_drift_1 16 rfl rfl)
theorem dX4_drift_39 : decode cX4_drift 39 = .ok (.istore 5, 2) := dk_54 5 (dk_at dksX4_drift_1 17 rfl rfl)
theorem dX4_drift_41 : decode cX4_drift 41 = .ok (.iload 5, 2) := dk_21 5 (dk_at dksX4_drift_1 19 rfl rfl)
theorem dX4_drift_43 : decode cX4_drift 43 = .ok (.iload_n 2, 1) := dk_28 (dk_at dksX4_drift_1 21 rfl rfl)
theorem dX4_drift_44 : decode cX4_drift 44 = .ok (.if_icmp .ge 56, 3) := dk_162 0 56 (dk_at dksX4_drift_2 0 rfl rfl)
theorem dX4_drift_47 : decode cX4_drift 47 = .ok (.iload 4, 2) := dk_21 4 (dk_at dksX4_drift_2 3 rfl rfl)
theorem dX4_drift_49 : decode cX4_drift 49 = .ok (.ldc_w 303, 3) := dk_19 1 47 (dk_at dksX4_drift_2 5 rfl rfl)
theorem dX4_drift_52 : decode cX4_drift 52 = .ok (.imul, 1) := dk_104 (dk_at dksX4_drift_2 8 rfl rfl)
theorem dX4_drift_53 : decode cX4_drift 53 = .ok (.sipush 12345, 3) := dk_17 48 57 (dk_at dksX4_drift_2 9 rfl rfl)
theorem dX4_drift_56 : decode cX4_drift 56 = .ok (.iadd, 1) := dk_96 (dk_at dksX4_drift_2 12 rfl rfl)
theorem dX4_drift_57 : decode cX4_drift 57 = .ok (.istore 4, 2) := dk_54 4 (dk_at dksX4_drift_2 13 rfl rfl)
theorem dX4_drift_59 : decode cX4_drift 59 = .ok (.iload 4, 2) := dk_21 4 (dk_at dksX4_drift_2 15 rfl rfl)
theorem dX4_drift_61 : decode cX4_drift 61 = .ok (.bipush 16, 2) := dk_16 16 (dk_at dksX4_drift_2 17 rfl rfl)
theorem dX4_drift_63 : decode cX4_drift 63 = .ok (.ishr, 1) := dk_122 (dk_at dksX4_drift_2 19 rfl rfl)
theorem dX4_drift_64 : decode cX4_drift 64 = .ok (.sipush 32767, 3) := dk_17 127 255 (dk_at dksX4_drift_2 20 rfl rfl)
theorem dX4_drift_67 : decode cX4_drift 67 = .ok (.iand, 1) := dk_126 (dk_at dksX4_drift_2 23 rfl rfl)
theorem dX4_drift_68 : decode cX4_drift 68 = .ok (.istore 6, 2) := dk_54 6 (dk_at dksX4_drift_3 0 rfl rfl)
theorem dX4_drift_70 : decode cX4_drift 70 = .ok (.aload_n 0, 1) := dk_42 (dk_at dksX4_drift_3 2 rfl rfl)
theorem dX4_drift_71 : decode cX4_drift 71 = .ok (.iload 6, 2) := dk_21 6 (dk_at dksX4_drift_3 3 rfl rfl)
theorem dX4_drift_73 : decode cX4_drift 73 = .ok (.aload_n 0, 1) := dk_42 (dk_at dksX4_drift_3 5 rfl rfl)
theorem dX4_drift_74 : decode cX4_drift 74 = .ok (.getfield 71, 3) := dk_180 0 71 (dk_at dksX4_drift_3 6 rfl rfl)
theorem dX4_drift_77 : decode cX4_drift 77 = .ok (.irem, 1) := dk_112 (dk_at dksX4_drift_3 9 rfl rfl)
theorem dX4_drift_78 : decode cX4_drift 78 = .ok (.iload 6, 2) := dk_21 6 (dk_at dksX4_drift_3 10 rfl rfl)
theorem dX4_drift_80 : decode cX4_drift 80 = .ok (.bipush 8, 2) := dk_16 8 (dk_at dksX4_drift_3 12 rfl rfl)
theorem dX4_drift_82 : decode cX4_drift 82 = .ok (.idiv, 1) := dk_108 (dk_at dksX4_drift_3 14 rfl rfl)
theorem dX4_drift_83 : decode cX4_drift 83 = .ok (.bipush 6, 2) := dk_16 6 (dk_at dksX4_drift_3 15 rfl rfl)
theorem dX4_drift_85 : decode cX4_drift 85 = .ok (.irem, 1) := dk_112 (dk_at dksX4_drift_3 17 rfl rfl)
theorem dX4_drift_86 : decode cX4_drift 86 = .ok (.invokevirtual 186, 3) := dk_182 0 186 (dk_at dksX4_drift_3 18 rfl rfl)
theorem dX4_drift_89 : decode cX4_drift 89 = .ok (.aload_n 0, 1) := dk_42 (dk_at dksX4_drift_3 21 rfl rfl)
theorem dX4_drift_90 : decode cX4_drift 90 = .ok (.iconst 0, 1) := dk_3 (dk_at dksX4_drift_3 22 rfl rfl)
theorem dX4_drift_91 : decode cX4_drift 91 = .ok (.invokevirtual 196, 3) := dk_182 0 196 (dk_at dksX4_drift_4 0 rfl rfl)
theorem dX4_drift_94 : decode cX4_drift 94 = .ok (.iinc 5 1, 3) := dk_132 5 1 (dk_at dksX4_drift_4 3 rfl rfl)
theorem dX4_drift_97 : decode cX4_drift 97 = .ok (.goto (-56), 3) := dk_167 255 200 (dk_at dksX4_drift_4 6 rfl rfl)
theorem dX4_drift_100 : decode cX4_drift 100 = .ok (.iload_n 3, 1) := dk_29 (dk_at dksX4_drift_4 9 rfl rfl)
theorem dX4_drift_101 : decode cX4_drift 101 = .ok (.ifCond .ne 10, 3) := dk_154 0 10 (dk_at dksX4_drift_4 10 rfl rfl)
theorem dX4_drift_104 : decode cX4_drift 104 = .ok (.aload_n 0, 1) := dk_42 (dk_at dksX4_drift_4 13 rfl rfl)
theorem dX4_drift_105 : decode cX4_drift 105 = .ok (.getfield 154, 3) := dk_180 0 154 (dk_at dksX4_drift_4 14 rfl rfl)
theorem dX4_drift_108 : decode cX4_drift 108 = .ok (.goto 7, 3) := dk_167 0 7 (dk_at dksX4_drift_4 17 rfl rfl)
theorem dX4_drift_111 : decode cX4_drift 111 = .ok (.aload_n 0, 1) := dk_42 (dk_at dksX4_drift_4 20 rfl rfl)
theorem dX4_drift_112 : decode cX4_drift 112 = .ok (.invokevirtual 206, 3) := dk_182 0 206 (dk_at dksX4_drift_4 21 rfl rfl)
theorem dX4_drift_115 : decode cX4_drift 115 = .ok (.ireturn, 1) := dk_172 (dk_at dksX4_drift_5 0 rfl rfl)
abbrev cX4_keep : ByteArray := prog_12_method_84_code
def yX4_keep : MethodName := ⟨RX4, "keep", "(I)I"⟩
def dkwX4_keep_1 : List UInt8 := [180, 0, 16, 27, 4, 84, 42, 16, 58, 27, 4, 96, 104, 3, 182, 1, 48, 28, 172]
abbrev dktX4_keep_1 : List UInt8 := dkwX4_keep_1 ++ []
def dkwX4_keep_0 : List UInt8 := [27, 133, 9, 10, 184, 0, 76, 154, 0, 5, 2, 172, 42, 180, 0, 16, 27, 51, 184, 0, 169, 61, 42]
abbrev dktX4_keep_0 : List UInt8 := dkwX4_keep_0 ++ dktX4_keep_1
theorem dksX4_keep_0 : cX4_keep.data.toList.drop 0 = dktX4_keep_0 := by decide +kernel
theorem dksX4_keep_1 : cX4_keep.data.toList.drop 23 = dktX4_keep_1 := dk_seg dksX4_keep_0 23 rfl rfl
theorem dX4_keep_0 : decode cX4_keep 0 = .ok (.iload_n 1, 1) := dk_27 (dk_at dksX4_keep_0 0 rfl rfl)
theorem dX4_keep_1 : decode cX4_keep 1 = .ok (.i2l, 1) := dk_133 (dk_at dksX4_keep_0 1 rfl rfl)
theorem dX4_keep_2 : decode cX4_keep 2 = .ok (.lconst 0, 1) := dk_9 (dk_at dksX4_keep_0 2 rfl rfl)
theorem dX4_keep_3 : decode cX4_keep 3 = .ok (.lconst 1, 1) := dk_10 (dk_at dksX4_keep_0 3 rfl rfl)
theorem dX4_keep_4 : decode cX4_keep 4 = .ok (.invokestatic 76, 3) := dk_184 0 76 (dk_at dksX4_keep_0 4 rfl rfl)
theorem dX4_keep_7 : decode cX4_keep 7 = .ok (.ifCond .ne 5, 3) := dk_154 0 5 (dk_at dksX4_keep_0 7 rfl rfl)
theorem dX4_keep_10 : decode cX4_keep 10 = .ok (.iconst (-1), 1) := dk_2 (dk_at dksX4_keep_0 10 rfl rfl)
theorem dX4_keep_11 : decode cX4_keep 11 = .ok (.ireturn, 1) := dk_172 (dk_at dksX4_keep_0 11 rfl rfl)
theorem dX4_keep_12 : decode cX4_keep 12 = .ok (.aload_n 0, 1) := dk_42 (dk_at dksX4_keep_0 12 rfl rfl)
theorem dX4_keep_13 : decode cX4_keep 13 = .ok (.getfield 16, 3) := dk_180 0 16 (dk_at dksX4_keep_0 13 rfl rfl)
theorem dX4_keep_16 : decode cX4_keep 16 = .ok (.iload_n 1, 1) := dk_27 (dk_at dksX4_keep_0 16 rfl rfl)
theorem dX4_keep_17 : decode cX4_keep 17 = .ok (.baload, 1) := dk_51 (dk_at dksX4_keep_0 17 rfl rfl)
theorem dX4_keep_18 : decode cX4_keep 18 = .ok (.invokestatic 169, 3) := dk_184 0 169 (dk_at dksX4_keep_0 18 rfl rfl)
theorem dX4_keep_21 : decode cX4_keep 21 = .ok (.istore_n 2, 1) := dk_61 (dk_at dksX4_keep_0 21 rfl rfl)
theorem dX4_keep_22 : decode cX4_keep 22 = .ok (.aload_n 0, 1) := dk_42 (dk_at dksX4_keep_0 22 rfl rfl)
theorem dX4_keep_23 : decode cX4_keep 23 = .ok (.getfield 16, 3) := dk_180 0 16 (dk_at dksX4_keep_1 0 rfl rfl)
theorem dX4_keep_26 : decode cX4_keep 26 = .ok (.iload_n 1, 1) := dk_27 (dk_at dksX4_keep_1 3 rfl rfl)
theorem dX4_keep_27 : decode cX4_keep 27 = .ok (.iconst 1, 1) := dk_4 (dk_at dksX4_keep_1 4 rfl rfl)
theorem dX4_keep_28 : decode cX4_keep 28 = .ok (.bastore, 1) := dk_84 (dk_at dksX4_keep_1 5 rfl rfl)
theorem dX4_keep_29 : decode cX4_keep 29 = .ok (.aload_n 0, 1) := dk_42 (dk_at dksX4_keep_1 6 rfl rfl)
theorem dX4_keep_30 : decode cX4_keep 30 = .ok (.bipush 58, 2) := dk_16 58 (dk_at dksX4_keep_1 7 rfl rfl)
theorem dX4_keep_32 : decode cX4_keep 32 = .ok (.iload_n 1, 1) := dk_27 (dk_at dksX4_keep_1 9 rfl rfl)
theorem dX4_keep_33 : decode cX4_keep 33 = .ok (.iconst 1, 1) := dk_4 (dk_at dksX4_keep_1 10 rfl rfl)
theorem dX4_keep_34 : decode cX4_keep 34 = .ok (.iadd, 1) := dk_96 (dk_at dksX4_keep_1 11 rfl rfl)
theorem dX4_keep_35 : decode cX4_keep 35 = .ok (.imul, 1) := dk_104 (dk_at dksX4_keep_1 12 rfl rfl)
theorem dX4_keep_36 : decode cX4_keep 36 = .ok (.iconst 0, 1) := dk_3 (dk_at dksX4_keep_1 13 rfl rfl)
theorem dX4_keep_37 : decode cX4_keep 37 = .ok (.invokevirtual 304, 3) := dk_182 1 48 (dk_at dksX4_keep_1 14 rfl rfl)
theorem dX4_keep_40 : decode cX4_keep 40 = .ok (.iload_n 2, 1) := dk_28 (dk_at dksX4_keep_1 17 rfl rfl)
theorem dX4_keep_41 : decode cX4_keep 41 = .ok (.ireturn, 1) := dk_172 (dk_at dksX4_keep_1 18 rfl rfl)
abbrev cX4_copies : ByteArray := prog_12_method_83_code
def yX4_copies : MethodName := ⟨RX4, "copies", "(II)V"⟩
def dkwX4_copies_1 : List UInt8 := [132, 3, 1, 167, 255, 231, 177]
abbrev dktX4_copies_1 : List UInt8 := dkwX4_copies_1 ++ []
def dkwX4_copies_0 : List UInt8 := [3, 62, 29, 16, 58, 162, 0, 25, 42, 180, 0, 7, 27, 29, 96, 42, 180, 0, 7, 28, 29, 96, 46, 79]
abbrev dktX4_copies_0 : List UInt8 := dkwX4_copies_0 ++ dktX4_copies_1
theorem dksX4_copies_0 : cX4_copies.data.toList.drop 0 = dktX4_copies_0 := by decide +kernel
theorem dksX4_copies_1 : cX4_copies.data.toList.drop 24 = dktX4_copies_1 := dk_seg dksX4_copies_0 24 rfl rfl
theorem dX4_copies_0 : decode cX4_copies 0 = .ok (.iconst 0, 1) := dk_3 (dk_at dksX4_copies_0 0 rfl rfl)
theorem dX4_copies_1 : decode cX4_copies 1 = .ok (.istore_n 3, 1) := dk_62 (dk_at dksX4_copies_0 1 rfl rfl)
theorem dX4_copies_2 : decode cX4_copies 2 = .ok (.iload_n 3, 1) := dk_29 (dk_at dksX4_copies_0 2 rfl rfl)
theorem dX4_copies_3 : decode cX4_copies 3 = .ok (.bipush 58, 2) := dk_16 58 (dk_at dksX4_copies_0 3 rfl rfl)
theorem dX4_copies_5 : decode cX4_copies 5 = .ok (.if_icmp .ge 25, 3) := dk_162 0 25 (dk_at dksX4_copies_0 5 rfl rfl)
theorem dX4_copies_8 : decode cX4_copies 8 = .ok (.aload_n 0, 1) := dk_42 (dk_at dksX4_copies_0 8 rfl rfl)
theorem dX4_copies_9 : decode cX4_copies 9 = .ok (.getfield 7, 3) := dk_180 0 7 (dk_at dksX4_copies_0 9 rfl rfl)
theorem dX4_copies_12 : decode cX4_copies 12 = .ok (.iload_n 1, 1) := dk_27 (dk_at dksX4_copies_0 12 rfl rfl)
theorem dX4_copies_13 : decode cX4_copies 13 = .ok (.iload_n 3, 1) := dk_29 (dk_at dksX4_copies_0 13 rfl rfl)
theorem dX4_copies_14 : decode cX4_copies 14 = .ok (.iadd, 1) := dk_96 (dk_at dksX4_copies_0 14 rfl rfl)
theorem dX4_copies_15 : decode cX4_copies 15 = .ok (.aload_n 0, 1) := dk_42 (dk_at dksX4_copies_0 15 rfl rfl)
theorem dX4_copies_16 : decode cX4_copies 16 = .ok (.getfield 7, 3) := dk_180 0 7 (dk_at dksX4_copies_0 16 rfl rfl)
theorem dX4_copies_19 : decode cX4_copies 19 = .ok (.iload_n 2, 1) := dk_28 (dk_at dksX4_copies_0 19 rfl rfl)
theorem dX4_copies_20 : decode cX4_copies 20 = .ok (.iload_n 3, 1) := dk_29 (dk_at dksX4_copies_0 20 rfl rfl)
theorem dX4_copies_21 : decode cX4_copies 21 = .ok (.iadd, 1) := dk_96 (dk_at dksX4_copies_0 21 rfl rfl)
theorem dX4_copies_22 : decode cX4_copies 22 = .ok (.iaload, 1) := dk_46 (dk_at dksX4_copies_0 22 rfl rfl)
theorem dX4_copies_23 : decode cX4_copies 23 = .ok (.iastore, 1) := dk_79 (dk_at dksX4_copies_0 23 rfl rfl)
theorem dX4_copies_24 : decode cX4_copies 24 = .ok (.iinc 3 1, 3) := dk_132 3 1 (dk_at dksX4_copies_1 0 rfl rfl)
theorem dX4_copies_27 : decode cX4_copies 27 = .ok (.goto (-25), 3) := dk_167 255 231 (dk_at dksX4_copies_1 3 rfl rfl)
theorem dX4_copies_30 : decode cX4_copies 30 = .ok (.return_, 1) := dk_177 (dk_at dksX4_copies_1 6 rfl rfl)
abbrev cX4_back : ByteArray := prog_12_method_85_code
def yX4_back : MethodName := ⟨RX4, "back", "(I)I"⟩
def dkwX4_back_1 : List UInt8 := [42, 3, 16, 58, 27, 4, 96, 104, 182, 1, 48, 42, 180, 0, 7, 16, 38, 46, 172]
abbrev dktX4_back_1 : List UInt8 := dkwX4_back_1 ++ []
def dkwX4_back_0 : List UInt8 := [27, 133, 9, 10, 184, 0, 76, 154, 0, 5, 2, 172, 42, 180, 0, 16, 27, 51, 154, 0, 6, 16, 254, 172]
abbrev dktX4_back_0 : List UInt8 := dkwX4_back_0 ++ dktX4_back_1
theorem dksX4_back_0 : cX4_back.data.toList.drop 0 = dktX4_back_0 := by decide +kernel
theorem dksX4_back_1 : cX4_back.data.toList.drop 24 = dktX4_back_1 := dk_seg dksX4_back_0 24 rfl rfl
theorem dX4_back_0 : decode cX4_back 0 = .ok (.iload_n 1, 1) := dk_27 (dk_at dksX4_back_0 0 rfl rfl)
theorem dX4_back_1 : decode cX4_back 1 = .ok (.i2l, 1) := dk_133 (dk_at dksX4_back_0 1 rfl rfl)
theorem dX4_back_2 : decode cX4_back 2 = .ok (.lconst 0, 1) := dk_9 (dk_at dksX4_back_0 2 rfl rfl)
theorem dX4_back_3 : decode cX4_back 3 = .ok (.lconst 1, 1) := dk_10 (dk_at dksX4_back_0 3 rfl rfl)
theorem dX4_back_4 : decode cX4_back 4 = .ok (.invokestatic 76, 3) := dk_184 0 76 (dk_at dksX4_back_0 4 rfl rfl)
theorem dX4_back_7 : decode cX4_back 7 = .ok (.ifCond .ne 5, 3) := dk_154 0 5 (dk_at dksX4_back_0 7 rfl rfl)
theorem dX4_back_10 : decode cX4_back 10 = .ok (.iconst (-1), 1) := dk_2 (dk_at dksX4_back_0 10 rfl rfl)
theorem dX4_back_11 : decode cX4_back 11 = .ok (.ireturn, 1) := dk_172 (dk_at dksX4_back_0 11 rfl rfl)
theorem dX4_back_12 : decode cX4_back 12 = .ok (.aload_n 0, 1) := dk_42 (dk_at dksX4_back_0 12 rfl rfl)
theorem dX4_back_13 : decode cX4_back 13 = .ok (.getfield 16, 3) := dk_180 0 16 (dk_at dksX4_back_0 13 rfl rfl)
theorem dX4_back_16 : decode cX4_back 16 = .ok (.iload_n 1, 1) := dk_27 (dk_at dksX4_back_0 16 rfl rfl)
theorem dX4_back_17 : decode cX4_back 17 = .ok (.baload, 1) := dk_51 (dk_at dksX4_back_0 17 rfl rfl)
theorem dX4_back_18 : decode cX4_back 18 = .ok (.ifCond .ne 6, 3) := dk_154 0 6 (dk_at dksX4_back_0 18 rfl rfl)
theorem dX4_back_21 : decode cX4_back 21 = .ok (.bipush (-2), 2) := dk_16 254 (dk_at dksX4_back_0 21 rfl rfl)
theorem dX4_back_23 : decode cX4_back 23 = .ok (.ireturn, 1) := dk_172 (dk_at dksX4_back_0 23 rfl rfl)
theorem dX4_back_24 : decode cX4_back 24 = .ok (.aload_n 0, 1) := dk_42 (dk_at dksX4_back_1 0 rfl rfl)
theorem dX4_back_25 : decode cX4_back 25 = .ok (.iconst 0, 1) := dk_3 (dk_at dksX4_back_1 1 rfl rfl)
theorem dX4_back_26 : decode cX4_back 26 = .ok (.bipush 58, 2) := dk_16 58 (dk_at dksX4_back_1 2 rfl rfl)
theorem dX4_back_28 : decode cX4_back 28 = .ok (.iload_n 1, 1) := dk_27 (dk_at dksX4_back_1 4 rfl rfl)
theorem dX4_back_29 : decode cX4_back 29 = .ok (.iconst 1, 1) := dk_4 (dk_at dksX4_back_1 5 rfl rfl)
theorem dX4_back_30 : decode cX4_back 30 = .ok (.iadd, 1) := dk_96 (dk_at dksX4_back_1 6 rfl rfl)
theorem dX4_back_31 : decode cX4_back 31 = .ok (.imul, 1) := dk_104 (dk_at dksX4_back_1 7 rfl rfl)
theorem dX4_back_32 : decode cX4_back 32 = .ok (.invokevirtual 304, 3) := dk_182 1 48 (dk_at dksX4_back_1 8 rfl rfl)
theorem dX4_back_35 : decode cX4_back 35 = .ok (.aload_n 0, 1) := dk_42 (dk_at dksX4_back_1 11 rfl rfl)
theorem dX4_back_36 : decode cX4_back 36 = .ok (.getfield 7, 3) := dk_180 0 7 (dk_at dksX4_back_1 12 rfl rfl)
theorem dX4_back_39 : decode cX4_back 39 = .ok (.bipush 38, 2) := dk_16 38 (dk_at dksX4_back_1 15 rfl rfl)
theorem dX4_back_41 : decode cX4_back 41 = .ok (.iaload, 1) := dk_46 (dk_at dksX4_back_1 17 rfl rfl)
theorem dX4_back_42 : decode cX4_back 42 = .ok (.ireturn, 1) := dk_172 (dk_at dksX4_back_1 18 rfl rfl)
abbrev cX4_sheet : ByteArray := prog_12_method_87_code
def yX4_sheet : MethodName := ⟨RX4, "sheet", "(III)I"⟩
def dkwX4_sheet_2 : List UInt8 := [180, 0, 38, 16, 40, 27, 104, 21, 4, 96, 3, 79, 132, 4, 1, 167, 255, 233, 4, 172]
abbrev dktX4_sheet_2 : List UInt8 := dkwX4_sheet_2 ++ []
def dkwX4_sheet_1 : List UInt8 := [180, 0, 32, 27, 28, 79, 42, 180, 0, 35, 27, 29, 79, 3, 54, 4, 21, 4, 16, 40, 162, 0, 22, 42]
abbrev dktX4_sheet_1 : List UInt8 := dkwX4_sheet_1 ++ dktX4_sheet_2
def dkwX4_sheet_0 : List UInt8 := [27, 28, 184, 1, 53, 153, 0, 9, 29, 16, 40, 164, 0, 5, 2, 172, 29, 156, 0, 6, 16, 242, 172, 42]
abbrev dktX4_sheet_0 : List UInt8 := dkwX4_sheet_0 ++ dktX4_sheet_1
theorem dksX4_sheet_0 : cX4_sheet.data.toList.drop 0 = dktX4_sheet_0 := by decide +kernel
theorem dksX4_sheet_1 : cX4_sheet.data.toList.drop 24 = dktX4_sheet_1 := dk_seg dksX4_sheet_0 24 rfl rfl
theorem dksX4_sheet_2 : cX4_sheet.data.toList.drop 48 = dktX4_sheet_2 := dk_seg dksX4_sheet_1 24 rfl rfl
theorem dX4_sheet_0 : decode cX4_sheet 0 = .ok (.iload_n 1, 1) := dk_27 (dk_at dksX4_sheet_0 0 rfl rfl)
theorem dX4_sheet_1 : decode cX4_sheet 1 = .ok (.iload_n 2, 1) := dk_28 (dk_at dksX4_sheet_0 1 rfl rfl)
theorem dX4_sheet_2 : decode cX4_sheet 2 = .ok (.invokestatic 309, 3) := dk_184 1 53 (dk_at dksX4_sheet_0 2 rfl rfl)
theorem dX4_sheet_5 : decode cX4_sheet 5 = .ok (.ifCond .eq 9, 3) := dk_153 0 9 (dk_at dksX4_sheet_0 5 rfl rfl)
theorem dX4_sheet_8 : decode cX4_sheet 8 = .ok (.iload_n 3, 1) := dk_29 (dk_at dksX4_sheet_0 8 rfl rfl)
theorem dX4_sheet_9 : decode cX4_sheet 9 = .ok (.bipush 40, 2) := dk_16 40 (dk_at dksX4_sheet_0 9 rfl rfl)
theorem dX4_sheet_11 : decode cX4_sheet 11 = .ok (.if_icmp .le 5, 3) := dk_164 0 5 (dk_at dksX4_sheet_0 11 rfl rfl)
theorem dX4_sheet_14 : decode cX4_sheet 14 = .ok (.iconst (-1), 1) := dk_2 (dk_at dksX4_sheet_0 14 rfl rfl)
theorem dX4_sheet_15 : decode cX4_sheet 15 = .ok (.ireturn, 1) := dk_172 (dk_at dksX4_sheet_0 15 rfl rfl)
theorem dX4_sheet_16 : decode cX4_sheet 16 = .ok (.iload_n 3, 1) := dk_29 (dk_at dksX4_sheet_0 16 rfl rfl)
theorem dX4_sheet_17 : decode cX4_sheet 17 = .ok (.ifCond .ge 6, 3) := dk_156 0 6 (dk_at dksX4_sheet_0 17 rfl rfl)
theorem dX4_sheet_20 : decode cX4_sheet 20 = .ok (.bipush (-14), 2) := dk_16 242 (dk_at dksX4_sheet_0 20 rfl rfl)
theorem dX4_sheet_22 : decode cX4_sheet 22 = .ok (.ireturn, 1) := dk_172 (dk_at dksX4_sheet_0 22 rfl rfl)
theorem dX4_sheet_23 : decode cX4_sheet 23 = .ok (.aload_n 0, 1) := dk_42 (dk_at dksX4_sheet_0 23 rfl rfl)
theorem dX4_sheet_24 : decode cX4_sheet 24 = .ok (.getfield 32, 3) := dk_180 0 32 (dk_at dksX4_sheet_1 0 rfl rfl)
theorem dX4_sheet_27 : decode cX4_sheet 27 = .ok (.iload_n 1, 1) := dk_27 (dk_at dksX4_sheet_1 3 rfl rfl)
theorem dX4_sheet_28 : decode cX4_sheet 28 = .ok (.iload_n 2, 1) := dk_28 (dk_at dksX4_sheet_1 4 rfl rfl)
theorem dX4_sheet_29 : decode cX4_sheet 29 = .ok (.iastore, 1) := dk_79 (dk_at dksX4_sheet_1 5 rfl rfl)
theorem dX4_sheet_30 : decode cX4_sheet 30 = .ok (.aload_n 0, 1) := dk_42 (dk_at dksX4_sheet_1 6 rfl rfl)
theorem dX4_sheet_31 : decode cX4_sheet 31 = .ok (.getfield 35, 3) := dk_180 0 35 (dk_at dksX4_sheet_1 7 rfl rfl)
theorem dX4_sheet_34 : decode cX4_sheet 34 = .ok (.iload_n 1, 1) := dk_27 (dk_at dksX4_sheet_1 10 rfl rfl)
theorem dX4_sheet_35 : decode cX4_sheet 35 = .ok (.iload_n 3, 1) := dk_29 (dk_at dksX4_sheet_1 11 rfl rfl)
theorem dX4_sheet_36 : decode cX4_sheet 36 = .ok (.iastore, 1) := dk_79 (dk_at dksX4_sheet_1 12 rfl rfl)
theorem dX4_sheet_37 : decode cX4_sheet 37 = .ok (.iconst 0, 1) := dk_3 (dk_at dksX4_sheet_1 13 rfl rfl)
theorem dX4_sheet_38 : decode cX4_sheet 38 = .ok (.istore 4, 2) := dk_54 4 (dk_at dksX4_sheet_1 14 rfl rfl)
theorem dX4_sheet_40 : decode cX4_sheet 40 = .ok (.iload 4, 2) := dk_21 4 (dk_at dksX4_sheet_1 16 rfl rfl)
theorem dX4_sheet_42 : decode cX4_sheet 42 = .ok (.bipush 40, 2) := dk_16 40 (dk_at dksX4_sheet_1 18 rfl rfl)
theorem dX4_sheet_44 : decode cX4_sheet 44 = .ok (.if_icmp .ge 22, 3) := dk_162 0 22 (dk_at dksX4_sheet_1 20 rfl rfl)
theorem dX4_sheet_47 : decode cX4_sheet 47 = .ok (.aload_n 0, 1) := dk_42 (dk_at dksX4_sheet_1 23 rfl rfl)
theorem dX4_sheet_48 : decode cX4_sheet 48 = .ok (.getfield 38, 3) := dk_180 0 38 (dk_at dksX4_sheet_2 0 rfl rfl)
theorem dX4_sheet_51 : decode cX4_sheet 51 = .ok (.bipush 40, 2) := dk_16 40 (dk_at dksX4_sheet_2 3 rfl rfl)
theorem dX4_sheet_53 : decode cX4_sheet 53 = .ok (.iload_n 1, 1) := dk_27 (dk_at dksX4_sheet_2 5 rfl rfl)
theorem dX4_sheet_54 : decode cX4_sheet 54 = .ok (.imul, 1) := dk_104 (dk_at dksX4_sheet_2 6 rfl rfl)
theorem dX4_sheet_55 : decode cX4_sheet 55 = .ok (.iload 4, 2) := dk_21 4 (dk_at dksX4_sheet_2 7 rfl rfl)
theorem dX4_sheet_57 : decode cX4_sheet 57 = .ok (.iadd, 1) := dk_96 (dk_at dksX4_sheet_2 9 rfl rfl)
theorem dX4_sheet_58 : decode cX4_sheet 58 = .ok (.iconst 0, 1) := dk_3 (dk_at dksX4_sheet_2 10 rfl rfl)
theorem dX4_sheet_59 : decode cX4_sheet 59 = .ok (.iastore, 1) := dk_79 (dk_at dksX4_sheet_2 11 rfl rfl)
theorem dX4_sheet_60 : decode cX4_sheet 60 = .ok (.iinc 4 1, 3) := dk_132 4 1 (dk_at dksX4_sheet_2 12 rfl rfl)
theorem dX4_sheet_63 : decode cX4_sheet 63 = .ok (.goto (-23), 3) := dk_167 255 233 (dk_at dksX4_sheet_2 15 rfl rfl)
theorem dX4_sheet_66 : decode cX4_sheet 66 = .ok (.iconst 1, 1) := dk_4 (dk_at dksX4_sheet_2 18 rfl rfl)
theorem dX4_sheet_67 : decode cX4_sheet 67 = .ok (.ireturn, 1) := dk_172 (dk_at dksX4_sheet_2 19 rfl rfl)
abbrev cX4_isSheet : ByteArray := prog_12_method_86_code
def yX4_isSheet : MethodName := ⟨RX4, "isSheet", "(II)Z"⟩
def dkwX4_isSheet_1 : List UInt8 := [4, 167, 0, 4, 3, 172]
abbrev dktX4_isSheet_1 : List UInt8 := dkwX4_isSheet_1 ++ []
def dkwX4_isSheet_0 : List UInt8 := [26, 133, 9, 20, 0, 212, 184, 0, 76, 153, 0, 19, 27, 133, 9, 20, 1, 51, 184, 0, 76, 153, 0, 7]
abbrev dktX4_isSheet_0 : List UInt8 := dkwX4_isSheet_0 ++ dktX4_isSheet_1
theorem dksX4_isSheet_0 : cX4_isSheet.data.toList.drop 0 = dktX4_isSheet_0 := by decide +kernel
theorem dksX4_isSheet_1 : cX4_isSheet.data.toList.drop 24 = dktX4_isSheet_1 := dk_seg dksX4_isSheet_0 24 rfl rfl
theorem dX4_isSheet_0 : decode cX4_isSheet 0 = .ok (.iload_n 0, 1) := dk_26 (dk_at dksX4_isSheet_0 0 rfl rfl)
theorem dX4_isSheet_1 : decode cX4_isSheet 1 = .ok (.i2l, 1) := dk_133 (dk_at dksX4_isSheet_0 1 rfl rfl)
theorem dX4_isSheet_2 : decode cX4_isSheet 2 = .ok (.lconst 0, 1) := dk_9 (dk_at dksX4_isSheet_0 2 rfl rfl)
theorem dX4_isSheet_3 : decode cX4_isSheet 3 = .ok (.ldc2_w 212, 3) := dk_20 0 212 (dk_at dksX4_isSheet_0 3 rfl rfl)
theorem dX4_isSheet_6 : decode cX4_isSheet 6 = .ok (.invokestatic 76, 3) := dk_184 0 76 (dk_at dksX4_isSheet_0 6 rfl rfl)
theorem dX4_isSheet_9 : decode cX4_isSheet 9 = .ok (.ifCond .eq 19, 3) := dk_153 0 19 (dk_at dksX4_isSheet_0 9 rfl rfl)
theorem dX4_isSheet_12 : decode cX4_isSheet 12 = .ok (.iload_n 1, 1) := dk_27 (dk_at dksX4_isSheet_0 12 rfl rfl)
theorem dX4_isSheet_13 : decode cX4_isSheet 13 = .ok (.i2l, 1) := dk_133 (dk_at dksX4_isSheet_0 13 rfl rfl)
theorem dX4_isSheet_14 : decode cX4_isSheet 14 = .ok (.lconst 0, 1) := dk_9 (dk_at dksX4_isSheet_0 14 rfl rfl)
theorem dX4_isSheet_15 : decode cX4_isSheet 15 = .ok (.ldc2_w 307, 3) := dk_20 1 51 (dk_at dksX4_isSheet_0 15 rfl rfl)
theorem dX4_isSheet_18 : decode cX4_isSheet 18 = .ok (.invokestatic 76, 3) := dk_184 0 76 (dk_at dksX4_isSheet_0 18 rfl rfl)
theorem dX4_isSheet_21 : decode cX4_isSheet 21 = .ok (.ifCond .eq 7, 3) := dk_153 0 7 (dk_at dksX4_isSheet_0 21 rfl rfl)
theorem dX4_isSheet_24 : decode cX4_isSheet 24 = .ok (.iconst 1, 1) := dk_4 (dk_at dksX4_isSheet_1 0 rfl rfl)
theorem dX4_isSheet_25 : decode cX4_isSheet 25 = .ok (.goto 4, 3) := dk_167 0 4 (dk_at dksX4_isSheet_1 1 rfl rfl)
theorem dX4_isSheet_28 : decode cX4_isSheet 28 = .ok (.iconst 0, 1) := dk_3 (dk_at dksX4_isSheet_1 4 rfl rfl)
theorem dX4_isSheet_29 : decode cX4_isSheet 29 = .ok (.ireturn, 1) := dk_172 (dk_at dksX4_isSheet_1 5 rfl rfl)
abbrev cX4_lay : ByteArray := prog_12_method_88_code
def yX4_lay : MethodName := ⟨RX4, "lay", "(III)I"⟩
def dkwX4_lay_3 : List UInt8 := [180, 0, 32, 27, 46, 4, 160, 0, 8, 29, 147, 167, 0, 4, 29, 79, 4, 172]
abbrev dktX4_lay_3 : List UInt8 := dkwX4_lay_3 ++ []
def dkwX4_lay_2 : List UInt8 := [180, 0, 38, 16, 40, 27, 104, 28, 96, 42, 180, 0, 32, 27, 46, 154, 0, 8, 29, 145, 167, 0, 19, 42]
abbrev dktX4_lay_2 : List UInt8 := dkwX4_lay_2 ++ dktX4_lay_3
def dkwX4_lay_1 : List UInt8 := [28, 133, 9, 42, 180, 0, 35, 27, 46, 4, 100, 133, 184, 0, 76, 154, 0, 6, 16, 244, 172, 42]
abbrev dktX4_lay_1 : List UInt8 := dkwX4_lay_1 ++ dktX4_lay_2
def dkwX4_lay_0 : List UInt8 := [27, 3, 184, 1, 53, 154, 0, 5, 2, 172, 42, 180, 0, 32, 27, 46, 16, 252, 160, 0, 6, 16, 245, 172]
abbrev dktX4_lay_0 : List UInt8 := dkwX4_lay_0 ++ dktX4_lay_1
theorem dksX4_lay_0 : cX4_lay.data.toList.drop 0 = dktX4_lay_0 := by decide +kernel
theorem dksX4_lay_1 : cX4_lay.data.toList.drop 24 = dktX4_lay_1 := dk_seg dksX4_lay_0 24 rfl rfl
theorem dksX4_lay_2 : cX4_lay.data.toList.drop 46 = dktX4_lay_2 := dk_seg dksX4_lay_1 22 rfl rfl
theorem dksX4_lay_3 : cX4_lay.data.toList.drop 70 = dktX4_lay_3 := dk_seg dksX4_lay_2 24 rfl rfl
theorem dX4_lay_0 : decode cX4_lay 0 = .ok (.iload_n 1, 1) := dk_27 (dk_at dksX4_lay_0 0 rfl rfl)
theorem dX4_lay_1 : decode cX4_lay 1 = .ok (.iconst 0, 1) := dk_3 (dk_at dksX4_lay_0 1 rfl rfl)
theorem dX4_lay_2 : decode cX4_lay 2 = .ok (.invokestatic 309, 3) := dk_184 1 53 (dk_at dksX4_lay_0 2 rfl rfl)
theorem dX4_lay_5 : decode cX4_lay 5 = .ok (.ifCond .ne 5, 3) := dk_154 0 5 (dk_at dksX4_lay_0 5 rfl rfl)
theorem dX4_lay_8 : decode cX4_lay 8 = .ok (.iconst (-1), 1) := dk_2 (dk_at dksX4_lay_0 8 rfl rfl)
theorem dX4_lay_9 : decode cX4_lay 9 = .ok (.ireturn, 1) := dk_172 (dk_at dksX4_lay_0 9 rfl rfl)
theorem dX4_lay_10 : decode cX4_lay 10 = .ok (.aload_n 0, 1) := dk_42 (dk_at dksX4_lay_0 10 rfl rfl)
theorem dX4_lay_11 : decode cX4_lay 11 = .ok (.getfield 32, 3) := dk_180 0 32 (dk_at dksX4_lay_0 11 rfl rfl)
theorem dX4_lay_14 : decode cX4_lay 14 = .ok (.iload_n 1, 1) := dk_27 (dk_at dksX4_lay_0 14 rfl rfl)
theorem dX4_lay_15 : decode cX4_lay 15 = .ok (.iaload, 1) := dk_46 (dk_at dksX4_lay_0 15 rfl rfl)
theorem dX4_lay_16 : decode cX4_lay 16 = .ok (.bipush (-4), 2) := dk_16 252 (dk_at dksX4_lay_0 16 rfl rfl)
theorem dX4_lay_18 : decode cX4_lay 18 = .ok (.if_icmp .ne 6, 3) := dk_160 0 6 (dk_at dksX4_lay_0 18 rfl rfl)
theorem dX4_lay_21 : decode cX4_lay 21 = .ok (.bipush (-11), 2) := dk_16 245 (dk_at dksX4_lay_0 21 rfl rfl)
theorem dX4_lay_23 : decode cX4_lay 23 = .ok (.ireturn, 1) := dk_172 (dk_at dksX4_lay_0 23 rfl rfl)
theorem dX4_lay_24 : decode cX4_lay 24 = .ok (.iload_n 2, 1) := dk_28 (dk_at dksX4_lay_1 0 rfl rfl)
theorem dX4_lay_25 : decode cX4_lay 25 = .ok (.i2l, 1) := dk_133 (dk_at dksX4_lay_1 1 rfl rfl)
theorem dX4_lay_26 : decode cX4_lay 26 = .ok (.lconst 0, 1) := dk_9 (dk_at dksX4_lay_1 2 rfl rfl)
theorem dX4_lay_27 : decode cX4_lay 27 = .ok (.aload_n 0, 1) := dk_42 (dk_at dksX4_lay_1 3 rfl rfl)
theorem dX4_lay_28 : decode cX4_lay 28 = .ok (.getfield 35, 3) := dk_180 0 35 (dk_at dksX4_lay_1 4 rfl rfl)
theorem dX4_lay_31 : decode cX4_lay 31 = .ok (.iload_n 1, 1) := dk_27 (dk_at dksX4_lay_1 7 rfl rfl)
theorem dX4_lay_32 : decode cX4_lay 32 = .ok (.iaload, 1) := dk_46 (dk_at dksX4_lay_1 8 rfl rfl)
theorem dX4_lay_33 : decode cX4_lay 33 = .ok (.iconst 1, 1) := dk_4 (dk_at dksX4_lay_1 9 rfl rfl)
theorem dX4_lay_34 : decode cX4_lay 34 = .ok (.isub, 1) := dk_100 (dk_at dksX4_lay_1 10 rfl rfl)
theorem dX4_lay_35 : decode cX4_lay 35 = .ok (.i2l, 1) := dk_133 (dk_at dksX4_lay_1 11 rfl rfl)
theorem dX4_lay_36 : decode cX4_lay 36 = .ok (.invokestatic 76, 3) := dk_184 0 76 (dk_at dksX4_lay_1 12 rfl rfl)
theorem dX4_lay_39 : decode cX4_lay 39 = .ok (.ifCond .ne 6, 3) := dk_154 0 6 (dk_at dksX4_lay_1 15 rfl rfl)
theorem dX4_lay_42 : decode cX4_lay 42 = .ok (.bipush (-12), 2) := dk_16 244 (dk_at dksX4_lay_1 18 rfl rfl)
theorem dX4_lay_44 : decode cX4_lay 44 = .ok (.ireturn, 1) := dk_172 (dk_at dksX4_lay_1 20 rfl rfl)
theorem dX4_lay_45 : decode cX4_lay 45 = .ok (.aload_n 0, 1) := dk_42 (dk_at dksX4_lay_1 21 rfl rfl)
theorem dX4_lay_46 : decode cX4_lay 46 = .ok (.getfield 38, 3) := dk_180 0 38 (dk_at dksX4_lay_2 0 rfl rfl)
theorem dX4_lay_49 : decode cX4_lay 49 = .ok (.bipush 40, 2) := dk_16 40 (dk_at dksX4_lay_2 3 rfl rfl)
theorem dX4_lay_51 : decode cX4_lay 51 = .ok (.iload_n 1, 1) := dk_27 (dk_at dksX4_lay_2 5 rfl rfl)
theorem dX4_lay_52 : decode cX4_lay 52 = .ok (.imul, 1) := dk_104 (dk_at dksX4_lay_2 6 rfl rfl)
theorem dX4_lay_53 : decode cX4_lay 53 = .ok (.iload_n 2, 1) := dk_28 (dk_at dksX4_lay_2 7 rfl rfl)
theorem dX4_lay_54 : decode cX4_lay 54 = .ok (.iadd, 1) := dk_96 (dk_at dksX4_lay_2 8 rfl rfl)
theorem dX4_lay_55 : decode cX4_lay 55 = .ok (.aload_n 0, 1) := dk_42 (dk_at dksX4_lay_2 9 rfl rfl)
theorem dX4_lay_56 : decode cX4_lay 56 = .ok (.getfield 32, 3) := dk_180 0 32 (dk_at dksX4_lay_2 10 rfl rfl)
theorem dX4_lay_59 : decode cX4_lay 59 = .ok (.iload_n 1, 1) := dk_27 (dk_at dksX4_lay_2 13 rfl rfl)
theorem dX4_lay_60 : decode cX4_lay 60 = .ok (.iaload, 1) := dk_46 (dk_at dksX4_lay_2 14 rfl rfl)
theorem dX4_lay_61 : decode cX4_lay 61 = .ok (.ifCond .ne 8, 3) := dk_154 0 8 (dk_at dksX4_lay_2 15 rfl rfl)
theorem dX4_lay_64 : decode cX4_lay 64 = .ok (.iload_n 3, 1) := dk_29 (dk_at dksX4_lay_2 18 rfl rfl)
theorem dX4_lay_65 : decode cX4_lay 65 = .ok (.i2b, 1) := dk_145 (dk_at dksX4_lay_2 19 rfl rfl)
theorem dX4_lay_66 : decode cX4_lay 66 = .ok (.goto 19, 3) := dk_167 0 19 (dk_at dksX4_lay_2 20 rfl rfl)
theorem dX4_lay_69 : decode cX4_lay 69 = .ok (.aload_n 0, 1) := dk_42 (dk_at dksX4_lay_2 23 rfl rfl)
theorem dX4_lay_70 : decode cX4_lay 70 = .ok (.getfield 32, 3) := dk_180 0 32 (dk_at dksX4_lay_3 0 rfl rfl)
theorem dX4_lay_73 : decode cX4_lay 73 = .ok (.iload_n 1, 1) := dk_27 (dk_at dksX4_lay_3 3 rfl rfl)
theorem dX4_lay_74 : decode cX4_lay 74 = .ok (.iaload, 1) := dk_46 (dk_at dksX4_lay_3 4 rfl rfl)
theorem dX4_lay_75 : decode cX4_lay 75 = .ok (.iconst 1, 1) := dk_4 (dk_at dksX4_lay_3 5 rfl rfl)
theorem dX4_lay_76 : decode cX4_lay 76 = .ok (.if_icmp .ne 8, 3) := dk_160 0 8 (dk_at dksX4_lay_3 6 rfl rfl)
theorem dX4_lay_79 : decode cX4_lay 79 = .ok (.iload_n 3, 1) := dk_29 (dk_at dksX4_lay_3 9 rfl rfl)
theorem dX4_lay_80 : decode cX4_lay 80 = .ok (.i2s, 1) := dk_147 (dk_at dksX4_lay_3 10 rfl rfl)
theorem dX4_lay_81 : decode cX4_lay 81 = .ok (.goto 4, 3) := dk_167 0 4 (dk_at dksX4_lay_3 11 rfl rfl)
theorem dX4_lay_84 : decode cX4_lay 84 = .ok (.iload_n 3, 1) := dk_29 (dk_at dksX4_lay_3 14 rfl rfl)
theorem dX4_lay_85 : decode cX4_lay 85 = .ok (.iastore, 1) := dk_79 (dk_at dksX4_lay_3 15 rfl rfl)
theorem dX4_lay_86 : decode cX4_lay 86 = .ok (.iconst 1, 1) := dk_4 (dk_at dksX4_lay_3 16 rfl rfl)
theorem dX4_lay_87 : decode cX4_lay 87 = .ok (.ireturn, 1) := dk_172 (dk_at dksX4_lay_3 17 rfl rfl)
abbrev cX4_read : ByteArray := prog_12_method_89_code
def yX4_read : MethodName := ⟨RX4, "read", "(IIII)I"⟩
def dkwX4_read_12 : List UInt8 := [21, 6, 172]
abbrev dktX4_read_12 : List UInt8 := dkwX4_read_12 ++ []
def dkwX4_read_11 : List UInt8 := [167, 255, 232, 16, 236, 21, 7, 100, 172, 132, 6, 1, 132, 7, 1, 167, 255, 46, 42, 21, 5, 181, 1, 62]
abbrev dktX4_read_11 : List UInt8 := dkwX4_read_11 ++ dktX4_read_12
def dkwX4_read_10 : List UInt8 := [16, 58, 162, 0, 23, 42, 180, 0, 7, 21, 9, 42, 180, 0, 41, 21, 9, 46, 79, 132, 9, 1]
abbrev dktX4_read_10 : List UInt8 := dkwX4_read_10 ++ dktX4_read_11
def dkwX4_read_9 : List UInt8 := [21, 8, 46, 5, 42, 180, 0, 38, 21, 8, 5, 96, 46, 182, 1, 58, 156, 0, 39, 3, 54, 9, 21, 9]
abbrev dktX4_read_9 : List UInt8 := dkwX4_read_9 ++ dktX4_read_10
def dkwX4_read_8 : List UInt8 := [21, 8, 46, 4, 42, 180, 0, 38, 21, 8, 4, 96, 46, 182, 1, 58, 155, 0, 27, 42, 42, 180, 0, 38]
abbrev dktX4_read_8 : List UInt8 := dkwX4_read_8 ++ dktX4_read_9
def dkwX4_read_7 : List UInt8 := [21, 5, 154, 0, 103, 16, 40, 27, 104, 29, 96, 6, 21, 7, 104, 96, 54, 8, 42, 42, 180, 0, 38]
abbrev dktX4_read_7 : List UInt8 := dkwX4_read_7 ++ dktX4_read_8
def dkwX4_read_6 : List UInt8 := [180, 0, 35, 27, 46, 133, 148, 155, 0, 7, 5, 167, 0, 4, 3, 54, 5, 132, 8, 1, 167, 255, 172]
abbrev dktX4_read_6 : List UInt8 := dkwX4_read_6 ++ dktX4_read_7
def dkwX4_read_5 : List UInt8 := [180, 0, 32, 27, 46, 28, 159, 0, 7, 6, 167, 0, 28, 22, 9, 9, 148, 155, 0, 16, 22, 9, 42]
abbrev dktX4_read_5 : List UInt8 := dkwX4_read_5 ++ dktX4_read_6
def dkwX4_read_4 : List UInt8 := [97, 21, 8, 133, 97, 55, 9, 42, 180, 0, 32, 27, 46, 16, 252, 160, 0, 7, 4, 167, 0, 42, 42]
abbrev dktX4_read_4 : List UInt8 := dkwX4_read_4 ++ dktX4_read_5
def dkwX4_read_3 : List UInt8 := [154, 0, 204, 3, 54, 8, 21, 8, 6, 162, 0, 84, 21, 5, 154, 0, 79, 29, 133, 6, 21, 7, 104, 133]
abbrev dktX4_read_3 : List UInt8 := dkwX4_read_3 ++ dktX4_read_4
def dkwX4_read_2 : List UInt8 := [132, 5, 1, 167, 255, 232, 3, 54, 5, 3, 54, 6, 3, 54, 7, 21, 7, 21, 4, 162, 0, 209, 21, 5]
abbrev dktX4_read_2 : List UInt8 := dkwX4_read_2 ++ dktX4_read_3
def dkwX4_read_1 : List UInt8 := [54, 5, 21, 5, 16, 58, 162, 0, 23, 42, 180, 0, 41, 21, 5, 42, 180, 0, 7, 21, 5, 46, 79]
abbrev dktX4_read_1 : List UInt8 := dkwX4_read_1 ++ dktX4_read_2
def dkwX4_read_0 : List UInt8 := [27, 28, 184, 1, 53, 153, 0, 16, 21, 4, 133, 9, 20, 1, 56, 184, 0, 76, 154, 0, 5, 2, 172, 3]
abbrev dktX4_read_0 : List UInt8 := dkwX4_read_0 ++ dktX4_read_1
theorem dksX4_read_0 : cX4_read.data.toList.drop 0 = dktX4_read_0 := by decide +kernel
theorem dksX4_read_1 : cX4_read.data.toList.drop 24 = dktX4_read_1 := dk_seg dksX4_read_0 24 rfl rfl
theorem dksX4_read_2 : cX4_read.data.toList.drop 47 = dktX4_read_2 := dk_seg dksX4_read_1 23 rfl rfl
theorem dksX4_read_3 : cX4_read.data.toList.drop 71 = dktX4_read_3 := dk_seg dksX4_read_2 24 rfl rfl
theorem dksX4_read_4 : cX4_read.data.toList.drop 95 = dktX4_read_4 := dk_seg dksX4_read_3 24 rfl rfl
theorem dksX4_read_5 : cX4_read.data.toList.drop 118 = dktX4_read_5 := dk_seg dksX4_read_4 23 rfl rfl
theorem dksX4_read_6 : cX4_read.data.toList.drop 141 = dktX4_read_6 := dk_seg dksX4_read_5 23 rfl rfl
theorem dksX4_read_7 : cX4_read.data.toList.drop 164 = dktX4_read_7 := dk_seg dksX4_read_6 23 rfl rfl
theorem dksX4_read_8 : cX4_read.data.toList.drop 187 = dktX4_read_8 := dk_seg dksX4_read_7 23 rfl rfl
theorem dksX4_read_9 : cX4_read.data.toList.drop 211 = dktX4_read_9 := dk_seg dksX4_read_8 24 rfl rfl
theorem dksX4_read_10 : cX4_read.data.toList.drop 235 = dktX4_read_10 := dk_seg dksX4_read_9 24 rfl rfl
theorem dksX4_read_11 : cX4_read.data.toList.drop 257 = dktX4_read_11 := dk_seg dksX4_read_10 22 rfl rfl
theorem dksX4_read_12 : cX4_read.data.toList.drop 281 = dktX4_read_12 := dk_seg dksX4_read_11 24 rfl rfl
theorem dX4_read_0 : decode cX4_read 0 = .ok (.iload_n 1, 1) := dk_27 (dk_at dksX4_read_0 0 rfl rfl)
theorem dX4_read_1 : decode cX4_read 1 = .ok (.iload_n 2, 1) := dk_28 (dk_at dksX4_read_0 1 rfl rfl)
theorem dX4_read_2 : decode cX4_read 2 = .ok (.invokestatic 309, 3) := dk_184 1 53 (dk_at dksX4_read_0 2 rfl rfl)
theorem dX4_read_5 : decode cX4_read 5 = .ok (.ifCond .eq 16, 3) := dk_153 0 16 (dk_at dksX4_read_0 5 rfl rfl)
theorem dX4_read_8 : decode cX4_read 8 = .ok (.iload 4, 2) := dk_21 4 (dk_at dksX4_read_0 8 rfl rfl)
theorem dX4_read_10 : decode cX4_read 10 = .ok (.i2l, 1) := dk_133 (dk_at dksX4_read_0 10 rfl rfl)
theorem dX4_read_11 : decode cX4_read 11 = .ok (.lconst 0, 1) := dk_9 (dk_at dksX4_read_0 11 rfl rfl)
theorem dX4_read_12 : decode cX4_read 12 = .ok (.ldc2_w 312, 3) := dk_20 1 56 (dk_at dksX4_read_0 12 rfl rfl)
theorem dX4_read_15 : decode cX4_read 15 = .ok (.invokestatic 76, 3) := dk_184 0 76 (dk_at dksX4_read_0 15 rfl rfl)
theorem dX4_read_18 : decode cX4_read 18 = .ok (.ifCond .ne 5, 3) := dk_154 0 5 (dk_at dksX4_read_0 18 rfl rfl)
theorem dX4_read_21 : decode cX4_read 21 = .ok (.iconst (-1), 1) := dk_2 (dk_at dksX4_read_0 21 rfl rfl)
theorem dX4_read_22 : decode cX4_read 22 = .ok (.ireturn, 1) := dk_172 (dk_at dksX4_read_0 22 rfl rfl)
theorem dX4_read_23 : decode cX4_read 23 = .ok (.iconst 0, 1) := dk_3 (dk_at dksX4_read_0 23 rfl rfl)
theorem dX4_read_24 : decode cX4_read 24 = .ok (.istore 5, 2) := dk_54 5 (dk_at dksX4_read_1 0 rfl rfl)
theorem dX4_read_26 : decode cX4_read 26 = .ok (.iload 5, 2) := dk_21 5 (dk_at dksX4_read_1 2 rfl rfl)
theorem dX4_read_28 : decode cX4_read 28 = .ok (.bipush 58, 2) := dk_16 58 (dk_at dksX4_read_1 4 rfl rfl)
theorem dX4_read_30 : decode cX4_read 30 = .ok (.if_icmp .ge 23, 3) := dk_162 0 23 (dk_at dksX4_read_1 6 rfl rfl)
theorem dX4_read_33 : decode cX4_read 33 = .ok (.aload_n 0, 1) := dk_42 (dk_at dksX4_read_1 9 rfl rfl)
theorem dX4_read_34 : decode cX4_read 34 = .ok (.getfield 41, 3) := dk_180 0 41 (dk_at dksX4_read_1 10 rfl rfl)
theorem dX4_read_37 : decode cX4_read 37 = .ok (.iload 5, 2) := dk_21 5 (dk_at dksX4_read_1 13 rfl rfl)
theorem dX4_read_39 : decode cX4_read 39 = .ok (.aload_n 0, 1) := dk_42 (dk_at dksX4_read_1 15 rfl rfl)
theorem dX4_read_40 : decode cX4_read 40 = .ok (.getfield 7, 3) := dk_180 0 7 (dk_at dksX4_read_1 16 rfl rfl)
theorem dX4_read_43 : decode cX4_read 43 = .ok (.iload 5, 2) := dk_21 5 (dk_at dksX4_read_1 19 rfl rfl)
theorem dX4_read_45 : decode cX4_read 45 = .ok (.iaload, 1) := dk_46 (dk_at dksX4_read_1 21 rfl rfl)
theorem dX4_read_46 : decode cX4_read 46 = .ok (.iastore, 1) := dk_79 (dk_at dksX4_read_1 22 rfl rfl)
theorem dX4_read_47 : decode cX4_read 47 = .ok (.iinc 5 1, 3) := dk_132 5 1 (dk_at dksX4_read_2 0 rfl rfl)
theorem dX4_read_50 : decode cX4_read 50 = .ok (.goto (-24), 3) := dk_167 255 232 (dk_at dksX4_read_2 3 rfl rfl)
theorem dX4_read_53 : decode cX4_read 53 = .ok (.iconst 0, 1) := dk_3 (dk_at dksX4_read_2 6 rfl rfl)
theorem dX4_read_54 : decode cX4_read 54 = .ok (.istore 5, 2) := dk_54 5 (dk_at dksX4_read_2 7 rfl rfl)
theorem dX4_read_56 : decode cX4_read 56 = .ok (.iconst 0, 1) := dk_3 (dk_at dksX4_read_2 9 rfl rfl)
theorem dX4_read_57 : decode cX4_read 57 = .ok (.istore 6, 2) := dk_54 6 (dk_at dksX4_read_2 10 rfl rfl)
theorem dX4_read_59 : decode cX4_read 59 = .ok (.iconst 0, 1) := dk_3 (dk_at dksX4_read_2 12 rfl rfl)
theorem dX4_read_60 : decode cX4_read 60 = .ok (.istore 7, 2) := dk_54 7 (dk_at dksX4_read_2 13 rfl rfl)
theorem dX4_read_62 : decode cX4_read 62 = .ok (.iload 7, 2) := dk_21 7 (dk_at dksX4_read_2 15 rfl rfl)
theorem dX4_read_64 : decode cX4_read 64 = .ok (.iload 4, 2) := dk_21 4 (dk_at dksX4_read_2 17 rfl rfl)
theorem dX4_read_66 : decode cX4_read 66 = .ok (.if_icmp .ge 209, 3) := dk_162 0 209 (dk_at dksX4_read_2 19 rfl rfl)
theorem dX4_read_69 : decode cX4_read 69 = .ok (.iload 5, 2) := dk_21 5 (dk_at dksX4_read_2 22 rfl rfl)
theorem dX4_read_71 : decode cX4_read 71 = .ok (.ifCond .ne 204, 3) := dk_154 0 204 (dk_at dksX4_read_3 0 rfl rfl)
theorem dX4_read_74 : decode cX4_read 74 = .ok (.iconst 0, 1) := dk_3 (dk_at dksX4_read_3 3 rfl rfl)
theorem dX4_read_75 : decode cX4_read 75 = .ok (.istore 8, 2) := dk_54 8 (dk_at dksX4_read_3 4 rfl rfl)
theorem dX4_read_77 : decode cX4_read 77 = .ok (.iload 8, 2) := dk_21 8 (dk_at dksX4_read_3 6 rfl rfl)
theorem dX4_read_79 : decode cX4_read 79 = .ok (.iconst 3, 1) := dk_6 (dk_at dksX4_read_3 8 rfl rfl)
theorem dX4_read_80 : decode cX4_read 80 = .ok (.if_icmp .ge 84, 3) := dk_162 0 84 (dk_at dksX4_read_3 9 rfl rfl)
theorem dX4_read_83 : decode cX4_read 83 = .ok (.iload 5, 2) := dk_21 5 (dk_at dksX4_read_3 12 rfl rfl)
theorem dX4_read_85 : decode cX4_read 85 = .ok (.ifCond .ne 79, 3) := dk_154 0 79 (dk_at dksX4_read_3 14 rfl rfl)
theorem dX4_read_88 : decode cX4_read 88 = .ok (.iload_n 3, 1) := dk_29 (dk_at dksX4_read_3 17 rfl rfl)
theorem dX4_read_89 : decode cX4_read 89 = .ok (.i2l, 1) := dk_133 (dk_at dksX4_read_3 18 rfl rfl)
theorem dX4_read_90 : decode cX4_read 90 = .ok (.iconst 3, 1) := dk_6 (dk_at dksX4_read_3 19 rfl rfl)
theorem dX4_read_91 : decode cX4_read 91 = .ok (.iload 7, 2) := dk_21 7 (dk_at dksX4_read_3 20 rfl rfl)
theorem dX4_read_93 : decode cX4_read 93 = .ok (.imul, 1) := dk_104 (dk_at dksX4_read_3 22 rfl rfl)
theorem dX4_read_94 : decode cX4_read 94 = .ok (.i2l, 1) := dk_133 (dk_at dksX4_read_3 23 rfl rfl)
theorem dX4_read_95 : decode cX4_read 95 = .ok (.ladd, 1) := dk_97 (dk_at dksX4_read_4 0 rfl rfl)
theorem dX4_read_96 : decode cX4_read 96 = .ok (.iload 8, 2) := dk_21 8 (dk_at dksX4_read_4 1 rfl rfl)
theorem dX4_read_98 : decode cX4_read 98 = .ok (.i2l, 1) := dk_133 (dk_at dksX4_read_4 3 rfl rfl)
theorem dX4_read_99 : decode cX4_read 99 = .ok (.ladd, 1) := dk_97 (dk_at dksX4_read_4 4 rfl rfl)
theorem dX4_read_100 : decode cX4_read 100 = .ok (.lstore 9, 2) := dk_55 9 (dk_at dksX4_read_4 5 rfl rfl)
theorem dX4_read_102 : decode cX4_read 102 = .ok (.aload_n 0, 1) := dk_42 (dk_at dksX4_read_4 7 rfl rfl)
theorem dX4_read_103 : decode cX4_read 103 = .ok (.getfield 32, 3) := dk_180 0 32 (dk_at dksX4_read_4 8 rfl rfl)
theorem dX4_read_106 : decode cX4_read 106 = .ok (.iload_n 1, 1) := dk_27 (dk_at dksX4_read_4 11 rfl rfl)
theorem dX4_read_107 : decode cX4_read 107 = .ok (.iaload, 1) := dk_46 (dk_at dksX4_read_4 12 rfl rfl)
theorem dX4_read_108 : decode cX4_read 108 = .ok (.bipush (-4), 2) := dk_16 252 (dk_at dksX4_read_4 13 rfl rfl)
theorem dX4_read_110 : decode cX4_read 110 = .ok (.if_icmp .ne 7, 3) := dk_160 0 7 (dk_at dksX4_read_4 15 rfl rfl)
theorem dX4_read_113 : decode cX4_read 113 = .ok (.iconst 1, 1) := dk_4 (dk_at dksX4_read_4 18 rfl rfl)
theorem dX4_read_114 : decode cX4_read 114 = .ok (.goto 42, 3) := dk_167 0 42 (dk_at dksX4_read_4 19 rfl rfl)
theorem dX4_read_117 : decode cX4_read 117 = .ok (.aload_n 0, 1) := dk_42 (dk_at dksX4_read_4 22 rfl rfl)
theorem dX4_read_118 : decode cX4_read 118 = .ok (.getfield 32, 3) := dk_180 0 32 (dk_at dksX4_read_5 0 rfl rfl)
theorem dX4_read_121 : decode cX4_read 121 = .ok (.iload_n 1, 1) := dk_27 (dk_at dksX4_read_5 3 rfl rfl)
theorem dX4_read_122 : decode cX4_read 122 = .ok (.iaload, 1) := dk_46 (dk_at dksX4_read_5 4 rfl rfl)
theorem dX4_read_123 : decode cX4_read 123 = .ok (.iload_n 2, 1) := dk_28 (dk_at dksX4_read_5 5 rfl rfl)
theorem dX4_read_124 : decode cX4_read 124 = .ok (.if_icmp .eq 7, 3) := dk_159 0 7 (dk_at dksX4_read_5 6 rfl rfl)
theorem dX4_read_127 : decode cX4_read 127 = .ok (.iconst 3, 1) := dk_6 (dk_at dksX4_read_5 9 rfl rfl)
theorem dX4_read_128 : decode cX4_read 128 = .ok (.goto 28, 3) := dk_167 0 28 (dk_at dksX4_read_5 10 rfl rfl)
theorem dX4_read_131 : decode cX4_read 131 = .ok (.lload 9, 2) := dk_22 9 (dk_at dksX4_read_5 13 rfl rfl)
theorem dX4_read_133 : decode cX4_read 133 = .ok (.lconst 0, 1) := dk_9 (dk_at dksX4_read_5 15 rfl rfl)
theorem dX4_read_134 : decode cX4_read 134 = .ok (.lcmp, 1) := dk_148 (dk_at dksX4_read_5 16 rfl rfl)
theorem dX4_read_135 : decode cX4_read 135 = .ok (.ifCond .lt 16, 3) := dk_155 0 16 (dk_at dksX4_read_5 17 rfl rfl)
theorem dX4_read_138 : decode cX4_read 138 = .ok (.lload 9, 2) := dk_22 9 (dk_at dksX4_read_5 20 rfl rfl)
theorem dX4_read_140 : decode cX4_read 140 = .ok (.aload_n 0, 1) := dk_42 (dk_at dksX4_read_5 22 rfl rfl)
theorem dX4_read_141 : decode cX4_read 141 = .ok (.getfield 35, 3) := dk_180 0 35 (dk_at dksX4_read_6 0 rfl rfl)
theorem dX4_read_144 : decode cX4_read 144 = .ok (.iload_n 1, 1) := dk_27 (dk_at dksX4_read_6 3 rfl rfl)
theorem dX4_read_145 : decode cX4_read 145 = .ok (.iaload, 1) := dk_46 (dk_at dksX4_read_6 4 rfl rfl)
theorem dX4_read_146 : decode cX4_read 146 = .ok (.i2l, 1) := dk_133 (dk_at dksX4_read_6 5 rfl rfl)
theorem dX4_read_147 : decode cX4_read 147 = .ok (.lcmp, 1) := dk_148 (dk_at dksX4_read_6 6 rfl rfl)
theorem dX4_read_148 : decode cX4_read 148 = .ok (.ifCond .lt 7, 3) := dk_155 0 7 (dk_at dksX4_read_6 7 rfl rfl)
theorem dX4_read_151 : decode cX4_read 151 = .ok (.iconst 2, 1) := dk_5 (dk_at dksX4_read_6 10 rfl rfl)
theorem dX4_read_152 : decode cX4_read 152 = .ok (.goto 4, 3) := dk_167 0 4 (dk_at dksX4_read_6 11 rfl rfl)
theorem dX4_read_155 : decode cX4_read 155 = .ok (.iconst 0, 1) := dk_3 (dk_at dksX4_read_6 14 rfl rfl)
theorem dX4_read_156 : decode cX4_read 156 = .ok (.istore 5, 2) := dk_54 5 (dk_at dksX4_read_6 15 rfl rfl)
theorem dX4_read_158 : decode cX4_read 158 = .ok (.iinc 8 1, 3) := dk_132 8 1 (dk_at dksX4_read_6 17 rfl rfl)
theorem dX4_read_161 : decode cX4_read 161 = .ok (.goto (-84), 3) := dk_167 255 172 (dk_at dksX4_read_6 20 rfl rfl)
theorem dX4_read_164 : decode cX4_read 164 = .ok (.iload 5, 2) := dk_21 5 (dk_at dksX4_read_7 0 rfl rfl)
theorem dX4_read_166 : decode cX4_read 166 = .ok (.ifCond .ne 103, 3) := dk_154 0 103 (dk_at dksX4_read_7 2 rfl rfl)
theorem dX4_read_169 : decode cX4_read 169 = .ok (.bipush 40, 2) := dk_16 40 (dk_at dksX4_read_7 5 rfl rfl)
theorem dX4_read_171 : decode cX4_read 171 = .ok (.iload_n 1, 1) := dk_27 (dk_at dksX4_read_7 7 rfl rfl)
theorem dX4_read_172 : decode cX4_read 172 = .ok (.imul, 1) := dk_104 (dk_at dksX4_read_7 8 rfl rfl)
theorem dX4_read_173 : decode cX4_read 173 = .ok (.iload_n 3, 1) := dk_29 (dk_at dksX4_read_7 9 rfl rfl)
theorem dX4_read_174 : decode cX4_read 174 = .ok (.iadd, 1) := dk_96 (dk_at dksX4_read_7 10 rfl rfl)
theorem dX4_read_175 : decode cX4_read 175 = .ok (.iconst 3, 1) := dk_6 (dk_at dksX4_read_7 11 rfl rfl)
theorem dX4_read_176 : decode cX4_read 176 = .ok (.iload 7, 2) := dk_21 7 (dk_at dksX4_read_7 12 rfl rfl)
theorem dX4_read_178 : decode cX4_read 178 = .ok (.imul, 1) := dk_104 (dk_at dksX4_read_7 14 rfl rfl)
theorem dX4_read_179 : decode cX4_read 179 = .ok (.iadd, 1) := dk_96 (dk_at dksX4_read_7 15 rfl rfl)
theorem dX4_read_180 : decode cX4_read 180 = .ok (.istore 8, 2) := dk_54 8 (dk_at dksX4_read_7 16 rfl rfl)
theorem dX4_read_182 : decode cX4_read 182 = .ok (.aload_n 0, 1) := dk_42 (dk_at dksX4_read_7 18 rfl rfl)
theorem dX4_read_183 : decode cX4_read 183 = .ok (.aload_n 0, 1) := dk_42 (dk_at dksX4_read_7 19 rfl rfl)
theorem dX4_read_184 : decode cX4_read 184 = .ok (.getfield 38, 3) := dk_180 0 38 (dk_at dksX4_read_7 20 rfl rfl)
theorem dX4_read_187 : decode cX4_read 187 = .ok (.iload 8, 2) := dk_21 8 (dk_at dksX4_read_8 0 rfl rfl)
theorem dX4_read_189 : decode cX4_read 189 = .ok (.iaload, 1) := dk_46 (dk_at dksX4_read_8 2 rfl rfl)
theorem dX4_read_190 : decode cX4_read 190 = .ok (.iconst 1, 1) := dk_4 (dk_at dksX4_read_8 3 rfl rfl)
theorem dX4_read_191 : decode cX4_read 191 = .ok (.aload_n 0, 1) := dk_42 (dk_at dksX4_read_8 4 rfl rfl)
theorem dX4_read_192 : decode cX4_read 192 = .ok (.getfield 38, 3) := dk_180 0 38 (dk_at dksX4_read_8 5 rfl rfl)
theorem dX4_read_195 : decode cX4_read 195 = .ok (.iload 8, 2) := dk_21 8 (dk_at dksX4_read_8 8 rfl rfl)
theorem dX4_read_197 : decode cX4_read 197 = .ok (.iconst 1, 1) := dk_4 (dk_at dksX4_read_8 10 rfl rfl)
theorem dX4_read_198 : decode cX4_read 198 = .ok (.iadd, 1) := dk_96 (dk_at dksX4_read_8 11 rfl rfl)
theorem dX4_read_199 : decode cX4_read 199 = .ok (.iaload, 1) := dk_46 (dk_at dksX4_read_8 12 rfl rfl)
theorem dX4_read_200 : decode cX4_read 200 = .ok (.invokevirtual 314, 3) := dk_182 1 58 (dk_at dksX4_read_8 13 rfl rfl)
theorem dX4_read_203 : decode cX4_read 203 = .ok (.ifCond .lt 27, 3) := dk_155 0 27 (dk_at dksX4_read_8 16 rfl rfl)
theorem dX4_read_206 : decode cX4_read 206 = .ok (.aload_n 0, 1) := dk_42 (dk_at dksX4_read_8 19 rfl rfl)
theorem dX4_read_207 : decode cX4_read 207 = .ok (.aload_n 0, 1) := dk_42 (dk_at dksX4_read_8 20 rfl rfl)
theorem dX4_read_208 : decode cX4_read 208 = .ok (.getfield 38, 3) := dk_180 0 38 (dk_at dksX4_read_8 21 rfl rfl)
theorem dX4_read_211 : decode cX4_read 211 = .ok (.iload 8, 2) := dk_21 8 (dk_at dksX4_read_9 0 rfl rfl)
theorem dX4_read_213 : decode cX4_read 213 = .ok (.iaload, 1) := dk_46 (dk_at dksX4_read_9 2 rfl rfl)
theorem dX4_read_214 : decode cX4_read 214 = .ok (.iconst 2, 1) := dk_5 (dk_at dksX4_read_9 3 rfl rfl)
theorem dX4_read_215 : decode cX4_read 215 = .ok (.aload_n 0, 1) := dk_42 (dk_at dksX4_read_9 4 rfl rfl)
theorem dX4_read_216 : decode cX4_read 216 = .ok (.getfield 38, 3) := dk_180 0 38 (dk_at dksX4_read_9 5 rfl rfl)
theorem dX4_read_219 : decode cX4_read 219 = .ok (.iload 8, 2) := dk_21 8 (dk_at dksX4_read_9 8 rfl rfl)
theorem dX4_read_221 : decode cX4_read 221 = .ok (.iconst 2, 1) := dk_5 (dk_at dksX4_read_9 10 rfl rfl)
theorem dX4_read_222 : decode cX4_read 222 = .ok (.iadd, 1) := dk_96 (dk_at dksX4_read_9 11 rfl rfl)
theorem dX4_read_223 : decode cX4_read 223 = .ok (.iaload, 1) := dk_46 (dk_at dksX4_read_9 12 rfl rfl)
theorem dX4_read_224 : decode cX4_read 224 = .ok (.invokevirtual 314, 3) := dk_182 1 58 (dk_at dksX4_read_9 13 rfl rfl)
theorem dX4_read_227 : decode cX4_read 227 = .ok (.ifCond .ge 39, 3) := dk_156 0 39 (dk_at dksX4_read_9 16 rfl rfl)
theorem dX4_read_230 : decode cX4_read 230 = .ok (.iconst 0, 1) := dk_3 (dk_at dksX4_read_9 19 rfl rfl)
theorem dX4_read_231 : decode cX4_read 231 = .ok (.istore 9, 2) := dk_54 9 (dk_at dksX4_read_9 20 rfl rfl)
theorem dX4_read_233 : decode cX4_read 233 = .ok (.iload 9, 2) := dk_21 9 (dk_at dksX4_read_9 22 rfl rfl)
theorem dX4_read_235 : decode cX4_read 235 = .ok (.bipush 58, 2) := dk_16 58 (dk_at dksX4_read_10 0 rfl rfl)
theorem dX4_read_237 : decode cX4_read 237 = .ok (.if_icmp .ge 23, 3) := dk_162 0 23 (dk_at dksX4_read_10 2 rfl rfl)
theorem dX4_read_240 : decode cX4_read 240 = .ok (.aload_n 0, 1) := dk_42 (dk_at dksX4_read_10 5 rfl rfl)
theorem dX4_read_241 : decode cX4_read 241 = .ok (.getfield 7, 3) := dk_180 0 7 (dk_at dksX4_read_10 6 rfl rfl)
theorem dX4_read_244 : decode cX4_read 244 = .ok (.iload 9, 2) := dk_21 9 (dk_at dksX4_read_10 9 rfl rfl)
theorem dX4_read_246 : decode cX4_read 246 = .ok (.aload_n 0, 1) := dk_42 (dk_at dksX4_read_10 11 rfl rfl)
theorem dX4_read_247 : decode cX4_read 247 = .ok (.getfield 41, 3) := dk_180 0 41 (dk_at dksX4_read_10 12 rfl rfl)
theorem dX4_read_250 : decode cX4_read 250 = .ok (.iload 9, 2) := dk_21 9 (dk_at dksX4_read_10 15 rfl rfl)
theorem dX4_read_252 : decode cX4_read 252 = .ok (.iaload, 1) := dk_46 (dk_at dksX4_read_10 17 rfl rfl)
theorem dX4_read_253 : decode cX4_read 253 = .ok (.iastore, 1) := dk_79 (dk_at dksX4_read_10 18 rfl rfl)
theorem dX4_read_254 : decode cX4_read 254 = .ok (.iinc 9 1, 3) := dk_132 9 1 (dk_at dksX4_read_10 19 rfl rfl)
theorem dX4_read_257 : decode cX4_read 257 = .ok (.goto (-24), 3) := dk_167 255 232 (dk_at dksX4_read_11 0 rfl rfl)
theorem dX4_read_260 : decode cX4_read 260 = .ok (.bipush (-20), 2) := dk_16 236 (dk_at dksX4_read_11 3 rfl rfl)
theorem dX4_read_262 : decode cX4_read 262 = .ok (.iload 7, 2) := dk_21 7 (dk_at dksX4_read_11 5 rfl rfl)
theorem dX4_read_264 : decode cX4_read 264 = .ok (.isub, 1) := dk_100 (dk_at dksX4_read_11 7 rfl rfl)
theorem dX4_read_265 : decode cX4_read 265 = .ok (.ireturn, 1) := dk_172 (dk_at dksX4_read_11 8 rfl rfl)
theorem dX4_read_266 : decode cX4_read 266 = .ok (.iinc 6 1, 3) := dk_132 6 1 (dk_at dksX4_read_11 9 rfl rfl)
theorem dX4_read_269 : decode cX4_read 269 = .ok (.iinc 7 1, 3) := dk_132 7 1 (dk_at dksX4_read_11 12 rfl rfl)
theorem dX4_read_272 : decode cX4_read 272 = .ok (.goto (-210), 3) := dk_167 255 46 (dk_at dksX4_read_11 15 rfl rfl)
theorem dX4_read_275 : decode cX4_read 275 = .ok (.aload_n 0, 1) := dk_42 (dk_at dksX4_read_11 18 rfl rfl)
theorem dX4_read_276 : decode cX4_read 276 = .ok (.iload 5, 2) := dk_21 5 (dk_at dksX4_read_11 19 rfl rfl)
theorem dX4_read_278 : decode cX4_read 278 = .ok (.putfield 318, 3) := dk_181 1 62 (dk_at dksX4_read_11 21 rfl rfl)
theorem dX4_read_281 : decode cX4_read 281 = .ok (.iload 6, 2) := dk_21 6 (dk_at dksX4_read_12 0 rfl rfl)
theorem dX4_read_283 : decode cX4_read 283 = .ok (.ireturn, 1) := dk_172 (dk_at dksX4_read_12 2 rfl rfl)
abbrev cX4_torn : ByteArray := prog_12_method_90_code
def yX4_torn : MethodName := ⟨RX4, "torn", "()I"⟩
theorem dX4_torn_0 : decode cX4_torn 0 = .ok (.aload_n 0, 1) := by decide +kernel
theorem dX4_torn_1 : decode cX4_torn 1 = .ok (.getfield 318, 3) := by decide +kernel
theorem dX4_torn_4 : decode cX4_torn 4 = .ok (.ireturn, 1) := by decide +kernel
abbrev cX4_count : ByteArray := prog_12_method_91_code
def yX4_count : MethodName := ⟨RX4, "count", "(I)I"⟩
def dkwX4_count_6 : List UInt8 := [167, 0, 9, 42, 180, 0, 35, 3, 46, 172, 28, 172, 29, 172, 2, 172]
abbrev dktX4_count_6 : List UInt8 := dkwX4_count_6 ++ []
def dkwX4_count_5 : List UInt8 := [184, 0, 169, 96, 172, 42, 180, 0, 80, 172, 42, 180, 0, 32, 3, 46, 16, 252, 160, 0, 8, 16, 252]
abbrev dktX4_count_5 : List UInt8 := dkwX4_count_5 ++ dktX4_count_6
def dkwX4_count_4 : List UInt8 := [42, 180, 0, 7, 16, 39, 46, 172, 42, 180, 0, 16, 3, 51, 184, 0, 169, 42, 180, 0, 16, 4, 51]
abbrev dktX4_count_4 : List UInt8 := dkwX4_count_4 ++ dktX4_count_5
def dkwX4_count_3 : List UInt8 := [170, 0, 0, 0, 0, 98, 0, 0, 0, 0, 0, 0, 0, 5, 0, 0, 0, 38, 0, 0, 0, 46, 0, 0, 0, 66, 0, 0, 0, 71, 0, 0, 0, 94, 0, 0, 0, 96]
abbrev dktX4_count_3 : List UInt8 := dkwX4_count_3 ++ dktX4_count_4
def dkwX4_count_2 : List UInt8 := [162, 0, 23, 29, 42, 180, 0, 7, 5, 21, 4, 104, 3, 96, 46, 96, 62, 132, 4, 1, 167, 255, 232, 27]
abbrev dktX4_count_2 : List UInt8 := dkwX4_count_2 ++ dktX4_count_3
def dkwX4_count_1 : List UInt8 := [21, 4, 104, 96, 3, 96, 46, 96, 61, 132, 4, 1, 167, 255, 227, 3, 54, 4, 21, 4, 16, 6]
abbrev dktX4_count_1 : List UInt8 := dkwX4_count_1 ++ dktX4_count_2
def dkwX4_count_0 : List UInt8 := [3, 61, 3, 62, 3, 54, 4, 21, 4, 42, 180, 0, 71, 162, 0, 26, 28, 42, 180, 0, 7, 16, 30, 5]
abbrev dktX4_count_0 : List UInt8 := dkwX4_count_0 ++ dktX4_count_1
theorem dksX4_count_0 : cX4_count.data.toList.drop 0 = dktX4_count_0 := by decide +kernel
theorem dksX4_count_1 : cX4_count.data.toList.drop 24 = dktX4_count_1 := dk_seg dksX4_count_0 24 rfl rfl
theorem dksX4_count_2 : cX4_count.data.toList.drop 46 = dktX4_count_2 := dk_seg dksX4_count_1 22 rfl rfl
theorem dksX4_count_3 : cX4_count.data.toList.drop 70 = dktX4_count_3 := dk_seg dksX4_count_2 24 rfl rfl
theorem dksX4_count_4 : cX4_count.data.toList.drop 108 = dktX4_count_4 := dk_seg dksX4_count_3 38 rfl rfl
theorem dksX4_count_5 : cX4_count.data.toList.drop 131 = dktX4_count_5 := dk_seg dksX4_count_4 23 rfl rfl
theorem dksX4_count_6 : cX4_count.data.toList.drop 154 = dktX4_count_6 := dk_seg dksX4_count_5 23 rfl rfl
theorem dX4_count_0 : decode cX4_count 0 = .ok (.iconst 0, 1) := dk_3 (dk_at dksX4_count_0 0 rfl rfl)
theorem dX4_count_1 : decode cX4_count 1 = .ok (.istore_n 2, 1) := dk_61 (dk_at dksX4_count_0 1 rfl rfl)
theorem dX4_count_2 : decode cX4_count 2 = .ok (.iconst 0, 1) := dk_3 (dk_at dksX4_count_0 2 rfl rfl)
theorem dX4_count_3 : decode cX4_count 3 = .ok (.istore_n 3, 1) := dk_62 (dk_at dksX4_count_0 3 rfl rfl)
theorem dX4_count_4 : decode cX4_count 4 = .ok (.iconst 0, 1) := dk_3 (dk_at dksX4_count_0 4 rfl rfl)
theorem dX4_count_5 : decode cX4_count 5 = .ok (.istore 4, 2) := dk_54 4 (dk_at dksX4_count_0 5 rfl rfl)
theorem dX4_count_7 : decode cX4_count 7 = .ok (.iload 4, 2) := dk_21 4 (dk_at dksX4_count_0 7 rfl rfl)
theorem dX4_count_9 : decode cX4_count 9 = .ok (.aload_n 0, 1) := dk_42 (dk_at dksX4_count_0 9 rfl rfl)
theorem dX4_count_10 : decode cX4_count 10 = .ok (.getfield 71, 3) := dk_180 0 71 (dk_at dksX4_count_0 10 rfl rfl)
theorem dX4_count_13 : decode cX4_count 13 = .ok (.if_icmp .ge 26, 3) := dk_162 0 26 (dk_at dksX4_count_0 13 rfl rfl)
theorem dX4_count_16 : decode cX4_count 16 = .ok (.iload_n 2, 1) := dk_28 (dk_at dksX4_count_0 16 rfl rfl)
theorem dX4_count_17 : decode cX4_count 17 = .ok (.aload_n 0, 1) := dk_42 (dk_at dksX4_count_0 17 rfl rfl)
theorem dX4_count_18 : decode cX4_count 18 = .ok (.getfield 7, 3) := dk_180 0 7 (dk_at dksX4_count_0 18 rfl rfl)
theorem dX4_count_21 : decode cX4_count 21 = .ok (.bipush 30, 2) := dk_16 30 (dk_at dksX4_count_0 21 rfl rfl)
theorem dX4_count_23 : decode cX4_count 23 = .ok (.iconst 2, 1) := dk_5 (dk_at dksX4_count_0 23 rfl rfl)
theorem dX4_count_24 : decode cX4_count 24 = .ok (.iload 4, 2) := dk_21 4 (dk_at dksX4_count_1 0 rfl rfl)
theorem dX4_count_26 : decode cX4_count 26 = .ok (.imul, 1) := dk_104 (dk_at dksX4_count_1 2 rfl rfl)
theorem dX4_count_27 : decode cX4_count 27 = .ok (.iadd, 1) := dk_96 (dk_at dksX4_count_1 3 rfl rfl)
theorem dX4_count_28 : decode cX4_count 28 = .ok (.iconst 0, 1) := dk_3 (dk_at dksX4_count_1 4 rfl rfl)
theorem dX4_count_29 : decode cX4_count 29 = .ok (.iadd, 1) := dk_96 (dk_at dksX4_count_1 5 rfl rfl)
theorem dX4_count_30 : decode cX4_count 30 = .ok (.iaload, 1) := dk_46 (dk_at dksX4_count_1 6 rfl rfl)
theorem dX4_count_31 : decode cX4_count 31 = .ok (.iadd, 1) := dk_96 (dk_at dksX4_count_1 7 rfl rfl)
theorem dX4_count_32 : decode cX4_count 32 = .ok (.istore_n 2, 1) := dk_61 (dk_at dksX4_count_1 8 rfl rfl)
theorem dX4_count_33 : decode cX4_count 33 = .ok (.iinc 4 1, 3) := dk_132 4 1 (dk_at dksX4_count_1 9 rfl rfl)
theorem dX4_count_36 : decode cX4_count 36 = .ok (.goto (-29), 3) := dk_167 255 227 (dk_at dksX4_count_1 12 rfl rfl)
theorem dX4_count_39 : decode cX4_count 39 = .ok (.iconst 0, 1) := dk_3 (dk_at dksX4_count_1 15 rfl rfl)
theorem dX4_count_40 : decode cX4_count 40 = .ok (.istore 4, 2) := dk_54 4 (dk_at dksX4_count_1 16 rfl rfl)
theorem dX4_count_42 : decode cX4_count 42 = .ok (.iload 4, 2) := dk_21 4 (dk_at dksX4_count_1 18 rfl rfl)
theorem dX4_count_44 : decode cX4_count 44 = .ok (.bipush 6, 2) := dk_16 6 (dk_at dksX4_count_1 20 rfl rfl)
theorem dX4_count_46 : decode cX4_count 46 = .ok (.if_icmp .ge 23, 3) := dk_162 0 23 (dk_at dksX4_count_2 0 rfl rfl)
theorem dX4_count_49 : decode cX4_count 49 = .ok (.iload_n 3, 1) := dk_29 (dk_at dksX4_count_2 3 rfl rfl)
theorem dX4_count_50 : decode cX4_count 50 = .ok (.aload_n 0, 1) := dk_42 (dk_at dksX4_count_2 4 rfl rfl)
theorem dX4_count_51 : decode cX4_count 51 = .ok (.getfield 7, 3) := dk_180 0 7 (dk_at dksX4_count_2 5 rfl rfl)
theorem dX4_count_54 : decode cX4_count 54 = .ok (.iconst 2, 1) := dk_5 (dk_at dksX4_count_2 8 rfl rfl)
theorem dX4_count_55 : decode cX4_count 55 = .ok (.iload 4, 2) := dk_21 4 (dk_at dksX4_count_2 9 rfl rfl)
theorem dX4_count_57 : decode cX4_count 57 = .ok (.imul, 1) := dk_104 (dk_at dksX4_count_2 11 rfl rfl)
theorem dX4_count_58 : decode cX4_count 58 = .ok (.iconst 0, 1) := dk_3 (dk_at dksX4_count_2 12 rfl rfl)
theorem dX4_count_59 : decode cX4_count 59 = .ok (.iadd, 1) := dk_96 (dk_at dksX4_count_2 13 rfl rfl)
theorem dX4_count_60 : decode cX4_count 60 = .ok (.iaload, 1) := dk_46 (dk_at dksX4_count_2 14 rfl rfl)
theorem dX4_count_61 : decode cX4_count 61 = .ok (.iadd, 1) := dk_96 (dk_at dksX4_count_2 15 rfl rfl)
theorem dX4_count_62 : decode cX4_count 62 = .ok (.istore_n 3, 1) := dk_62 (dk_at dksX4_count_2 16 rfl rfl)
theorem dX4_count_63 : decode cX4_count 63 = .ok (.iinc 4 1, 3) := dk_132 4 1 (dk_at dksX4_count_2 17 rfl rfl)
theorem dX4_count_66 : decode cX4_count 66 = .ok (.goto (-24), 3) := dk_167 255 232 (dk_at dksX4_count_2 20 rfl rfl)
theorem dX4_count_69 : decode cX4_count 69 = .ok (.iload_n 1, 1) := dk_27 (dk_at dksX4_count_2 23 rfl rfl)
theorem dX4_count_70 : decode cX4_count 70 = .ok (.tableswitch 98 0 5 #[38, 46, 66, 71, 94, 96], 38) := by decide +kernel
theorem dX4_count_108 : decode cX4_count 108 = .ok (.aload_n 0, 1) := dk_42 (dk_at dksX4_count_4 0 rfl rfl)
theorem dX4_count_109 : decode cX4_count 109 = .ok (.getfield 7, 3) := dk_180 0 7 (dk_at dksX4_count_4 1 rfl rfl)
theorem dX4_count_112 : decode cX4_count 112 = .ok (.bipush 39, 2) := dk_16 39 (dk_at dksX4_count_4 4 rfl rfl)
theorem dX4_count_114 : decode cX4_count 114 = .ok (.iaload, 1) := dk_46 (dk_at dksX4_count_4 6 rfl rfl)
theorem dX4_count_115 : decode cX4_count 115 = .ok (.ireturn, 1) := dk_172 (dk_at dksX4_count_4 7 rfl rfl)
theorem dX4_count_116 : decode cX4_count 116 = .ok (.aload_n 0, 1) := dk_42 (dk_at dksX4_count_4 8 rfl rfl)
theorem dX4_count_117 : decode cX4_count 117 = .ok (.getfield 16, 3) := dk_180 0 16 (dk_at dksX4_count_4 9 rfl rfl)
theorem dX4_count_120 : decode cX4_count 120 = .ok (.iconst 0, 1) := dk_3 (dk_at dksX4_count_4 12 rfl rfl)
theorem dX4_count_121 : decode cX4_count 121 = .ok (.baload, 1) := dk_51 (dk_at dksX4_count_4 13 rfl rfl)
theorem dX4_count_122 : decode cX4_count 122 = .ok (.invokestatic 169, 3) := dk_184 0 169 (dk_at dksX4_count_4 14 rfl rfl)
theorem dX4_count_125 : decode cX4_count 125 = .ok (.aload_n 0, 1) := dk_42 (dk_at dksX4_count_4 17 rfl rfl)
theorem dX4_count_126 : decode cX4_count 126 = .ok (.getfield 16, 3) := dk_180 0 16 (dk_at dksX4_count_4 18 rfl rfl)
theorem dX4_count_129 : decode cX4_count 129 = .ok (.iconst 1, 1) := dk_4 (dk_at dksX4_count_4 21 rfl rfl)
theorem dX4_count_130 : decode cX4_count 130 = .ok (.baload, 1) := dk_51 (dk_at dksX4_count_4 22 rfl rfl)
theorem dX4_count_131 : decode cX4_count 131 = .ok (.invokestatic 169, 3) := dk_184 0 169 (dk_at dksX4_count_5 0 rfl rfl)
theorem dX4_count_134 : decode cX4_count 134 = .ok (.iadd, 1) := dk_96 (dk_at dksX4_count_5 3 rfl rfl)
theorem dX4_count_135 : decode cX4_count 135 = .ok (.ireturn, 1) := dk_172 (dk_at dksX4_count_5 4 rfl rfl)
theorem dX4_count_136 : decode cX4_count 136 = .ok (.aload_n 0, 1) := dk_42 (dk_at dksX4_count_5 5 rfl rfl)
theorem dX4_count_137 : decode cX4_count 137 = .ok (.getfield 80, 3) := dk_180 0 80 (dk_at dksX4_count_5 6 rfl rfl)
theorem dX4_count_140 : decode cX4_count 140 = .ok (.ireturn, 1) := dk_172 (dk_at dksX4_count_5 9 rfl rfl)
theorem dX4_count_141 : decode cX4_count 141 = .ok (.aload_n 0, 1) := dk_42 (dk_at dksX4_count_5 10 rfl rfl)
theorem dX4_count_142 : decode cX4_count 142 = .ok (.getfield 32, 3) := dk_180 0 32 (dk_at dksX4_count_5 11 rfl rfl)
theorem dX4_count_145 : decode cX4_count 145 = .ok (.iconst 0, 1) := dk_3 (dk_at dksX4_count_5 14 rfl rfl)
theorem dX4_count_146 : decode cX4_count 146 = .ok (.iaload, 1) := dk_46 (dk_at dksX4_count_5 15 rfl rfl)
theorem dX4_count_147 : decode cX4_count 147 = .ok (.bipush (-4), 2) := dk_16 252 (dk_at dksX4_count_5 16 rfl rfl)
theorem dX4_count_149 : decode cX4_count 149 = .ok (.if_icmp .ne 8, 3) := dk_160 0 8 (dk_at dksX4_count_5 18 rfl rfl)
theorem dX4_count_152 : decode cX4_count 152 = .ok (.bipush (-4), 2) := dk_16 252 (dk_at dksX4_count_5 21 rfl rfl)
theorem dX4_count_154 : decode cX4_count 154 = .ok (.goto 9, 3) := dk_167 0 9 (dk_at dksX4_count_6 0 rfl rfl)
theorem dX4_count_157 : decode cX4_count 157 = .ok (.aload_n 0, 1) := dk_42 (dk_at dksX4_count_6 3 rfl rfl)
theorem dX4_count_158 : decode cX4_count 158 = .ok (.getfield 35, 3) := dk_180 0 35 (dk_at dksX4_count_6 4 rfl rfl)
theorem dX4_count_161 : decode cX4_count 161 = .ok (.iconst 0, 1) := dk_3 (dk_at dksX4_count_6 7 rfl rfl)
theorem dX4_count_162 : decode cX4_count 162 = .ok (.iaload, 1) := dk_46 (dk_at dksX4_count_6 8 rfl rfl)
theorem dX4_count_163 : decode cX4_count 163 = .ok (.ireturn, 1) := dk_172 (dk_at dksX4_count_6 9 rfl rfl)
theorem dX4_count_164 : decode cX4_count 164 = .ok (.iload_n 2, 1) := dk_28 (dk_at dksX4_count_6 10 rfl rfl)
theorem dX4_count_165 : decode cX4_count 165 = .ok (.ireturn, 1) := dk_172 (dk_at dksX4_count_6 11 rfl rfl)
theorem dX4_count_166 : decode cX4_count 166 = .ok (.iload_n 3, 1) := dk_29 (dk_at dksX4_count_6 12 rfl rfl)
theorem dX4_count_167 : decode cX4_count 167 = .ok (.ireturn, 1) := dk_172 (dk_at dksX4_count_6 13 rfl rfl)
theorem dX4_count_168 : decode cX4_count 168 = .ok (.iconst (-1), 1) := dk_2 (dk_at dksX4_count_6 14 rfl rfl)
theorem dX4_count_169 : decode cX4_count 169 = .ok (.ireturn, 1) := dk_172 (dk_at dksX4_count_6 15 rfl rfl)
theorem q72 : (Jvm.Cond.initialized "TrapdoorVotesModel") ∈ lw_all := lw_g (lw_at lw_m1 5 rfl) rfl
theorem q903 : (Jvm.Cond.instantiable "TrapdoorVotesModel" (32 : Nat)) ∈ lw_all := lw_g (lw_at lw_m4 116 rfl) rfl
theorem q905 : (Jvm.Cond.instanceMethod ({ cls := "TrapdoorVotesModel", name := "<init>", desc := "()V" } : Jvm.MethodName)) ∈ lw_all := lw_g (lw_at lw_m4 118 rfl) rfl
theorem q906 : (Jvm.Cond.code ({ cls := "TrapdoorVotesModel", name := "<init>", desc := "()V" } : Jvm.MethodName) prog_12_method_1_code (2 : Nat) (Option.none : Option Jvm.ClassFile.FieldType)) ∈ lw_all := lw_g (lw_at lw_m4 119 rfl) rfl
theorem q907 : (Jvm.Cond.methodLink "TrapdoorVotesModel" (1 : Nat) ({ cls := "java/lang/Object", name := "<init>", desc := "()V" } : Jvm.MethodName)) ∈ lw_all := lw_g (lw_at lw_m4 120 rfl) rfl
theorem q908 : (Jvm.Cond.methodLink "TrapdoorVotesModel" (44 : Nat) ({ cls := "TrapdoorVotesModel", name := "firstDraft", desc := "()V" } : Jvm.MethodName)) ∈ lw_all := lw_g (lw_at lw_m4 121 rfl) rfl
theorem q909 : (Jvm.Cond.privateMethod ({ cls := "TrapdoorVotesModel", name := "firstDraft", desc := "()V" } : Jvm.MethodName)) ∈ lw_tbl := lw_at lw_m4 122 rfl
theorem q910 : (Jvm.Cond.instanceMethod ({ cls := "TrapdoorVotesModel", name := "firstDraft", desc := "()V" } : Jvm.MethodName)) ∈ lw_all := lw_g (lw_at lw_m4 123 rfl) rfl
theorem q911 : (Jvm.Cond.code ({ cls := "TrapdoorVotesModel", name := "firstDraft", desc := "()V" } : Jvm.MethodName) prog_12_method_7_code (2 : Nat) (Option.none : Option Jvm.ClassFile.FieldType)) ∈ lw_all := lw_g (lw_at lw_m4 124 rfl) rfl
theorem q912 : (Jvm.Cond.methodLink "TrapdoorVotesModel" (50 : Nat) ({ cls := "TrapdoorVotesModel", name := "tellAll", desc := "(II)V" } : Jvm.MethodName)) ∈ lw_all := lw_g (lw_at lw_m4 125 rfl) rfl
theorem q913 : (Jvm.Cond.privateMethod ({ cls := "TrapdoorVotesModel", name := "tellAll", desc := "(II)V" } : Jvm.MethodName)) ∈ lw_tbl := lw_at lw_m4 126 rfl
theorem q914 : (Jvm.Cond.instanceMethod ({ cls := "TrapdoorVotesModel", name := "tellAll", desc := "(II)V" } : Jvm.MethodName)) ∈ lw_all := lw_g (lw_at lw_m4 127 rfl) rfl
theorem q915 : (Jvm.Cond.code ({ cls := "TrapdoorVotesModel", name := "tellAll", desc := "(II)V" } : Jvm.MethodName) prog_12_method_6_code (4 : Nat) (Option.none : Option Jvm.ClassFile.FieldType)) ∈ lw_all := lw_g (lw_at lw_m4 128 rfl) rfl
theorem q916 : (Jvm.Cond.methodLink "TrapdoorVotesModel" (47 : Nat) ({ cls := "TrapdoorVotesModel", name := "keepDraft", desc := "()V" } : Jvm.MethodName)) ∈ lw_all := lw_g (lw_at lw_m4 129 rfl) rfl
theorem q917 : (Jvm.Cond.privateMethod ({ cls := "TrapdoorVotesModel", name := "keepDraft", desc := "()V" } : Jvm.MethodName)) ∈ lw_tbl := lw_at lw_m4 130 rfl
theorem q918 : (Jvm.Cond.instanceMethod ({ cls := "TrapdoorVotesModel", name := "keepDraft", desc := "()V" } : Jvm.MethodName)) ∈ lw_all := lw_g (lw_at lw_m4 131 rfl) rfl
theorem q919 : (Jvm.Cond.code ({ cls := "TrapdoorVotesModel", name := "keepDraft", desc := "()V" } : Jvm.MethodName) prog_12_method_8_code (2 : Nat) (Option.none : Option Jvm.ClassFile.FieldType)) ∈ lw_all := lw_g (lw_at lw_m4 132 rfl) rfl
theorem q920 : (Jvm.Cond.fieldLink "TrapdoorVotesModel" (7 : Nat) "TrapdoorVotesModel" "st" "[I") ∈ lw_all := lw_g (lw_at lw_m4 133 rfl) rfl
theorem q921 : (Jvm.Cond.fieldLink "TrapdoorVotesModel" (13 : Nat) "TrapdoorVotesModel" "now" "[I") ∈ lw_all := lw_g (lw_at lw_m4 134 rfl) rfl
theorem q922 : (Jvm.Cond.fieldLink "TrapdoorVotesModel" (16 : Nat) "TrapdoorVotesModel" "isKept" "[Z") ∈ lw_all := lw_g (lw_at lw_m4 135 rfl) rfl
theorem q923 : (Jvm.Cond.fieldLink "TrapdoorVotesModel" (68 : Nat) "TrapdoorVotesModel" "hands" "I") ∈ lw_all := lw_g (lw_at lw_m4 136 rfl) rfl
theorem q924 : (Jvm.Cond.fieldLink "TrapdoorVotesModel" (71 : Nat) "TrapdoorVotesModel" "ministers" "I") ∈ lw_all := lw_g (lw_at lw_m4 137 rfl) rfl
theorem q925 : (Jvm.Cond.fieldLink "TrapdoorVotesModel" (20 : Nat) "TrapdoorVotesModel" "draft" "[I") ∈ lw_all := lw_g (lw_at lw_m4 138 rfl) rfl
theorem q926 : (Jvm.Cond.fieldLink "TrapdoorVotesModel" (54 : Nat) "TrapdoorVotesModel" "dHands" "I") ∈ lw_all := lw_g (lw_at lw_m4 139 rfl) rfl
theorem q927 : (Jvm.Cond.fieldLink "TrapdoorVotesModel" (58 : Nat) "TrapdoorVotesModel" "dMinisters" "I") ∈ lw_all := lw_g (lw_at lw_m4 140 rfl) rfl
theorem q928 : (Jvm.Cond.fieldLink "TrapdoorVotesModel" (61 : Nat) "TrapdoorVotesModel" "hasRust" "Z") ∈ lw_all := lw_g (lw_at lw_m4 141 rfl) rfl
theorem q929 : (Jvm.Cond.fieldLink "TrapdoorVotesModel" (65 : Nat) "TrapdoorVotesModel" "hasNeeds" "Z") ∈ lw_all := lw_g (lw_at lw_m4 142 rfl) rfl
theorem q930 : (Jvm.Cond.fieldLink "TrapdoorVotesModel" (23 : Nat) "TrapdoorVotesModel" "tape" "[I") ∈ lw_all := lw_g (lw_at lw_m4 143 rfl) rfl
theorem q931 : (Jvm.Cond.fieldLink "TrapdoorVotesModel" (80 : Nat) "TrapdoorVotesModel" "taped" "I") ∈ lw_all := lw_g (lw_at lw_m4 144 rfl) rfl
theorem q932 : (Jvm.Cond.fieldLink "TrapdoorVotesModel" (92 : Nat) "TrapdoorVotesModel" "pos" "I") ∈ lw_all := lw_g (lw_at lw_m4 145 rfl) rfl
theorem q933 : (Jvm.Cond.fieldLink "TrapdoorVotesModel" (86 : Nat) "TrapdoorVotesModel" "begun" "I") ∈ lw_all := lw_g (lw_at lw_m4 146 rfl) rfl
theorem q934 : (Jvm.Cond.fieldLink "TrapdoorVotesModel" (107 : Nat) "TrapdoorVotesModel" "sort" "I") ∈ lw_all := lw_g (lw_at lw_m4 147 rfl) rfl
theorem q935 : (Jvm.Cond.fieldLink "TrapdoorVotesModel" (118 : Nat) "TrapdoorVotesModel" "value" "I") ∈ lw_all := lw_g (lw_at lw_m4 148 rfl) rfl
theorem q936 : (Jvm.Cond.fieldLink "TrapdoorVotesModel" (83 : Nat) "TrapdoorVotesModel" "fault" "I") ∈ lw_all := lw_g (lw_at lw_m4 149 rfl) rfl
theorem q937 : (Jvm.Cond.fieldLink "TrapdoorVotesModel" (89 : Nat) "TrapdoorVotesModel" "wrongAt" "I") ∈ lw_all := lw_g (lw_at lw_m4 150 rfl) rfl
theorem q938 : (Jvm.Cond.fieldLink "TrapdoorVotesModel" (151 : Nat) "TrapdoorVotesModel" "away" "I") ∈ lw_all := lw_g (lw_at lw_m4 151 rfl) rfl
theorem q939 : (Jvm.Cond.fieldLink "TrapdoorVotesModel" (154 : Nat) "TrapdoorVotesModel" "falls" "I") ∈ lw_all := lw_g (lw_at lw_m4 152 rfl) rfl
theorem q940 : (Jvm.Cond.fieldLink "TrapdoorVotesModel" (248 : Nat) "TrapdoorVotesModel" "bestCode" "I") ∈ lw_all := lw_g (lw_at lw_m4 153 rfl) rfl
theorem q941 : (Jvm.Cond.fieldLink "TrapdoorVotesModel" (251 : Nat) "TrapdoorVotesModel" "bestMuch" "I") ∈ lw_all := lw_g (lw_at lw_m4 154 rfl) rfl
theorem q942 : (Jvm.Cond.fieldLink "TrapdoorVotesModel" (274 : Nat) "TrapdoorVotesModel" "upSum" "J") ∈ lw_all := lw_g (lw_at lw_m4 155 rfl) rfl
theorem q943 : (Jvm.Cond.fieldLink "TrapdoorVotesModel" (278 : Nat) "TrapdoorVotesModel" "fallSum" "J") ∈ lw_all := lw_g (lw_at lw_m4 156 rfl) rfl
theorem q944 : (Jvm.Cond.fieldLink "TrapdoorVotesModel" (281 : Nat) "TrapdoorVotesModel" "allWays" "J") ∈ lw_all := lw_g (lw_at lw_m4 157 rfl) rfl
theorem q945 : (Jvm.Cond.fieldLink "TrapdoorVotesModel" (26 : Nat) "TrapdoorVotesModel" "downs" "[I") ∈ lw_all := lw_g (lw_at lw_m4 158 rfl) rfl
theorem q946 : (Jvm.Cond.fieldLink "TrapdoorVotesModel" (29 : Nat) "TrapdoorVotesModel" "downBy" "[I") ∈ lw_all := lw_g (lw_at lw_m4 159 rfl) rfl
theorem q947 : (Jvm.Cond.fieldLink "TrapdoorVotesModel" (32 : Nat) "TrapdoorVotesModel" "lanes" "[I") ∈ lw_all := lw_g (lw_at lw_m4 160 rfl) rfl
theorem q948 : (Jvm.Cond.fieldLink "TrapdoorVotesModel" (35 : Nat) "TrapdoorVotesModel" "sizes" "[I") ∈ lw_all := lw_g (lw_at lw_m4 161 rfl) rfl
theorem q949 : (Jvm.Cond.fieldLink "TrapdoorVotesModel" (38 : Nat) "TrapdoorVotesModel" "cells" "[I") ∈ lw_all := lw_g (lw_at lw_m4 162 rfl) rfl
theorem q950 : (Jvm.Cond.fieldLink "TrapdoorVotesModel" (318 : Nat) "TrapdoorVotesModel" "torn" "I") ∈ lw_all := lw_g (lw_at lw_m4 163 rfl) rfl
theorem q951 : (Jvm.Cond.fieldLink "TrapdoorVotesModel" (41 : Nat) "TrapdoorVotesModel" "before" "[I") ∈ lw_all := lw_g (lw_at lw_m4 164 rfl) rfl
theorem q952 : (Jvm.Cond.laysFinal "TrapdoorVotesModel" "TrapdoorVotesModel" "st" "[I") ∈ lw_all := lw_g (lw_at lw_m4 165 rfl) rfl
theorem q953 : (Jvm.Cond.soleField "TrapdoorVotesModel" "st") ∈ lw_all := lw_g (lw_at lw_m4 166 rfl) rfl
theorem q954 : (Jvm.Cond.laysFinal "TrapdoorVotesModel" "TrapdoorVotesModel" "now" "[I") ∈ lw_all := lw_g (lw_at lw_m4 167 rfl) rfl
theorem q955 : (Jvm.Cond.soleField "TrapdoorVotesModel" "now") ∈ lw_all := lw_g (lw_at lw_m4 168 rfl) rfl
theorem q956 : (Jvm.Cond.laysFinal "TrapdoorVotesModel" "TrapdoorVotesModel" "isKept" "[Z") ∈ lw_all := lw_g (lw_at lw_m4 169 rfl) rfl
theorem q957 : (Jvm.Cond.soleField "TrapdoorVotesModel" "isKept") ∈ lw_all := lw_g (lw_at lw_m4 170 rfl) rfl
theorem q958 : (Jvm.Cond.lays "TrapdoorVotesModel" "TrapdoorVotesModel" "hands" "I") ∈ lw_all := lw_g (lw_at lw_m4 171 rfl) rfl
theorem q959 : (Jvm.Cond.soleField "TrapdoorVotesModel" "hands") ∈ lw_all := lw_g (lw_at lw_m4 172 rfl) rfl
theorem q960 : (Jvm.Cond.lays "TrapdoorVotesModel" "TrapdoorVotesModel" "ministers" "I") ∈ lw_all := lw_g (lw_at lw_m4 173 rfl) rfl
theorem q961 : (Jvm.Cond.soleField "TrapdoorVotesModel" "ministers") ∈ lw_all := lw_g (lw_at lw_m4 174 rfl) rfl
theorem q962 : (Jvm.Cond.laysFinal "TrapdoorVotesModel" "TrapdoorVotesModel" "draft" "[I") ∈ lw_all := lw_g (lw_at lw_m4 175 rfl) rfl
theorem q963 : (Jvm.Cond.soleField "TrapdoorVotesModel" "draft") ∈ lw_all := lw_g (lw_at lw_m4 176 rfl) rfl
theorem q964 : (Jvm.Cond.lays "TrapdoorVotesModel" "TrapdoorVotesModel" "dHands" "I") ∈ lw_all := lw_g (lw_at lw_m4 177 rfl) rfl
theorem q965 : (Jvm.Cond.soleField "TrapdoorVotesModel" "dHands") ∈ lw_all := lw_g (lw_at lw_m4 178 rfl) rfl
theorem q966 : (Jvm.Cond.lays "TrapdoorVotesModel" "TrapdoorVotesModel" "dMinisters" "I") ∈ lw_all := lw_g (lw_at lw_m4 179 rfl) rfl
theorem q967 : (Jvm.Cond.soleField "TrapdoorVotesModel" "dMinisters") ∈ lw_all := lw_g (lw_at lw_m4 180 rfl) rfl
theorem q968 : (Jvm.Cond.lays "TrapdoorVotesModel" "TrapdoorVotesModel" "hasRust" "Z") ∈ lw_all := lw_g (lw_at lw_m4 181 rfl) rfl
theorem q969 : (Jvm.Cond.soleField "TrapdoorVotesModel" "hasRust") ∈ lw_all := lw_g (lw_at lw_m4 182 rfl) rfl
theorem q970 : (Jvm.Cond.lays "TrapdoorVotesModel" "TrapdoorVotesModel" "hasNeeds" "Z") ∈ lw_all := lw_g (lw_at lw_m4 183 rfl) rfl
theorem q971 : (Jvm.Cond.soleField "TrapdoorVotesModel" "hasNeeds") ∈ lw_all := lw_g (lw_at lw_m4 184 rfl) rfl
theorem q972 : (Jvm.Cond.laysFinal "TrapdoorVotesModel" "TrapdoorVotesModel" "tape" "[I") ∈ lw_all := lw_g (lw_at lw_m4 185 rfl) rfl
theorem q973 : (Jvm.Cond.soleField "TrapdoorVotesModel" "tape") ∈ lw_all := lw_g (lw_at lw_m4 186 rfl) rfl
theorem q974 : (Jvm.Cond.lays "TrapdoorVotesModel" "TrapdoorVotesModel" "taped" "I") ∈ lw_all := lw_g (lw_at lw_m4 187 rfl) rfl
theorem q975 : (Jvm.Cond.soleField "TrapdoorVotesModel" "taped") ∈ lw_all := lw_g (lw_at lw_m4 188 rfl) rfl
theorem q976 : (Jvm.Cond.lays "TrapdoorVotesModel" "TrapdoorVotesModel" "pos" "I") ∈ lw_all := lw_g (lw_at lw_m4 189 rfl) rfl
theorem q977 : (Jvm.Cond.soleField "TrapdoorVotesModel" "pos") ∈ lw_all := lw_g (lw_at lw_m4 190 rfl) rfl
theorem q978 : (Jvm.Cond.lays "TrapdoorVotesModel" "TrapdoorVotesModel" "begun" "I") ∈ lw_all := lw_g (lw_at lw_m4 191 rfl) rfl
theorem q979 : (Jvm.Cond.soleField "TrapdoorVotesModel" "begun") ∈ lw_all := lw_g (lw_at lw_m4 192 rfl) rfl
theorem q980 : (Jvm.Cond.lays "TrapdoorVotesModel" "TrapdoorVotesModel" "sort" "I") ∈ lw_all := lw_g (lw_at lw_m4 193 rfl) rfl
theorem q981 : (Jvm.Cond.soleField "TrapdoorVotesModel" "sort") ∈ lw_all := lw_g (lw_at lw_m4 194 rfl) rfl
theorem q982 : (Jvm.Cond.lays "TrapdoorVotesModel" "TrapdoorVotesModel" "value" "I") ∈ lw_all := lw_g (lw_at lw_m4 195 rfl) rfl
theorem q983 : (Jvm.Cond.soleField "TrapdoorVotesModel" "value") ∈ lw_all := lw_g (lw_at lw_m4 196 rfl) rfl
theorem q984 : (Jvm.Cond.lays "TrapdoorVotesModel" "TrapdoorVotesModel" "fault" "I") ∈ lw_all := lw_g (lw_at lw_m4 197 rfl) rfl
theorem q985 : (Jvm.Cond.soleField "TrapdoorVotesModel" "fault") ∈ lw_all := lw_g (lw_at lw_m4 198 rfl) rfl
theorem q986 : (Jvm.Cond.lays "TrapdoorVotesModel" "TrapdoorVotesModel" "wrongAt" "I") ∈ lw_all := lw_g (lw_at lw_m4 199 rfl) rfl
theorem q987 : (Jvm.Cond.soleField "TrapdoorVotesModel" "wrongAt") ∈ lw_all := lw_g (lw_at lw_m4 200 rfl) rfl
theorem q988 : (Jvm.Cond.lays "TrapdoorVotesModel" "TrapdoorVotesModel" "away" "I") ∈ lw_all := lw_g (lw_at lw_m4 201 rfl) rfl
theorem q989 : (Jvm.Cond.soleField "TrapdoorVotesModel" "away") ∈ lw_all := lw_g (lw_at lw_m4 202 rfl) rfl
theorem q990 : (Jvm.Cond.lays "TrapdoorVotesModel" "TrapdoorVotesModel" "falls" "I") ∈ lw_all := lw_g (lw_at lw_m4 203 rfl) rfl
theorem q991 : (Jvm.Cond.soleField "TrapdoorVotesModel" "falls") ∈ lw_all := lw_g (lw_at lw_m4 204 rfl) rfl
theorem q992 : (Jvm.Cond.lays "TrapdoorVotesModel" "TrapdoorVotesModel" "bestCode" "I") ∈ lw_all := lw_g (lw_at lw_m4 205 rfl) rfl
theorem q993 : (Jvm.Cond.soleField "TrapdoorVotesModel" "bestCode") ∈ lw_all := lw_g (lw_at lw_m4 206 rfl) rfl
theorem q994 : (Jvm.Cond.lays "TrapdoorVotesModel" "TrapdoorVotesModel" "bestMuch" "I") ∈ lw_all := lw_g (lw_at lw_m4 207 rfl) rfl
theorem q995 : (Jvm.Cond.soleField "TrapdoorVotesModel" "bestMuch") ∈ lw_all := lw_g (lw_at lw_m4 208 rfl) rfl
theorem q996 : (Jvm.Cond.lays "TrapdoorVotesModel" "TrapdoorVotesModel" "upSum" "J") ∈ lw_all := lw_g (lw_at lw_m4 209 rfl) rfl
theorem q997 : (Jvm.Cond.soleField "TrapdoorVotesModel" "upSum") ∈ lw_all := lw_g (lw_at lw_m4 210 rfl) rfl
theorem q998 : (Jvm.Cond.lays "TrapdoorVotesModel" "TrapdoorVotesModel" "fallSum" "J") ∈ lw_all := lw_g (lw_at lw_m4 211 rfl) rfl
theorem q999 : (Jvm.Cond.soleField "TrapdoorVotesModel" "fallSum") ∈ lw_all := lw_g (lw_at lw_m4 212 rfl) rfl
theorem q1000 : (Jvm.Cond.lays "TrapdoorVotesModel" "TrapdoorVotesModel" "allWays" "J") ∈ lw_all := lw_g (lw_at lw_m4 213 rfl) rfl
theorem q1001 : (Jvm.Cond.soleField "TrapdoorVotesModel" "allWays") ∈ lw_all := lw_g (lw_at lw_m4 214 rfl) rfl
theorem q1002 : (Jvm.Cond.laysFinal "TrapdoorVotesModel" "TrapdoorVotesModel" "downs" "[I") ∈ lw_all := lw_g (lw_at lw_m4 215 rfl) rfl
theorem q1003 : (Jvm.Cond.soleField "TrapdoorVotesModel" "downs") ∈ lw_all := lw_g (lw_at lw_m4 216 rfl) rfl
theorem q1004 : (Jvm.Cond.laysFinal "TrapdoorVotesModel" "TrapdoorVotesModel" "downBy" "[I") ∈ lw_all := lw_g (lw_at lw_m4 217 rfl) rfl
theorem q1005 : (Jvm.Cond.soleField "TrapdoorVotesModel" "downBy") ∈ lw_all := lw_g (lw_at lw_m4 218 rfl) rfl
theorem q1006 : (Jvm.Cond.laysFinal "TrapdoorVotesModel" "TrapdoorVotesModel" "lanes" "[I") ∈ lw_all := lw_g (lw_at lw_m4 219 rfl) rfl
theorem q1007 : (Jvm.Cond.soleField "TrapdoorVotesModel" "lanes") ∈ lw_all := lw_g (lw_at lw_m4 220 rfl) rfl
theorem q1008 : (Jvm.Cond.laysFinal "TrapdoorVotesModel" "TrapdoorVotesModel" "sizes" "[I") ∈ lw_all := lw_g (lw_at lw_m4 221 rfl) rfl
theorem q1009 : (Jvm.Cond.soleField "TrapdoorVotesModel" "sizes") ∈ lw_all := lw_g (lw_at lw_m4 222 rfl) rfl
theorem q1010 : (Jvm.Cond.laysFinal "TrapdoorVotesModel" "TrapdoorVotesModel" "cells" "[I") ∈ lw_all := lw_g (lw_at lw_m4 223 rfl) rfl
theorem q1011 : (Jvm.Cond.soleField "TrapdoorVotesModel" "cells") ∈ lw_all := lw_g (lw_at lw_m4 224 rfl) rfl
theorem q1012 : (Jvm.Cond.lays "TrapdoorVotesModel" "TrapdoorVotesModel" "torn" "I") ∈ lw_all := lw_g (lw_at lw_m4 225 rfl) rfl
theorem q1013 : (Jvm.Cond.soleField "TrapdoorVotesModel" "torn") ∈ lw_all := lw_g (lw_at lw_m4 226 rfl) rfl
theorem q1014 : (Jvm.Cond.laysFinal "TrapdoorVotesModel" "TrapdoorVotesModel" "before" "[I") ∈ lw_all := lw_g (lw_at lw_m4 227 rfl) rfl
theorem q1015 : (Jvm.Cond.soleField "TrapdoorVotesModel" "before") ∈ lw_all := lw_g (lw_at lw_m4 228 rfl) rfl
theorem q1016 : (Jvm.Cond.superclass "TrapdoorVotesModel" "java/lang/Object") ∈ lw_all := lw_g (lw_at lw_m4 229 rfl) rfl
theorem q1019 : (Jvm.Cond.instanceMethod ({ cls := "TrapdoorVotesModel", name := "feed", desc := "(I)I" } : Jvm.MethodName)) ∈ lw_all := lw_g (lw_at lw_m4 232 rfl) rfl
theorem q1020 : (Jvm.Cond.selects "TrapdoorVotesModel" ({ cls := "TrapdoorVotesModel", name := "feed", desc := "(I)I" } : Jvm.MethodName) ({ cls := "TrapdoorVotesModel", name := "feed", desc := "(I)I" } : Jvm.MethodName)) ∈ lw_all := lw_g (lw_at lw_m4 233 rfl) rfl
theorem q1021 : (Jvm.Cond.code ({ cls := "TrapdoorVotesModel", name := "feed", desc := "(I)I" } : Jvm.MethodName) prog_12_method_9_code (2 : Nat) (Option.some Jvm.ClassFile.FieldType.int)) ∈ lw_all := lw_g (lw_at lw_m4 234 rfl) rfl
theorem q1022 : (Jvm.Cond.constantLong "TrapdoorVotesModel" (74 : Nat) (127 : Int64)) ∈ lw_all := lw_g (lw_at lw_m4 235 rfl) rfl
theorem q1023 : (Jvm.Cond.methodLink "TrapdoorVotesModel" (76 : Nat) ({ cls := "TrapdoorVotesModel", name := "in", desc := "(JJJ)Z" } : Jvm.MethodName)) ∈ lw_all := lw_g (lw_at lw_m4 236 rfl) rfl
theorem q1024 : (Jvm.Cond.static ({ cls := "TrapdoorVotesModel", name := "in", desc := "(JJJ)Z" } : Jvm.MethodName)) ∈ lw_all := lw_g (lw_at lw_m4 237 rfl) rfl
theorem q1025 : (Jvm.Cond.code ({ cls := "TrapdoorVotesModel", name := "in", desc := "(JJJ)Z" } : Jvm.MethodName) prog_12_method_3_code (6 : Nat) (Option.some Jvm.ClassFile.FieldType.boolean)) ∈ lw_all := lw_g (lw_at lw_m4 238 rfl) rfl
theorem q1027 : (Jvm.Cond.instanceMethod ({ cls := "TrapdoorVotesModel", name := "end", desc := "(I)I" } : Jvm.MethodName)) ∈ lw_all := lw_g (lw_at lw_m5 0 rfl) rfl
theorem q1028 : (Jvm.Cond.selects "TrapdoorVotesModel" ({ cls := "TrapdoorVotesModel", name := "end", desc := "(I)I" } : Jvm.MethodName) ({ cls := "TrapdoorVotesModel", name := "end", desc := "(I)I" } : Jvm.MethodName)) ∈ lw_all := lw_g (lw_at lw_m5 1 rfl) rfl
theorem q1029 : (Jvm.Cond.code ({ cls := "TrapdoorVotesModel", name := "end", desc := "(I)I" } : Jvm.MethodName) prog_12_method_10_code (3 : Nat) (Option.some Jvm.ClassFile.FieldType.int)) ∈ lw_all := lw_g (lw_at lw_m5 2 rfl) rfl
theorem q1031 : (Jvm.Cond.instanceMethod ({ cls := "TrapdoorVotesModel", name := "text", desc := "()I" } : Jvm.MethodName)) ∈ lw_all := lw_g (lw_at lw_m5 4 rfl) rfl
theorem q1032 : (Jvm.Cond.selects "TrapdoorVotesModel" ({ cls := "TrapdoorVotesModel", name := "text", desc := "()I" } : Jvm.MethodName) ({ cls := "TrapdoorVotesModel", name := "text", desc := "()I" } : Jvm.MethodName)) ∈ lw_all := lw_g (lw_at lw_m5 5 rfl) rfl
theorem q1033 : (Jvm.Cond.code ({ cls := "TrapdoorVotesModel", name := "text", desc := "()I" } : Jvm.MethodName) prog_12_method_22_code (2 : Nat) (Option.some Jvm.ClassFile.FieldType.int)) ∈ lw_all := lw_g (lw_at lw_m5 6 rfl) rfl
theorem q1034 : (Jvm.Cond.methodLink "TrapdoorVotesModel" (129 : Nat) ({ cls := "TrapdoorVotesModel", name := "reads", desc := "()V" } : Jvm.MethodName)) ∈ lw_all := lw_g (lw_at lw_m5 7 rfl) rfl
theorem q1035 : (Jvm.Cond.privateMethod ({ cls := "TrapdoorVotesModel", name := "reads", desc := "()V" } : Jvm.MethodName)) ∈ lw_tbl := lw_at lw_m5 8 rfl
theorem q1036 : (Jvm.Cond.instanceMethod ({ cls := "TrapdoorVotesModel", name := "reads", desc := "()V" } : Jvm.MethodName)) ∈ lw_all := lw_g (lw_at lw_m5 9 rfl) rfl
theorem q1037 : (Jvm.Cond.code ({ cls := "TrapdoorVotesModel", name := "reads", desc := "()V" } : Jvm.MethodName) prog_12_method_16_code (2 : Nat) (Option.none : Option Jvm.ClassFile.FieldType)) ∈ lw_all := lw_g (lw_at lw_m5 10 rfl) rfl
theorem q1038 : (Jvm.Cond.methodLink "TrapdoorVotesModel" (95 : Nat) ({ cls := "TrapdoorVotesModel", name := "byteAt", desc := "(I)I" } : Jvm.MethodName)) ∈ lw_all := lw_g (lw_at lw_m5 11 rfl) rfl
theorem q1039 : (Jvm.Cond.privateMethod ({ cls := "TrapdoorVotesModel", name := "byteAt", desc := "(I)I" } : Jvm.MethodName)) ∈ lw_tbl := lw_at lw_m5 12 rfl
theorem q1040 : (Jvm.Cond.instanceMethod ({ cls := "TrapdoorVotesModel", name := "byteAt", desc := "(I)I" } : Jvm.MethodName)) ∈ lw_all := lw_g (lw_at lw_m5 13 rfl) rfl
theorem q1041 : (Jvm.Cond.code ({ cls := "TrapdoorVotesModel", name := "byteAt", desc := "(I)I" } : Jvm.MethodName) prog_12_method_12_code (2 : Nat) (Option.some Jvm.ClassFile.FieldType.int)) ∈ lw_all := lw_g (lw_at lw_m5 14 rfl) rfl
theorem q1042 : (Jvm.Cond.constantLong "TrapdoorVotesModel" (110 : Nat) (97 : Int64)) ∈ lw_all := lw_g (lw_at lw_m5 15 rfl) rfl
theorem q1043 : (Jvm.Cond.constantLong "TrapdoorVotesModel" (112 : Nat) (122 : Int64)) ∈ lw_all := lw_g (lw_at lw_m5 16 rfl) rfl
theorem q1044 : (Jvm.Cond.constantLong "TrapdoorVotesModel" (114 : Nat) (48 : Int64)) ∈ lw_all := lw_g (lw_at lw_m5 17 rfl) rfl
theorem q1045 : (Jvm.Cond.constantLong "TrapdoorVotesModel" (116 : Nat) (57 : Int64)) ∈ lw_all := lw_g (lw_at lw_m5 18 rfl) rfl
theorem q1046 : (Jvm.Cond.methodLink "TrapdoorVotesModel" (121 : Nat) ({ cls := "TrapdoorVotesModel", name := "requires", desc := "(ZI)V" } : Jvm.MethodName)) ∈ lw_all := lw_g (lw_at lw_m5 19 rfl) rfl
theorem q1047 : (Jvm.Cond.privateMethod ({ cls := "TrapdoorVotesModel", name := "requires", desc := "(ZI)V" } : Jvm.MethodName)) ∈ lw_tbl := lw_at lw_m5 20 rfl
theorem q1048 : (Jvm.Cond.instanceMethod ({ cls := "TrapdoorVotesModel", name := "requires", desc := "(ZI)V" } : Jvm.MethodName)) ∈ lw_all := lw_g (lw_at lw_m5 21 rfl) rfl
theorem q1049 : (Jvm.Cond.code ({ cls := "TrapdoorVotesModel", name := "requires", desc := "(ZI)V" } : Jvm.MethodName) prog_12_method_11_code (3 : Nat) (Option.none : Option Jvm.ClassFile.FieldType)) ∈ lw_all := lw_g (lw_at lw_m5 22 rfl) rfl
theorem q1050 : (Jvm.Cond.methodLink "TrapdoorVotesModel" (146 : Nat) ({ cls := "TrapdoorVotesModel", name := "readLine", desc := "()V" } : Jvm.MethodName)) ∈ lw_all := lw_g (lw_at lw_m5 23 rfl) rfl
theorem q1051 : (Jvm.Cond.privateMethod ({ cls := "TrapdoorVotesModel", name := "readLine", desc := "()V" } : Jvm.MethodName)) ∈ lw_tbl := lw_at lw_m5 24 rfl
theorem q1052 : (Jvm.Cond.instanceMethod ({ cls := "TrapdoorVotesModel", name := "readLine", desc := "()V" } : Jvm.MethodName)) ∈ lw_all := lw_g (lw_at lw_m5 25 rfl) rfl
theorem q1053 : (Jvm.Cond.code ({ cls := "TrapdoorVotesModel", name := "readLine", desc := "()V" } : Jvm.MethodName) prog_12_method_21_code (2 : Nat) (Option.none : Option Jvm.ClassFile.FieldType)) ∈ lw_all := lw_g (lw_at lw_m5 26 rfl) rfl
theorem q1054 : (Jvm.Cond.methodLink "TrapdoorVotesModel" (138 : Nat) ({ cls := "TrapdoorVotesModel", name := "lineNow", desc := "()I" } : Jvm.MethodName)) ∈ lw_all := lw_g (lw_at lw_m5 27 rfl) rfl
theorem q1055 : (Jvm.Cond.privateMethod ({ cls := "TrapdoorVotesModel", name := "lineNow", desc := "()I" } : Jvm.MethodName)) ∈ lw_tbl := lw_at lw_m5 28 rfl
theorem q1056 : (Jvm.Cond.instanceMethod ({ cls := "TrapdoorVotesModel", name := "lineNow", desc := "()I" } : Jvm.MethodName)) ∈ lw_all := lw_g (lw_at lw_m5 29 rfl) rfl
theorem q1057 : (Jvm.Cond.code ({ cls := "TrapdoorVotesModel", name := "lineNow", desc := "()I" } : Jvm.MethodName) prog_12_method_15_code (1 : Nat) (Option.some Jvm.ClassFile.FieldType.int)) ∈ lw_all := lw_g (lw_at lw_m5 30 rfl) rfl
theorem q1058 : (Jvm.Cond.methodLink "TrapdoorVotesModel" (99 : Nat) ({ cls := "TrapdoorVotesModel", name := "is", desc := "(IIII)Z" } : Jvm.MethodName)) ∈ lw_all := lw_g (lw_at lw_m5 31 rfl) rfl
theorem q1059 : (Jvm.Cond.privateMethod ({ cls := "TrapdoorVotesModel", name := "is", desc := "(IIII)Z" } : Jvm.MethodName)) ∈ lw_tbl := lw_at lw_m5 32 rfl
theorem q1060 : (Jvm.Cond.instanceMethod ({ cls := "TrapdoorVotesModel", name := "is", desc := "(IIII)Z" } : Jvm.MethodName)) ∈ lw_all := lw_g (lw_at lw_m5 33 rfl) rfl
theorem q1061 : (Jvm.Cond.code ({ cls := "TrapdoorVotesModel", name := "is", desc := "(IIII)Z" } : Jvm.MethodName) prog_12_method_13_code (5 : Nat) (Option.some Jvm.ClassFile.FieldType.boolean)) ∈ lw_all := lw_g (lw_at lw_m5 34 rfl) rfl
theorem q1062 : (Jvm.Cond.methodLink "TrapdoorVotesModel" (103 : Nat) ({ cls := "TrapdoorVotesModel", name := "ends", desc := "(II)Z" } : Jvm.MethodName)) ∈ lw_all := lw_g (lw_at lw_m5 35 rfl) rfl
theorem q1063 : (Jvm.Cond.privateMethod ({ cls := "TrapdoorVotesModel", name := "ends", desc := "(II)Z" } : Jvm.MethodName)) ∈ lw_tbl := lw_at lw_m5 36 rfl
theorem q1064 : (Jvm.Cond.instanceMethod ({ cls := "TrapdoorVotesModel", name := "ends", desc := "(II)Z" } : Jvm.MethodName)) ∈ lw_all := lw_g (lw_at lw_m5 37 rfl) rfl
theorem q1065 : (Jvm.Cond.code ({ cls := "TrapdoorVotesModel", name := "ends", desc := "(II)Z" } : Jvm.MethodName) prog_12_method_14_code (3 : Nat) (Option.some Jvm.ClassFile.FieldType.boolean)) ∈ lw_all := lw_g (lw_at lw_m5 38 rfl) rfl
theorem q1066 : (Jvm.Cond.methodLink "TrapdoorVotesModel" (142 : Nat) ({ cls := "TrapdoorVotesModel", name := "readLineOf", desc := "(I)V" } : Jvm.MethodName)) ∈ lw_all := lw_g (lw_at lw_m5 39 rfl) rfl
theorem q1067 : (Jvm.Cond.privateMethod ({ cls := "TrapdoorVotesModel", name := "readLineOf", desc := "(I)V" } : Jvm.MethodName)) ∈ lw_tbl := lw_at lw_m5 40 rfl
theorem q1068 : (Jvm.Cond.instanceMethod ({ cls := "TrapdoorVotesModel", name := "readLineOf", desc := "(I)V" } : Jvm.MethodName)) ∈ lw_all := lw_g (lw_at lw_m5 41 rfl) rfl
theorem q1069 : (Jvm.Cond.code ({ cls := "TrapdoorVotesModel", name := "readLineOf", desc := "(I)V" } : Jvm.MethodName) prog_12_method_20_code (2 : Nat) (Option.none : Option Jvm.ClassFile.FieldType)) ∈ lw_all := lw_g (lw_at lw_m5 42 rfl) rfl
theorem q1070 : (Jvm.Cond.methodLink "TrapdoorVotesModel" (135 : Nat) ({ cls := "TrapdoorVotesModel", name := "readBoots", desc := "()V" } : Jvm.MethodName)) ∈ lw_all := lw_g (lw_at lw_m5 43 rfl) rfl
theorem q1071 : (Jvm.Cond.privateMethod ({ cls := "TrapdoorVotesModel", name := "readBoots", desc := "()V" } : Jvm.MethodName)) ∈ lw_tbl := lw_at lw_m5 44 rfl
theorem q1072 : (Jvm.Cond.instanceMethod ({ cls := "TrapdoorVotesModel", name := "readBoots", desc := "()V" } : Jvm.MethodName)) ∈ lw_all := lw_g (lw_at lw_m5 45 rfl) rfl
theorem q1073 : (Jvm.Cond.code ({ cls := "TrapdoorVotesModel", name := "readBoots", desc := "()V" } : Jvm.MethodName) prog_12_method_19_code (3 : Nat) (Option.none : Option Jvm.ClassFile.FieldType)) ∈ lw_all := lw_g (lw_at lw_m5 46 rfl) rfl
theorem q1074 : (Jvm.Cond.methodLink "TrapdoorVotesModel" (132 : Nat) ({ cls := "TrapdoorVotesModel", name := "readNumber", desc := "(II)I" } : Jvm.MethodName)) ∈ lw_all := lw_g (lw_at lw_m5 47 rfl) rfl
theorem q1075 : (Jvm.Cond.privateMethod ({ cls := "TrapdoorVotesModel", name := "readNumber", desc := "(II)I" } : Jvm.MethodName)) ∈ lw_tbl := lw_at lw_m5 48 rfl
theorem q1076 : (Jvm.Cond.instanceMethod ({ cls := "TrapdoorVotesModel", name := "readNumber", desc := "(II)I" } : Jvm.MethodName)) ∈ lw_all := lw_g (lw_at lw_m5 49 rfl) rfl
theorem q1077 : (Jvm.Cond.code ({ cls := "TrapdoorVotesModel", name := "readNumber", desc := "(II)I" } : Jvm.MethodName) prog_12_method_18_code (4 : Nat) (Option.some Jvm.ClassFile.FieldType.int)) ∈ lw_all := lw_g (lw_at lw_m5 50 rfl) rfl
theorem q1078 : (Jvm.Cond.methodLink "TrapdoorVotesModel" (125 : Nat) ({ cls := "TrapdoorVotesModel", name := "looked", desc := "(II)I" } : Jvm.MethodName)) ∈ lw_all := lw_g (lw_at lw_m5 51 rfl) rfl
theorem q1079 : (Jvm.Cond.privateMethod ({ cls := "TrapdoorVotesModel", name := "looked", desc := "(II)I" } : Jvm.MethodName)) ∈ lw_tbl := lw_at lw_m5 52 rfl
theorem q1080 : (Jvm.Cond.instanceMethod ({ cls := "TrapdoorVotesModel", name := "looked", desc := "(II)I" } : Jvm.MethodName)) ∈ lw_all := lw_g (lw_at lw_m5 53 rfl) rfl
theorem q1081 : (Jvm.Cond.code ({ cls := "TrapdoorVotesModel", name := "looked", desc := "(II)I" } : Jvm.MethodName) prog_12_method_17_code (3 : Nat) (Option.some Jvm.ClassFile.FieldType.int)) ∈ lw_all := lw_g (lw_at lw_m5 54 rfl) rfl
theorem q1083 : (Jvm.Cond.instanceMethod ({ cls := "TrapdoorVotesModel", name := "fault", desc := "()I" } : Jvm.MethodName)) ∈ lw_all := lw_g (lw_at lw_m5 56 rfl) rfl
theorem q1084 : (Jvm.Cond.selects "TrapdoorVotesModel" ({ cls := "TrapdoorVotesModel", name := "fault", desc := "()I" } : Jvm.MethodName) ({ cls := "TrapdoorVotesModel", name := "fault", desc := "()I" } : Jvm.MethodName)) ∈ lw_all := lw_g (lw_at lw_m5 57 rfl) rfl
theorem q1085 : (Jvm.Cond.code ({ cls := "TrapdoorVotesModel", name := "fault", desc := "()I" } : Jvm.MethodName) prog_12_method_23_code (1 : Nat) (Option.some Jvm.ClassFile.FieldType.int)) ∈ lw_all := lw_g (lw_at lw_m5 58 rfl) rfl
theorem q1087 : (Jvm.Cond.instanceMethod ({ cls := "TrapdoorVotesModel", name := "rule", desc := "(I)I" } : Jvm.MethodName)) ∈ lw_all := lw_g (lw_at lw_m5 60 rfl) rfl
theorem q1088 : (Jvm.Cond.selects "TrapdoorVotesModel" ({ cls := "TrapdoorVotesModel", name := "rule", desc := "(I)I" } : Jvm.MethodName) ({ cls := "TrapdoorVotesModel", name := "rule", desc := "(I)I" } : Jvm.MethodName)) ∈ lw_all := lw_g (lw_at lw_m5 61 rfl) rfl
theorem q1089 : (Jvm.Cond.code ({ cls := "TrapdoorVotesModel", name := "rule", desc := "(I)I" } : Jvm.MethodName) prog_12_method_44_code (4 : Nat) (Option.some Jvm.ClassFile.FieldType.int)) ∈ lw_all := lw_g (lw_at lw_m5 62 rfl) rfl
theorem q1090 : (Jvm.Cond.methodLink "TrapdoorVotesModel" (200 : Nat) ({ cls := "TrapdoorVotesModel", name := "starts", desc := "()V" } : Jvm.MethodName)) ∈ lw_all := lw_g (lw_at lw_m5 63 rfl) rfl
theorem q1091 : (Jvm.Cond.privateMethod ({ cls := "TrapdoorVotesModel", name := "starts", desc := "()V" } : Jvm.MethodName)) ∈ lw_tbl := lw_at lw_m5 64 rfl
theorem q1092 : (Jvm.Cond.instanceMethod ({ cls := "TrapdoorVotesModel", name := "starts", desc := "()V" } : Jvm.MethodName)) ∈ lw_all := lw_g (lw_at lw_m5 65 rfl) rfl
theorem q1093 : (Jvm.Cond.code ({ cls := "TrapdoorVotesModel", name := "starts", desc := "()V" } : Jvm.MethodName) prog_12_method_28_code (2 : Nat) (Option.none : Option Jvm.ClassFile.FieldType)) ∈ lw_all := lw_g (lw_at lw_m5 66 rfl) rfl
theorem q1094 : (Jvm.Cond.methodLink "TrapdoorVotesModel" (166 : Nat) ({ cls := "TrapdoorVotesModel", name := "wants", desc := "(I)I" } : Jvm.MethodName)) ∈ lw_all := lw_g (lw_at lw_m5 67 rfl) rfl
theorem q1095 : (Jvm.Cond.privateMethod ({ cls := "TrapdoorVotesModel", name := "wants", desc := "(I)I" } : Jvm.MethodName)) ∈ lw_tbl := lw_at lw_m5 68 rfl
theorem q1096 : (Jvm.Cond.instanceMethod ({ cls := "TrapdoorVotesModel", name := "wants", desc := "(I)I" } : Jvm.MethodName)) ∈ lw_all := lw_g (lw_at lw_m5 69 rfl) rfl
theorem q1097 : (Jvm.Cond.code ({ cls := "TrapdoorVotesModel", name := "wants", desc := "(I)I" } : Jvm.MethodName) prog_12_method_37_code (3 : Nat) (Option.some Jvm.ClassFile.FieldType.int)) ∈ lw_all := lw_g (lw_at lw_m5 70 rfl) rfl
theorem q1098 : (Jvm.Cond.methodLink "TrapdoorVotesModel" (160 : Nat) ({ cls := "TrapdoorVotesModel", name := "of", desc := "(II)I" } : Jvm.MethodName)) ∈ lw_all := lw_g (lw_at lw_m5 71 rfl) rfl
theorem q1099 : (Jvm.Cond.privateMethod ({ cls := "TrapdoorVotesModel", name := "of", desc := "(II)I" } : Jvm.MethodName)) ∈ lw_tbl := lw_at lw_m5 72 rfl
theorem q1100 : (Jvm.Cond.instanceMethod ({ cls := "TrapdoorVotesModel", name := "of", desc := "(II)I" } : Jvm.MethodName)) ∈ lw_all := lw_g (lw_at lw_m5 73 rfl) rfl
theorem q1101 : (Jvm.Cond.code ({ cls := "TrapdoorVotesModel", name := "of", desc := "(II)I" } : Jvm.MethodName) prog_12_method_30_code (3 : Nat) (Option.some Jvm.ClassFile.FieldType.int)) ∈ lw_all := lw_g (lw_at lw_m5 74 rfl) rfl
theorem q1102 : (Jvm.Cond.methodLink "TrapdoorVotesModel" (169 : Nat) ({ cls := "TrapdoorVotesModel", name := "flag", desc := "(Z)I" } : Jvm.MethodName)) ∈ lw_all := lw_g (lw_at lw_m5 75 rfl) rfl
theorem q1103 : (Jvm.Cond.static ({ cls := "TrapdoorVotesModel", name := "flag", desc := "(Z)I" } : Jvm.MethodName)) ∈ lw_all := lw_g (lw_at lw_m5 76 rfl) rfl
theorem q1104 : (Jvm.Cond.code ({ cls := "TrapdoorVotesModel", name := "flag", desc := "(Z)I" } : Jvm.MethodName) prog_12_method_4_code (1 : Nat) (Option.some Jvm.ClassFile.FieldType.int)) ∈ lw_all := lw_g (lw_at lw_m5 77 rfl) rfl
theorem q1105 : (Jvm.Cond.methodLink "TrapdoorVotesModel" (203 : Nat) ({ cls := "TrapdoorVotesModel", name := "upNow", desc := "()I" } : Jvm.MethodName)) ∈ lw_all := lw_g (lw_at lw_m5 78 rfl) rfl
theorem q1106 : (Jvm.Cond.privateMethod ({ cls := "TrapdoorVotesModel", name := "upNow", desc := "()I" } : Jvm.MethodName)) ∈ lw_tbl := lw_at lw_m5 79 rfl
theorem q1107 : (Jvm.Cond.instanceMethod ({ cls := "TrapdoorVotesModel", name := "upNow", desc := "()I" } : Jvm.MethodName)) ∈ lw_all := lw_g (lw_at lw_m5 80 rfl) rfl
theorem q1108 : (Jvm.Cond.code ({ cls := "TrapdoorVotesModel", name := "upNow", desc := "()I" } : Jvm.MethodName) prog_12_method_42_code (3 : Nat) (Option.some Jvm.ClassFile.FieldType.int)) ∈ lw_all := lw_g (lw_at lw_m5 81 rfl) rfl
theorem q1109 : (Jvm.Cond.methodLink "TrapdoorVotesModel" (189 : Nat) ({ cls := "TrapdoorVotesModel", name := "isDown", desc := "(I)Z" } : Jvm.MethodName)) ∈ lw_all := lw_g (lw_at lw_m5 82 rfl) rfl
theorem q1110 : (Jvm.Cond.privateMethod ({ cls := "TrapdoorVotesModel", name := "isDown", desc := "(I)Z" } : Jvm.MethodName)) ∈ lw_tbl := lw_at lw_m5 83 rfl
theorem q1111 : (Jvm.Cond.instanceMethod ({ cls := "TrapdoorVotesModel", name := "isDown", desc := "(I)Z" } : Jvm.MethodName)) ∈ lw_all := lw_g (lw_at lw_m5 84 rfl) rfl
theorem q1112 : (Jvm.Cond.code ({ cls := "TrapdoorVotesModel", name := "isDown", desc := "(I)Z" } : Jvm.MethodName) prog_12_method_34_code (2 : Nat) (Option.some Jvm.ClassFile.FieldType.boolean)) ∈ lw_all := lw_g (lw_at lw_m5 85 rfl) rfl
theorem q1113 : (Jvm.Cond.methodLink "TrapdoorVotesModel" (157 : Nat) ({ cls := "TrapdoorVotesModel", name := "ofMinister", desc := "(II)I" } : Jvm.MethodName)) ∈ lw_all := lw_g (lw_at lw_m5 86 rfl) rfl
theorem q1114 : (Jvm.Cond.privateMethod ({ cls := "TrapdoorVotesModel", name := "ofMinister", desc := "(II)I" } : Jvm.MethodName)) ∈ lw_tbl := lw_at lw_m5 87 rfl
theorem q1115 : (Jvm.Cond.instanceMethod ({ cls := "TrapdoorVotesModel", name := "ofMinister", desc := "(II)I" } : Jvm.MethodName)) ∈ lw_all := lw_g (lw_at lw_m5 88 rfl) rfl
theorem q1116 : (Jvm.Cond.code ({ cls := "TrapdoorVotesModel", name := "ofMinister", desc := "(II)I" } : Jvm.MethodName) prog_12_method_32_code (3 : Nat) (Option.some Jvm.ClassFile.FieldType.int)) ∈ lw_all := lw_g (lw_at lw_m5 89 rfl) rfl
theorem q1117 : (Jvm.Cond.methodLink "TrapdoorVotesModel" (206 : Nat) ({ cls := "TrapdoorVotesModel", name := "temperOfAll", desc := "()I" } : Jvm.MethodName)) ∈ lw_all := lw_g (lw_at lw_m5 90 rfl) rfl
theorem q1118 : (Jvm.Cond.privateMethod ({ cls := "TrapdoorVotesModel", name := "temperOfAll", desc := "()I" } : Jvm.MethodName)) ∈ lw_tbl := lw_at lw_m5 91 rfl
theorem q1119 : (Jvm.Cond.instanceMethod ({ cls := "TrapdoorVotesModel", name := "temperOfAll", desc := "()I" } : Jvm.MethodName)) ∈ lw_all := lw_g (lw_at lw_m5 92 rfl) rfl
theorem q1120 : (Jvm.Cond.code ({ cls := "TrapdoorVotesModel", name := "temperOfAll", desc := "()I" } : Jvm.MethodName) prog_12_method_43_code (3 : Nat) (Option.some Jvm.ClassFile.FieldType.int)) ∈ lw_all := lw_g (lw_at lw_m5 93 rfl) rfl
theorem q1122 : (Jvm.Cond.instanceMethod ({ cls := "TrapdoorVotesModel", name := "square", desc := "(II)I" } : Jvm.MethodName)) ∈ lw_all := lw_g (lw_at lw_m5 95 rfl) rfl
theorem q1123 : (Jvm.Cond.selects "TrapdoorVotesModel" ({ cls := "TrapdoorVotesModel", name := "square", desc := "(II)I" } : Jvm.MethodName) ({ cls := "TrapdoorVotesModel", name := "square", desc := "(II)I" } : Jvm.MethodName)) ∈ lw_all := lw_g (lw_at lw_m5 96 rfl) rfl
theorem q1124 : (Jvm.Cond.code ({ cls := "TrapdoorVotesModel", name := "square", desc := "(II)I" } : Jvm.MethodName) prog_12_method_46_code (5 : Nat) (Option.some Jvm.ClassFile.FieldType.int)) ∈ lw_all := lw_g (lw_at lw_m5 97 rfl) rfl
theorem q1125 : (Jvm.Cond.methodLink "TrapdoorVotesModel" (209 : Nat) ({ cls := "TrapdoorVotesModel", name := "isSquare", desc := "(I)Z" } : Jvm.MethodName)) ∈ lw_all := lw_g (lw_at lw_m5 98 rfl) rfl
theorem q1126 : (Jvm.Cond.static ({ cls := "TrapdoorVotesModel", name := "isSquare", desc := "(I)Z" } : Jvm.MethodName)) ∈ lw_all := lw_g (lw_at lw_m5 99 rfl) rfl
theorem q1127 : (Jvm.Cond.code ({ cls := "TrapdoorVotesModel", name := "isSquare", desc := "(I)Z" } : Jvm.MethodName) prog_12_method_26_code (1 : Nat) (Option.some Jvm.ClassFile.FieldType.boolean)) ∈ lw_all := lw_g (lw_at lw_m5 100 rfl) rfl
theorem q1128 : (Jvm.Cond.constantLong "TrapdoorVotesModel" (149 : Nat) (5 : Int64)) ∈ lw_all := lw_g (lw_at lw_m5 101 rfl) rfl
theorem q1129 : (Jvm.Cond.constantLong "TrapdoorVotesModel" (212 : Nat) (3 : Int64)) ∈ lw_all := lw_g (lw_at lw_m5 102 rfl) rfl
theorem q1130 : (Jvm.Cond.methodLink "TrapdoorVotesModel" (214 : Nat) ({ cls := "TrapdoorVotesModel", name := "handsAt", desc := "(I)I" } : Jvm.MethodName)) ∈ lw_all := lw_g (lw_at lw_m5 103 rfl) rfl
theorem q1131 : (Jvm.Cond.privateMethod ({ cls := "TrapdoorVotesModel", name := "handsAt", desc := "(I)I" } : Jvm.MethodName)) ∈ lw_tbl := lw_at lw_m5 104 rfl
theorem q1132 : (Jvm.Cond.instanceMethod ({ cls := "TrapdoorVotesModel", name := "handsAt", desc := "(I)I" } : Jvm.MethodName)) ∈ lw_all := lw_g (lw_at lw_m5 105 rfl) rfl
theorem q1133 : (Jvm.Cond.code ({ cls := "TrapdoorVotesModel", name := "handsAt", desc := "(I)I" } : Jvm.MethodName) prog_12_method_45_code (4 : Nat) (Option.some Jvm.ClassFile.FieldType.int)) ∈ lw_all := lw_g (lw_at lw_m5 106 rfl) rfl
theorem q1135 : (Jvm.Cond.instanceMethod ({ cls := "TrapdoorVotesModel", name := "hand", desc := "(II)I" } : Jvm.MethodName)) ∈ lw_all := lw_g (lw_at lw_m5 108 rfl) rfl
theorem q1136 : (Jvm.Cond.selects "TrapdoorVotesModel" ({ cls := "TrapdoorVotesModel", name := "hand", desc := "(II)I" } : Jvm.MethodName) ({ cls := "TrapdoorVotesModel", name := "hand", desc := "(II)I" } : Jvm.MethodName)) ∈ lw_all := lw_g (lw_at lw_m5 109 rfl) rfl
theorem q1137 : (Jvm.Cond.code ({ cls := "TrapdoorVotesModel", name := "hand", desc := "(II)I" } : Jvm.MethodName) prog_12_method_47_code (3 : Nat) (Option.some Jvm.ClassFile.FieldType.int)) ∈ lw_all := lw_g (lw_at lw_m5 110 rfl) rfl
theorem q1138 : (Jvm.Cond.methodLink "TrapdoorVotesModel" (217 : Nat) ({ cls := "TrapdoorVotesModel", name := "isHand", desc := "(I)Z" } : Jvm.MethodName)) ∈ lw_all := lw_g (lw_at lw_m5 111 rfl) rfl
theorem q1139 : (Jvm.Cond.privateMethod ({ cls := "TrapdoorVotesModel", name := "isHand", desc := "(I)Z" } : Jvm.MethodName)) ∈ lw_tbl := lw_at lw_m5 112 rfl
theorem q1140 : (Jvm.Cond.instanceMethod ({ cls := "TrapdoorVotesModel", name := "isHand", desc := "(I)Z" } : Jvm.MethodName)) ∈ lw_all := lw_g (lw_at lw_m5 113 rfl) rfl
theorem q1141 : (Jvm.Cond.code ({ cls := "TrapdoorVotesModel", name := "isHand", desc := "(I)Z" } : Jvm.MethodName) prog_12_method_24_code (2 : Nat) (Option.some Jvm.ClassFile.FieldType.boolean)) ∈ lw_all := lw_g (lw_at lw_m5 114 rfl) rfl
theorem q1143 : (Jvm.Cond.instanceMethod ({ cls := "TrapdoorVotesModel", name := "minister", desc := "(II)I" } : Jvm.MethodName)) ∈ lw_all := lw_g (lw_at lw_m5 116 rfl) rfl
theorem q1144 : (Jvm.Cond.selects "TrapdoorVotesModel" ({ cls := "TrapdoorVotesModel", name := "minister", desc := "(II)I" } : Jvm.MethodName) ({ cls := "TrapdoorVotesModel", name := "minister", desc := "(II)I" } : Jvm.MethodName)) ∈ lw_all := lw_g (lw_at lw_m5 117 rfl) rfl
theorem q1145 : (Jvm.Cond.code ({ cls := "TrapdoorVotesModel", name := "minister", desc := "(II)I" } : Jvm.MethodName) prog_12_method_48_code (6 : Nat) (Option.some Jvm.ClassFile.FieldType.int)) ∈ lw_all := lw_g (lw_at lw_m5 118 rfl) rfl
theorem q1146 : (Jvm.Cond.methodLink "TrapdoorVotesModel" (220 : Nat) ({ cls := "TrapdoorVotesModel", name := "isMinister", desc := "(I)Z" } : Jvm.MethodName)) ∈ lw_all := lw_g (lw_at lw_m5 119 rfl) rfl
theorem q1147 : (Jvm.Cond.privateMethod ({ cls := "TrapdoorVotesModel", name := "isMinister", desc := "(I)Z" } : Jvm.MethodName)) ∈ lw_tbl := lw_at lw_m5 120 rfl
theorem q1148 : (Jvm.Cond.instanceMethod ({ cls := "TrapdoorVotesModel", name := "isMinister", desc := "(I)Z" } : Jvm.MethodName)) ∈ lw_all := lw_g (lw_at lw_m5 121 rfl) rfl
theorem q1149 : (Jvm.Cond.code ({ cls := "TrapdoorVotesModel", name := "isMinister", desc := "(I)Z" } : Jvm.MethodName) prog_12_method_25_code (2 : Nat) (Option.some Jvm.ClassFile.FieldType.boolean)) ∈ lw_all := lw_g (lw_at lw_m5 122 rfl) rfl
theorem q1150 : (Jvm.Cond.methodLink "TrapdoorVotesModel" (173 : Nat) ({ cls := "TrapdoorVotesModel", name := "angered", desc := "(II)I" } : Jvm.MethodName)) ∈ lw_all := lw_g (lw_at lw_m5 123 rfl) rfl
theorem q1151 : (Jvm.Cond.static ({ cls := "TrapdoorVotesModel", name := "angered", desc := "(II)I" } : Jvm.MethodName)) ∈ lw_all := lw_g (lw_at lw_m5 124 rfl) rfl
theorem q1152 : (Jvm.Cond.code ({ cls := "TrapdoorVotesModel", name := "angered", desc := "(II)I" } : Jvm.MethodName) prog_12_method_35_code (3 : Nat) (Option.some Jvm.ClassFile.FieldType.int)) ∈ lw_all := lw_g (lw_at lw_m5 125 rfl) rfl
theorem q1154 : (Jvm.Cond.instanceMethod ({ cls := "TrapdoorVotesModel", name := "alter", desc := "(III)I" } : Jvm.MethodName)) ∈ lw_all := lw_g (lw_at lw_m5 127 rfl) rfl
theorem q1155 : (Jvm.Cond.selects "TrapdoorVotesModel" ({ cls := "TrapdoorVotesModel", name := "alter", desc := "(III)I" } : Jvm.MethodName) ({ cls := "TrapdoorVotesModel", name := "alter", desc := "(III)I" } : Jvm.MethodName)) ∈ lw_all := lw_g (lw_at lw_m5 128 rfl) rfl
theorem q1156 : (Jvm.Cond.code ({ cls := "TrapdoorVotesModel", name := "alter", desc := "(III)I" } : Jvm.MethodName) prog_12_method_50_code (5 : Nat) (Option.some Jvm.ClassFile.FieldType.int)) ∈ lw_all := lw_g (lw_at lw_m5 129 rfl) rfl
theorem q1157 : (Jvm.Cond.constantLong "TrapdoorVotesModel" (223 : Nat) (99 : Int64)) ∈ lw_all := lw_g (lw_at lw_m5 130 rfl) rfl
theorem q1158 : (Jvm.Cond.methodLink "TrapdoorVotesModel" (225 : Nat) ({ cls := "TrapdoorVotesModel", name := "becomes", desc := "(II)I" } : Jvm.MethodName)) ∈ lw_all := lw_g (lw_at lw_m5 131 rfl) rfl
theorem q1159 : (Jvm.Cond.privateMethod ({ cls := "TrapdoorVotesModel", name := "becomes", desc := "(II)I" } : Jvm.MethodName)) ∈ lw_tbl := lw_at lw_m5 132 rfl
theorem q1160 : (Jvm.Cond.instanceMethod ({ cls := "TrapdoorVotesModel", name := "becomes", desc := "(II)I" } : Jvm.MethodName)) ∈ lw_all := lw_g (lw_at lw_m5 133 rfl) rfl
theorem q1161 : (Jvm.Cond.code ({ cls := "TrapdoorVotesModel", name := "becomes", desc := "(II)I" } : Jvm.MethodName) prog_12_method_49_code (4 : Nat) (Option.some Jvm.ClassFile.FieldType.int)) ∈ lw_all := lw_g (lw_at lw_m5 134 rfl) rfl
theorem q1163 : (Jvm.Cond.instanceMethod ({ cls := "TrapdoorVotesModel", name := "tread", desc := "(II)I" } : Jvm.MethodName)) ∈ lw_all := lw_g (lw_at lw_m5 136 rfl) rfl
theorem q1164 : (Jvm.Cond.selects "TrapdoorVotesModel" ({ cls := "TrapdoorVotesModel", name := "tread", desc := "(II)I" } : Jvm.MethodName) ({ cls := "TrapdoorVotesModel", name := "tread", desc := "(II)I" } : Jvm.MethodName)) ∈ lw_all := lw_g (lw_at lw_m5 137 rfl) rfl
theorem q1165 : (Jvm.Cond.code ({ cls := "TrapdoorVotesModel", name := "tread", desc := "(II)I" } : Jvm.MethodName) prog_12_method_51_code (3 : Nat) (Option.some Jvm.ClassFile.FieldType.int)) ∈ lw_all := lw_g (lw_at lw_m5 138 rfl) rfl
theorem q1166 : (Jvm.Cond.constantLong "TrapdoorVotesModel" (228 : Nat) (9 : Int64)) ∈ lw_all := lw_g (lw_at lw_m5 139 rfl) rfl
theorem q1168 : (Jvm.Cond.instanceMethod ({ cls := "TrapdoorVotesModel", name := "step", desc := "(II)I" } : Jvm.MethodName)) ∈ lw_all := lw_g (lw_at lw_m5 141 rfl) rfl
theorem q1169 : (Jvm.Cond.selects "TrapdoorVotesModel" ({ cls := "TrapdoorVotesModel", name := "step", desc := "(II)I" } : Jvm.MethodName) ({ cls := "TrapdoorVotesModel", name := "step", desc := "(II)I" } : Jvm.MethodName)) ∈ lw_all := lw_g (lw_at lw_m5 142 rfl) rfl
theorem q1170 : (Jvm.Cond.code ({ cls := "TrapdoorVotesModel", name := "step", desc := "(II)I" } : Jvm.MethodName) prog_12_method_52_code (3 : Nat) (Option.some Jvm.ClassFile.FieldType.int)) ∈ lw_all := lw_g (lw_at lw_m5 143 rfl) rfl
theorem q1172 : (Jvm.Cond.instanceMethod ({ cls := "TrapdoorVotesModel", name := "bolt", desc := "(III)I" } : Jvm.MethodName)) ∈ lw_all := lw_g (lw_at lw_m5 145 rfl) rfl
theorem q1173 : (Jvm.Cond.selects "TrapdoorVotesModel" ({ cls := "TrapdoorVotesModel", name := "bolt", desc := "(III)I" } : Jvm.MethodName) ({ cls := "TrapdoorVotesModel", name := "bolt", desc := "(III)I" } : Jvm.MethodName)) ∈ lw_all := lw_g (lw_at lw_m5 146 rfl) rfl
theorem q1174 : (Jvm.Cond.code ({ cls := "TrapdoorVotesModel", name := "bolt", desc := "(III)I" } : Jvm.MethodName) prog_12_method_53_code (5 : Nat) (Option.some Jvm.ClassFile.FieldType.int)) ∈ lw_all := lw_g (lw_at lw_m5 147 rfl) rfl
theorem q1175 : (Jvm.Cond.constantLong "TrapdoorVotesModel" (230 : Nat) (20 : Int64)) ∈ lw_all := lw_g (lw_at lw_m5 148 rfl) rfl
theorem q1177 : (Jvm.Cond.instanceMethod ({ cls := "TrapdoorVotesModel", name := "turns", desc := "(I)I" } : Jvm.MethodName)) ∈ lw_all := lw_g (lw_at lw_m5 150 rfl) rfl
theorem q1178 : (Jvm.Cond.selects "TrapdoorVotesModel" ({ cls := "TrapdoorVotesModel", name := "turns", desc := "(I)I" } : Jvm.MethodName) ({ cls := "TrapdoorVotesModel", name := "turns", desc := "(I)I" } : Jvm.MethodName)) ∈ lw_all := lw_g (lw_at lw_m5 151 rfl) rfl
theorem q1179 : (Jvm.Cond.code ({ cls := "TrapdoorVotesModel", name := "turns", desc := "(I)I" } : Jvm.MethodName) prog_12_method_54_code (2 : Nat) (Option.some Jvm.ClassFile.FieldType.int)) ∈ lw_all := lw_g (lw_at lw_m5 152 rfl) rfl
theorem q1180 : (Jvm.Cond.constantLong "TrapdoorVotesModel" (232 : Nat) (30 : Int64)) ∈ lw_all := lw_g (lw_at lw_m5 153 rfl) rfl
theorem q1181 : (Jvm.Cond.methodLink "TrapdoorVotesModel" (234 : Nat) ({ cls := "TrapdoorVotesModel", name := "turnsGo", desc := "(I)V" } : Jvm.MethodName)) ∈ lw_all := lw_g (lw_at lw_m5 154 rfl) rfl
theorem q1182 : (Jvm.Cond.privateMethod ({ cls := "TrapdoorVotesModel", name := "turnsGo", desc := "(I)V" } : Jvm.MethodName)) ∈ lw_tbl := lw_at lw_m5 155 rfl
theorem q1183 : (Jvm.Cond.instanceMethod ({ cls := "TrapdoorVotesModel", name := "turnsGo", desc := "(I)V" } : Jvm.MethodName)) ∈ lw_all := lw_g (lw_at lw_m5 156 rfl) rfl
theorem q1184 : (Jvm.Cond.code ({ cls := "TrapdoorVotesModel", name := "turnsGo", desc := "(I)V" } : Jvm.MethodName) prog_12_method_41_code (3 : Nat) (Option.none : Option Jvm.ClassFile.FieldType)) ∈ lw_all := lw_g (lw_at lw_m5 157 rfl) rfl
theorem q1185 : (Jvm.Cond.methodLink "TrapdoorVotesModel" (196 : Nat) ({ cls := "TrapdoorVotesModel", name := "turnGoes", desc := "(Z)V" } : Jvm.MethodName)) ∈ lw_all := lw_g (lw_at lw_m5 158 rfl) rfl
theorem q1186 : (Jvm.Cond.privateMethod ({ cls := "TrapdoorVotesModel", name := "turnGoes", desc := "(Z)V" } : Jvm.MethodName)) ∈ lw_tbl := lw_at lw_m5 159 rfl
theorem q1187 : (Jvm.Cond.instanceMethod ({ cls := "TrapdoorVotesModel", name := "turnGoes", desc := "(Z)V" } : Jvm.MethodName)) ∈ lw_all := lw_g (lw_at lw_m5 160 rfl) rfl
theorem q1188 : (Jvm.Cond.code ({ cls := "TrapdoorVotesModel", name := "turnGoes", desc := "(Z)V" } : Jvm.MethodName) prog_12_method_40_code (4 : Nat) (Option.none : Option Jvm.ClassFile.FieldType)) ∈ lw_all := lw_g (lw_at lw_m5 161 rfl) rfl
theorem q1189 : (Jvm.Cond.methodLink "TrapdoorVotesModel" (193 : Nat) ({ cls := "TrapdoorVotesModel", name := "ministerTreads", desc := "(I)V" } : Jvm.MethodName)) ∈ lw_all := lw_g (lw_at lw_m5 162 rfl) rfl
theorem q1190 : (Jvm.Cond.privateMethod ({ cls := "TrapdoorVotesModel", name := "ministerTreads", desc := "(I)V" } : Jvm.MethodName)) ∈ lw_tbl := lw_at lw_m5 163 rfl
theorem q1191 : (Jvm.Cond.instanceMethod ({ cls := "TrapdoorVotesModel", name := "ministerTreads", desc := "(I)V" } : Jvm.MethodName)) ∈ lw_all := lw_g (lw_at lw_m5 164 rfl) rfl
theorem q1192 : (Jvm.Cond.code ({ cls := "TrapdoorVotesModel", name := "ministerTreads", desc := "(I)V" } : Jvm.MethodName) prog_12_method_39_code (4 : Nat) (Option.none : Option Jvm.ClassFile.FieldType)) ∈ lw_all := lw_g (lw_at lw_m5 165 rfl) rfl
theorem q1193 : (Jvm.Cond.methodLink "TrapdoorVotesModel" (163 : Nat) ({ cls := "TrapdoorVotesModel", name := "isUnder", desc := "(II)Z" } : Jvm.MethodName)) ∈ lw_all := lw_g (lw_at lw_m5 166 rfl) rfl
theorem q1194 : (Jvm.Cond.privateMethod ({ cls := "TrapdoorVotesModel", name := "isUnder", desc := "(II)Z" } : Jvm.MethodName)) ∈ lw_tbl := lw_at lw_m5 167 rfl
theorem q1195 : (Jvm.Cond.instanceMethod ({ cls := "TrapdoorVotesModel", name := "isUnder", desc := "(II)Z" } : Jvm.MethodName)) ∈ lw_all := lw_g (lw_at lw_m5 168 rfl) rfl
theorem q1196 : (Jvm.Cond.code ({ cls := "TrapdoorVotesModel", name := "isUnder", desc := "(II)Z" } : Jvm.MethodName) prog_12_method_36_code (3 : Nat) (Option.some Jvm.ClassFile.FieldType.boolean)) ∈ lw_all := lw_g (lw_at lw_m5 169 rfl) rfl
theorem q1197 : (Jvm.Cond.methodLink "TrapdoorVotesModel" (176 : Nat) ({ cls := "TrapdoorVotesModel", name := "lesser", desc := "(II)I" } : Jvm.MethodName)) ∈ lw_all := lw_g (lw_at lw_m5 170 rfl) rfl
theorem q1198 : (Jvm.Cond.static ({ cls := "TrapdoorVotesModel", name := "lesser", desc := "(II)I" } : Jvm.MethodName)) ∈ lw_all := lw_g (lw_at lw_m5 171 rfl) rfl
theorem q1199 : (Jvm.Cond.code ({ cls := "TrapdoorVotesModel", name := "lesser", desc := "(II)I" } : Jvm.MethodName) prog_12_method_5_code (2 : Nat) (Option.some Jvm.ClassFile.FieldType.int)) ∈ lw_all := lw_g (lw_at lw_m5 172 rfl) rfl
theorem q1200 : (Jvm.Cond.methodLink "TrapdoorVotesModel" (179 : Nat) ({ cls := "TrapdoorVotesModel", name := "becomesOf", desc := "(III)V" } : Jvm.MethodName)) ∈ lw_all := lw_g (lw_at lw_m5 173 rfl) rfl
theorem q1201 : (Jvm.Cond.privateMethod ({ cls := "TrapdoorVotesModel", name := "becomesOf", desc := "(III)V" } : Jvm.MethodName)) ∈ lw_tbl := lw_at lw_m5 174 rfl
theorem q1202 : (Jvm.Cond.instanceMethod ({ cls := "TrapdoorVotesModel", name := "becomesOf", desc := "(III)V" } : Jvm.MethodName)) ∈ lw_all := lw_g (lw_at lw_m5 175 rfl) rfl
theorem q1203 : (Jvm.Cond.code ({ cls := "TrapdoorVotesModel", name := "becomesOf", desc := "(III)V" } : Jvm.MethodName) prog_12_method_31_code (4 : Nat) (Option.none : Option Jvm.ClassFile.FieldType)) ∈ lw_all := lw_g (lw_at lw_m5 176 rfl) rfl
theorem q1204 : (Jvm.Cond.methodLink "TrapdoorVotesModel" (183 : Nat) ({ cls := "TrapdoorVotesModel", name := "drawnAt", desc := "(I)I" } : Jvm.MethodName)) ∈ lw_all := lw_g (lw_at lw_m5 177 rfl) rfl
theorem q1205 : (Jvm.Cond.privateMethod ({ cls := "TrapdoorVotesModel", name := "drawnAt", desc := "(I)I" } : Jvm.MethodName)) ∈ lw_tbl := lw_at lw_m5 178 rfl
theorem q1206 : (Jvm.Cond.instanceMethod ({ cls := "TrapdoorVotesModel", name := "drawnAt", desc := "(I)I" } : Jvm.MethodName)) ∈ lw_all := lw_g (lw_at lw_m5 179 rfl) rfl
theorem q1207 : (Jvm.Cond.code ({ cls := "TrapdoorVotesModel", name := "drawnAt", desc := "(I)I" } : Jvm.MethodName) prog_12_method_38_code (4 : Nat) (Option.some Jvm.ClassFile.FieldType.int)) ∈ lw_all := lw_g (lw_at lw_m5 180 rfl) rfl
theorem q1208 : (Jvm.Cond.methodLink "TrapdoorVotesModel" (186 : Nat) ({ cls := "TrapdoorVotesModel", name := "stepsTo", desc := "(II)V" } : Jvm.MethodName)) ∈ lw_all := lw_g (lw_at lw_m5 181 rfl) rfl
theorem q1209 : (Jvm.Cond.privateMethod ({ cls := "TrapdoorVotesModel", name := "stepsTo", desc := "(II)V" } : Jvm.MethodName)) ∈ lw_tbl := lw_at lw_m5 182 rfl
theorem q1210 : (Jvm.Cond.instanceMethod ({ cls := "TrapdoorVotesModel", name := "stepsTo", desc := "(II)V" } : Jvm.MethodName)) ∈ lw_all := lw_g (lw_at lw_m5 183 rfl) rfl
theorem q1211 : (Jvm.Cond.code ({ cls := "TrapdoorVotesModel", name := "stepsTo", desc := "(II)V" } : Jvm.MethodName) prog_12_method_33_code (3 : Nat) (Option.none : Option Jvm.ClassFile.FieldType)) ∈ lw_all := lw_g (lw_at lw_m5 184 rfl) rfl
theorem q1212 : (Jvm.Cond.methodLink "TrapdoorVotesModel" (237 : Nat) ({ cls := "TrapdoorVotesModel", name := "settles", desc := "()V" } : Jvm.MethodName)) ∈ lw_all := lw_g (lw_at lw_m5 185 rfl) rfl
theorem q1213 : (Jvm.Cond.privateMethod ({ cls := "TrapdoorVotesModel", name := "settles", desc := "()V" } : Jvm.MethodName)) ∈ lw_tbl := lw_at lw_m5 186 rfl
theorem q1214 : (Jvm.Cond.instanceMethod ({ cls := "TrapdoorVotesModel", name := "settles", desc := "()V" } : Jvm.MethodName)) ∈ lw_all := lw_g (lw_at lw_m5 187 rfl) rfl
theorem q1215 : (Jvm.Cond.code ({ cls := "TrapdoorVotesModel", name := "settles", desc := "()V" } : Jvm.MethodName) prog_12_method_29_code (2 : Nat) (Option.none : Option Jvm.ClassFile.FieldType)) ∈ lw_all := lw_g (lw_at lw_m5 188 rfl) rfl
theorem q1217 : (Jvm.Cond.instanceMethod ({ cls := "TrapdoorVotesModel", name := "runs", desc := "(II)I" } : Jvm.MethodName)) ∈ lw_all := lw_g (lw_at lw_m5 190 rfl) rfl
theorem q1218 : (Jvm.Cond.selects "TrapdoorVotesModel" ({ cls := "TrapdoorVotesModel", name := "runs", desc := "(II)I" } : Jvm.MethodName) ({ cls := "TrapdoorVotesModel", name := "runs", desc := "(II)I" } : Jvm.MethodName)) ∈ lw_all := lw_g (lw_at lw_m5 191 rfl) rfl
theorem q1219 : (Jvm.Cond.code ({ cls := "TrapdoorVotesModel", name := "runs", desc := "(II)I" } : Jvm.MethodName) prog_12_method_56_code (5 : Nat) (Option.some Jvm.ClassFile.FieldType.int)) ∈ lw_all := lw_g (lw_at lw_m5 192 rfl) rfl
theorem q1220 : (Jvm.Cond.methodLink "TrapdoorVotesModel" (242 : Nat) ({ cls := "TrapdoorVotesModel", name := "isFar", desc := "(I)Z" } : Jvm.MethodName)) ∈ lw_all := lw_g (lw_at lw_m5 193 rfl) rfl
theorem q1221 : (Jvm.Cond.static ({ cls := "TrapdoorVotesModel", name := "isFar", desc := "(I)Z" } : Jvm.MethodName)) ∈ lw_all := lw_g (lw_at lw_m5 194 rfl) rfl
theorem q1222 : (Jvm.Cond.code ({ cls := "TrapdoorVotesModel", name := "isFar", desc := "(I)Z" } : Jvm.MethodName) prog_12_method_55_code (1 : Nat) (Option.some Jvm.ClassFile.FieldType.boolean)) ∈ lw_all := lw_g (lw_at lw_m5 195 rfl) rfl
theorem q1223 : (Jvm.Cond.constantLong "TrapdoorVotesModel" (240 : Nat) (60 : Int64)) ∈ lw_all := lw_g (lw_at lw_m5 196 rfl) rfl
theorem q1225 : (Jvm.Cond.instanceMethod ({ cls := "TrapdoorVotesModel", name := "ahead", desc := "(II)I" } : Jvm.MethodName)) ∈ lw_all := lw_g (lw_at lw_m5 198 rfl) rfl
theorem q1226 : (Jvm.Cond.selects "TrapdoorVotesModel" ({ cls := "TrapdoorVotesModel", name := "ahead", desc := "(II)I" } : Jvm.MethodName) ({ cls := "TrapdoorVotesModel", name := "ahead", desc := "(II)I" } : Jvm.MethodName)) ∈ lw_all := lw_g (lw_at lw_m5 199 rfl) rfl
theorem q1227 : (Jvm.Cond.code ({ cls := "TrapdoorVotesModel", name := "ahead", desc := "(II)I" } : Jvm.MethodName) prog_12_method_57_code (3 : Nat) (Option.some Jvm.ClassFile.FieldType.int)) ∈ lw_all := lw_g (lw_at lw_m5 200 rfl) rfl
theorem q1229 : (Jvm.Cond.instanceMethod ({ cls := "TrapdoorVotesModel", name := "lasts", desc := "(I)I" } : Jvm.MethodName)) ∈ lw_all := lw_g (lw_at lw_m5 202 rfl) rfl
theorem q1230 : (Jvm.Cond.selects "TrapdoorVotesModel" ({ cls := "TrapdoorVotesModel", name := "lasts", desc := "(I)I" } : Jvm.MethodName) ({ cls := "TrapdoorVotesModel", name := "lasts", desc := "(I)I" } : Jvm.MethodName)) ∈ lw_all := lw_g (lw_at lw_m5 203 rfl) rfl
theorem q1231 : (Jvm.Cond.code ({ cls := "TrapdoorVotesModel", name := "lasts", desc := "(I)I" } : Jvm.MethodName) prog_12_method_59_code (2 : Nat) (Option.some Jvm.ClassFile.FieldType.int)) ∈ lw_all := lw_g (lw_at lw_m5 204 rfl) rfl
theorem q1232 : (Jvm.Cond.methodLink "TrapdoorVotesModel" (245 : Nat) ({ cls := "TrapdoorVotesModel", name := "turnsTo", desc := "(I)I" } : Jvm.MethodName)) ∈ lw_all := lw_g (lw_at lw_m5 205 rfl) rfl
theorem q1233 : (Jvm.Cond.privateMethod ({ cls := "TrapdoorVotesModel", name := "turnsTo", desc := "(I)I" } : Jvm.MethodName)) ∈ lw_tbl := lw_at lw_m5 206 rfl
theorem q1234 : (Jvm.Cond.instanceMethod ({ cls := "TrapdoorVotesModel", name := "turnsTo", desc := "(I)I" } : Jvm.MethodName)) ∈ lw_all := lw_g (lw_at lw_m5 207 rfl) rfl
theorem q1235 : (Jvm.Cond.code ({ cls := "TrapdoorVotesModel", name := "turnsTo", desc := "(I)I" } : Jvm.MethodName) prog_12_method_58_code (3 : Nat) (Option.some Jvm.ClassFile.FieldType.int)) ∈ lw_all := lw_g (lw_at lw_m5 208 rfl) rfl
theorem q1237 : (Jvm.Cond.instanceMethod ({ cls := "TrapdoorVotesModel", name := "stand", desc := "(II)I" } : Jvm.MethodName)) ∈ lw_all := lw_g (lw_at lw_m5 210 rfl) rfl
theorem q1238 : (Jvm.Cond.selects "TrapdoorVotesModel" ({ cls := "TrapdoorVotesModel", name := "stand", desc := "(II)I" } : Jvm.MethodName) ({ cls := "TrapdoorVotesModel", name := "stand", desc := "(II)I" } : Jvm.MethodName)) ∈ lw_all := lw_g (lw_at lw_m5 211 rfl) rfl
theorem q1239 : (Jvm.Cond.code ({ cls := "TrapdoorVotesModel", name := "stand", desc := "(II)I" } : Jvm.MethodName) prog_12_method_64_code (5 : Nat) (Option.some Jvm.ClassFile.FieldType.int)) ∈ lw_all := lw_g (lw_at lw_m5 212 rfl) rfl
theorem q1240 : (Jvm.Cond.methodLink "TrapdoorVotesModel" (254 : Nat) ({ cls := "TrapdoorVotesModel", name := "isPart", desc := "(I)Z" } : Jvm.MethodName)) ∈ lw_all := lw_g (lw_at lw_m5 213 rfl) rfl
theorem q1241 : (Jvm.Cond.static ({ cls := "TrapdoorVotesModel", name := "isPart", desc := "(I)Z" } : Jvm.MethodName)) ∈ lw_all := lw_g (lw_at lw_m5 214 rfl) rfl
theorem q1242 : (Jvm.Cond.code ({ cls := "TrapdoorVotesModel", name := "isPart", desc := "(I)Z" } : Jvm.MethodName) prog_12_method_27_code (1 : Nat) (Option.some Jvm.ClassFile.FieldType.boolean)) ∈ lw_all := lw_g (lw_at lw_m5 215 rfl) rfl
theorem q1243 : (Jvm.Cond.methodLink "TrapdoorVotesModel" (257 : Nat) ({ cls := "TrapdoorVotesModel", name := "startsJudging", desc := "(I)V" } : Jvm.MethodName)) ∈ lw_all := lw_g (lw_at lw_m5 216 rfl) rfl
theorem q1244 : (Jvm.Cond.privateMethod ({ cls := "TrapdoorVotesModel", name := "startsJudging", desc := "(I)V" } : Jvm.MethodName)) ∈ lw_tbl := lw_at lw_m5 217 rfl
theorem q1245 : (Jvm.Cond.instanceMethod ({ cls := "TrapdoorVotesModel", name := "startsJudging", desc := "(I)V" } : Jvm.MethodName)) ∈ lw_all := lw_g (lw_at lw_m5 218 rfl) rfl
theorem q1246 : (Jvm.Cond.code ({ cls := "TrapdoorVotesModel", name := "startsJudging", desc := "(I)V" } : Jvm.MethodName) prog_12_method_60_code (2 : Nat) (Option.none : Option Jvm.ClassFile.FieldType)) ∈ lw_all := lw_g (lw_at lw_m5 219 rfl) rfl
theorem q1247 : (Jvm.Cond.constant "TrapdoorVotesModel" (260 : Nat) (-1000000 : Int32)) ∈ lw_all := lw_g (lw_at lw_m5 220 rfl) rfl
theorem q1248 : (Jvm.Cond.methodLink "TrapdoorVotesModel" (261 : Nat) ({ cls := "TrapdoorVotesModel", name := "judges", desc := "(II)V" } : Jvm.MethodName)) ∈ lw_all := lw_g (lw_at lw_m5 221 rfl) rfl
theorem q1249 : (Jvm.Cond.privateMethod ({ cls := "TrapdoorVotesModel", name := "judges", desc := "(II)V" } : Jvm.MethodName)) ∈ lw_tbl := lw_at lw_m5 222 rfl
theorem q1250 : (Jvm.Cond.instanceMethod ({ cls := "TrapdoorVotesModel", name := "judges", desc := "(II)V" } : Jvm.MethodName)) ∈ lw_all := lw_g (lw_at lw_m5 223 rfl) rfl
theorem q1251 : (Jvm.Cond.code ({ cls := "TrapdoorVotesModel", name := "judges", desc := "(II)V" } : Jvm.MethodName) prog_12_method_61_code (3 : Nat) (Option.none : Option Jvm.ClassFile.FieldType)) ∈ lw_all := lw_g (lw_at lw_m5 224 rfl) rfl
theorem q1253 : (Jvm.Cond.instanceMethod ({ cls := "TrapdoorVotesModel", name := "soft", desc := "(II)I" } : Jvm.MethodName)) ∈ lw_all := lw_g (lw_at lw_m5 226 rfl) rfl
theorem q1254 : (Jvm.Cond.selects "TrapdoorVotesModel" ({ cls := "TrapdoorVotesModel", name := "soft", desc := "(II)I" } : Jvm.MethodName) ({ cls := "TrapdoorVotesModel", name := "soft", desc := "(II)I" } : Jvm.MethodName)) ∈ lw_all := lw_g (lw_at lw_m5 227 rfl) rfl
theorem q1255 : (Jvm.Cond.code ({ cls := "TrapdoorVotesModel", name := "soft", desc := "(II)I" } : Jvm.MethodName) prog_12_method_65_code (4 : Nat) (Option.some Jvm.ClassFile.FieldType.int)) ∈ lw_all := lw_g (lw_at lw_m5 228 rfl) rfl
theorem q1257 : (Jvm.Cond.instanceMethod ({ cls := "TrapdoorVotesModel", name := "rust", desc := "(II)I" } : Jvm.MethodName)) ∈ lw_all := lw_g (lw_at lw_m5 230 rfl) rfl
theorem q1258 : (Jvm.Cond.selects "TrapdoorVotesModel" ({ cls := "TrapdoorVotesModel", name := "rust", desc := "(II)I" } : Jvm.MethodName) ({ cls := "TrapdoorVotesModel", name := "rust", desc := "(II)I" } : Jvm.MethodName)) ∈ lw_all := lw_g (lw_at lw_m5 231 rfl) rfl
theorem q1259 : (Jvm.Cond.code ({ cls := "TrapdoorVotesModel", name := "rust", desc := "(II)I" } : Jvm.MethodName) prog_12_method_66_code (7 : Nat) (Option.some Jvm.ClassFile.FieldType.int)) ∈ lw_all := lw_g (lw_at lw_m5 232 rfl) rfl
theorem q1261 : (Jvm.Cond.instanceMethod ({ cls := "TrapdoorVotesModel", name := "bribe", desc := "(II)I" } : Jvm.MethodName)) ∈ lw_all := lw_g (lw_at lw_m5 234 rfl) rfl
theorem q1262 : (Jvm.Cond.selects "TrapdoorVotesModel" ({ cls := "TrapdoorVotesModel", name := "bribe", desc := "(II)I" } : Jvm.MethodName) ({ cls := "TrapdoorVotesModel", name := "bribe", desc := "(II)I" } : Jvm.MethodName)) ∈ lw_all := lw_g (lw_at lw_m5 235 rfl) rfl
theorem q1263 : (Jvm.Cond.code ({ cls := "TrapdoorVotesModel", name := "bribe", desc := "(II)I" } : Jvm.MethodName) prog_12_method_67_code (4 : Nat) (Option.some Jvm.ClassFile.FieldType.int)) ∈ lw_all := lw_g (lw_at lw_m5 236 rfl) rfl
theorem q1264 : (Jvm.Cond.methodLink "TrapdoorVotesModel" (264 : Nat) ({ cls := "TrapdoorVotesModel", name := "fallsIn", desc := "(I)I" } : Jvm.MethodName)) ∈ lw_all := lw_g (lw_at lw_m5 237 rfl) rfl
theorem q1265 : (Jvm.Cond.privateMethod ({ cls := "TrapdoorVotesModel", name := "fallsIn", desc := "(I)I" } : Jvm.MethodName)) ∈ lw_tbl := lw_at lw_m5 238 rfl
theorem q1266 : (Jvm.Cond.instanceMethod ({ cls := "TrapdoorVotesModel", name := "fallsIn", desc := "(I)I" } : Jvm.MethodName)) ∈ lw_all := lw_g (lw_at lw_m5 239 rfl) rfl
theorem q1267 : (Jvm.Cond.code ({ cls := "TrapdoorVotesModel", name := "fallsIn", desc := "(I)I" } : Jvm.MethodName) prog_12_method_63_code (2 : Nat) (Option.some Jvm.ClassFile.FieldType.int)) ∈ lw_all := lw_g (lw_at lw_m6 0 rfl) rfl
theorem q1268 : (Jvm.Cond.methodLink "TrapdoorVotesModel" (267 : Nat) ({ cls := "TrapdoorVotesModel", name := "judged", desc := "(I)I" } : Jvm.MethodName)) ∈ lw_all := lw_g (lw_at lw_m6 1 rfl) rfl
theorem q1269 : (Jvm.Cond.privateMethod ({ cls := "TrapdoorVotesModel", name := "judged", desc := "(I)I" } : Jvm.MethodName)) ∈ lw_tbl := lw_at lw_m6 2 rfl
theorem q1270 : (Jvm.Cond.instanceMethod ({ cls := "TrapdoorVotesModel", name := "judged", desc := "(I)I" } : Jvm.MethodName)) ∈ lw_all := lw_g (lw_at lw_m6 3 rfl) rfl
theorem q1271 : (Jvm.Cond.code ({ cls := "TrapdoorVotesModel", name := "judged", desc := "(I)I" } : Jvm.MethodName) prog_12_method_62_code (2 : Nat) (Option.some Jvm.ClassFile.FieldType.int)) ∈ lw_all := lw_g (lw_at lw_m6 4 rfl) rfl
theorem q1273 : (Jvm.Cond.instanceMethod ({ cls := "TrapdoorVotesModel", name := "swap", desc := "(II)I" } : Jvm.MethodName)) ∈ lw_all := lw_g (lw_at lw_m6 6 rfl) rfl
theorem q1274 : (Jvm.Cond.selects "TrapdoorVotesModel" ({ cls := "TrapdoorVotesModel", name := "swap", desc := "(II)I" } : Jvm.MethodName) ({ cls := "TrapdoorVotesModel", name := "swap", desc := "(II)I" } : Jvm.MethodName)) ∈ lw_all := lw_g (lw_at lw_m6 7 rfl) rfl
theorem q1275 : (Jvm.Cond.code ({ cls := "TrapdoorVotesModel", name := "swap", desc := "(II)I" } : Jvm.MethodName) prog_12_method_68_code (6 : Nat) (Option.some Jvm.ClassFile.FieldType.int)) ∈ lw_all := lw_g (lw_at lw_m6 8 rfl) rfl
theorem q1277 : (Jvm.Cond.instanceMethod ({ cls := "TrapdoorVotesModel", name := "kind", desc := "(III)I" } : Jvm.MethodName)) ∈ lw_all := lw_g (lw_at lw_m6 10 rfl) rfl
theorem q1278 : (Jvm.Cond.selects "TrapdoorVotesModel" ({ cls := "TrapdoorVotesModel", name := "kind", desc := "(III)I" } : Jvm.MethodName) ({ cls := "TrapdoorVotesModel", name := "kind", desc := "(III)I" } : Jvm.MethodName)) ∈ lw_all := lw_g (lw_at lw_m6 11 rfl) rfl
theorem q1279 : (Jvm.Cond.code ({ cls := "TrapdoorVotesModel", name := "kind", desc := "(III)I" } : Jvm.MethodName) prog_12_method_69_code (5 : Nat) (Option.some Jvm.ClassFile.FieldType.int)) ∈ lw_all := lw_g (lw_at lw_m6 12 rfl) rfl
theorem q1281 : (Jvm.Cond.instanceMethod ({ cls := "TrapdoorVotesModel", name := "luck", desc := "(IIII)J" } : Jvm.MethodName)) ∈ lw_all := lw_g (lw_at lw_m6 14 rfl) rfl
theorem q1282 : (Jvm.Cond.selects "TrapdoorVotesModel" ({ cls := "TrapdoorVotesModel", name := "luck", desc := "(IIII)J" } : Jvm.MethodName) ({ cls := "TrapdoorVotesModel", name := "luck", desc := "(IIII)J" } : Jvm.MethodName)) ∈ lw_all := lw_g (lw_at lw_m6 15 rfl) rfl
theorem q1283 : (Jvm.Cond.code ({ cls := "TrapdoorVotesModel", name := "luck", desc := "(IIII)J" } : Jvm.MethodName) prog_12_method_73_code (5 : Nat) (Option.some Jvm.ClassFile.FieldType.long)) ∈ lw_all := lw_g (lw_at lw_m6 16 rfl) rfl
theorem q1284 : (Jvm.Cond.constantLong "TrapdoorVotesModel" (284 : Nat) (10 : Int64)) ∈ lw_all := lw_g (lw_at lw_m6 17 rfl) rfl
theorem q1285 : (Jvm.Cond.constantLong "TrapdoorVotesModel" (286 : Nat) (8 : Int64)) ∈ lw_all := lw_g (lw_at lw_m6 18 rfl) rfl
theorem q1286 : (Jvm.Cond.constantLong "TrapdoorVotesModel" (288 : Nat) (-1 : Int64)) ∈ lw_all := lw_g (lw_at lw_m6 19 rfl) rfl
theorem q1287 : (Jvm.Cond.methodLink "TrapdoorVotesModel" (290 : Nat) ({ cls := "TrapdoorVotesModel", name := "findOdds", desc := "(III)V" } : Jvm.MethodName)) ∈ lw_all := lw_g (lw_at lw_m6 20 rfl) rfl
theorem q1288 : (Jvm.Cond.privateMethod ({ cls := "TrapdoorVotesModel", name := "findOdds", desc := "(III)V" } : Jvm.MethodName)) ∈ lw_tbl := lw_at lw_m6 21 rfl
theorem q1289 : (Jvm.Cond.instanceMethod ({ cls := "TrapdoorVotesModel", name := "findOdds", desc := "(III)V" } : Jvm.MethodName)) ∈ lw_all := lw_g (lw_at lw_m6 22 rfl) rfl
theorem q1290 : (Jvm.Cond.code ({ cls := "TrapdoorVotesModel", name := "findOdds", desc := "(III)V" } : Jvm.MethodName) prog_12_method_72_code (9 : Nat) (Option.none : Option Jvm.ClassFile.FieldType)) ∈ lw_all := lw_g (lw_at lw_m6 23 rfl) rfl
theorem q1291 : (Jvm.Cond.methodLink "TrapdoorVotesModel" (293 : Nat) ({ cls := "TrapdoorVotesModel", name := "told", desc := "(JJI)J" } : Jvm.MethodName)) ∈ lw_all := lw_g (lw_at lw_m6 24 rfl) rfl
theorem q1292 : (Jvm.Cond.static ({ cls := "TrapdoorVotesModel", name := "told", desc := "(JJI)J" } : Jvm.MethodName)) ∈ lw_all := lw_g (lw_at lw_m6 25 rfl) rfl
theorem q1293 : (Jvm.Cond.code ({ cls := "TrapdoorVotesModel", name := "told", desc := "(JJI)J" } : Jvm.MethodName) prog_12_method_71_code (7 : Nat) (Option.some Jvm.ClassFile.FieldType.long)) ∈ lw_all := lw_g (lw_at lw_m6 26 rfl) rfl
theorem q1294 : (Jvm.Cond.methodLink "TrapdoorVotesModel" (270 : Nat) ({ cls := "TrapdoorVotesModel", name := "common", desc := "(JJ)J" } : Jvm.MethodName)) ∈ lw_all := lw_g (lw_at lw_m6 27 rfl) rfl
theorem q1295 : (Jvm.Cond.static ({ cls := "TrapdoorVotesModel", name := "common", desc := "(JJ)J" } : Jvm.MethodName)) ∈ lw_all := lw_g (lw_at lw_m6 28 rfl) rfl
theorem q1296 : (Jvm.Cond.code ({ cls := "TrapdoorVotesModel", name := "common", desc := "(JJ)J" } : Jvm.MethodName) prog_12_method_70_code (10 : Nat) (Option.some Jvm.ClassFile.FieldType.long)) ∈ lw_all := lw_g (lw_at lw_m6 29 rfl) rfl
theorem q1298 : (Jvm.Cond.instanceMethod ({ cls := "TrapdoorVotesModel", name := "mean", desc := "(III)J" } : Jvm.MethodName)) ∈ lw_all := lw_g (lw_at lw_m6 31 rfl) rfl
theorem q1299 : (Jvm.Cond.selects "TrapdoorVotesModel" ({ cls := "TrapdoorVotesModel", name := "mean", desc := "(III)J" } : Jvm.MethodName) ({ cls := "TrapdoorVotesModel", name := "mean", desc := "(III)J" } : Jvm.MethodName)) ∈ lw_all := lw_g (lw_at lw_m6 32 rfl) rfl
theorem q1300 : (Jvm.Cond.code ({ cls := "TrapdoorVotesModel", name := "mean", desc := "(III)J" } : Jvm.MethodName) prog_12_method_74_code (4 : Nat) (Option.some Jvm.ClassFile.FieldType.long)) ∈ lw_all := lw_g (lw_at lw_m6 33 rfl) rfl
theorem q1302 : (Jvm.Cond.instanceMethod ({ cls := "TrapdoorVotesModel", name := "see", desc := "(IIZ)I" } : Jvm.MethodName)) ∈ lw_all := lw_g (lw_at lw_m6 35 rfl) rfl
theorem q1303 : (Jvm.Cond.selects "TrapdoorVotesModel" ({ cls := "TrapdoorVotesModel", name := "see", desc := "(IIZ)I" } : Jvm.MethodName) ({ cls := "TrapdoorVotesModel", name := "see", desc := "(IIZ)I" } : Jvm.MethodName)) ∈ lw_all := lw_g (lw_at lw_m6 36 rfl) rfl
theorem q1304 : (Jvm.Cond.code ({ cls := "TrapdoorVotesModel", name := "see", desc := "(IIZ)I" } : Jvm.MethodName) prog_12_method_75_code (5 : Nat) (Option.some Jvm.ClassFile.FieldType.int)) ∈ lw_all := lw_g (lw_at lw_m6 37 rfl) rfl
theorem q1306 : (Jvm.Cond.instanceMethod ({ cls := "TrapdoorVotesModel", name := "forget", desc := "(I)I" } : Jvm.MethodName)) ∈ lw_all := lw_g (lw_at lw_m6 39 rfl) rfl
theorem q1307 : (Jvm.Cond.selects "TrapdoorVotesModel" ({ cls := "TrapdoorVotesModel", name := "forget", desc := "(I)I" } : Jvm.MethodName) ({ cls := "TrapdoorVotesModel", name := "forget", desc := "(I)I" } : Jvm.MethodName)) ∈ lw_all := lw_g (lw_at lw_m6 40 rfl) rfl
theorem q1308 : (Jvm.Cond.code ({ cls := "TrapdoorVotesModel", name := "forget", desc := "(I)I" } : Jvm.MethodName) prog_12_method_76_code (2 : Nat) (Option.some Jvm.ClassFile.FieldType.int)) ∈ lw_all := lw_g (lw_at lw_m6 41 rfl) rfl
theorem q1310 : (Jvm.Cond.instanceMethod ({ cls := "TrapdoorVotesModel", name := "kinds", desc := "(I)I" } : Jvm.MethodName)) ∈ lw_all := lw_g (lw_at lw_m6 43 rfl) rfl
theorem q1311 : (Jvm.Cond.selects "TrapdoorVotesModel" ({ cls := "TrapdoorVotesModel", name := "kinds", desc := "(I)I" } : Jvm.MethodName) ({ cls := "TrapdoorVotesModel", name := "kinds", desc := "(I)I" } : Jvm.MethodName)) ∈ lw_all := lw_g (lw_at lw_m6 44 rfl) rfl
theorem q1312 : (Jvm.Cond.code ({ cls := "TrapdoorVotesModel", name := "kinds", desc := "(I)I" } : Jvm.MethodName) prog_12_method_79_code (2 : Nat) (Option.some Jvm.ClassFile.FieldType.int)) ∈ lw_all := lw_g (lw_at lw_m6 45 rfl) rfl
theorem q1313 : (Jvm.Cond.methodLink "TrapdoorVotesModel" (300 : Nat) ({ cls := "TrapdoorVotesModel", name := "which", desc := "(II)I" } : Jvm.MethodName)) ∈ lw_all := lw_g (lw_at lw_m6 46 rfl) rfl
theorem q1314 : (Jvm.Cond.privateMethod ({ cls := "TrapdoorVotesModel", name := "which", desc := "(II)I" } : Jvm.MethodName)) ∈ lw_tbl := lw_at lw_m6 47 rfl
theorem q1315 : (Jvm.Cond.instanceMethod ({ cls := "TrapdoorVotesModel", name := "which", desc := "(II)I" } : Jvm.MethodName)) ∈ lw_all := lw_g (lw_at lw_m6 48 rfl) rfl
theorem q1316 : (Jvm.Cond.code ({ cls := "TrapdoorVotesModel", name := "which", desc := "(II)I" } : Jvm.MethodName) prog_12_method_78_code (5 : Nat) (Option.some Jvm.ClassFile.FieldType.int)) ∈ lw_all := lw_g (lw_at lw_m6 49 rfl) rfl
theorem q1317 : (Jvm.Cond.methodLink "TrapdoorVotesModel" (297 : Nat) ({ cls := "TrapdoorVotesModel", name := "isSoWith", desc := "(II)Z" } : Jvm.MethodName)) ∈ lw_all := lw_g (lw_at lw_m6 50 rfl) rfl
theorem q1318 : (Jvm.Cond.privateMethod ({ cls := "TrapdoorVotesModel", name := "isSoWith", desc := "(II)Z" } : Jvm.MethodName)) ∈ lw_tbl := lw_at lw_m6 51 rfl
theorem q1319 : (Jvm.Cond.instanceMethod ({ cls := "TrapdoorVotesModel", name := "isSoWith", desc := "(II)Z" } : Jvm.MethodName)) ∈ lw_all := lw_g (lw_at lw_m6 52 rfl) rfl
theorem q1320 : (Jvm.Cond.code ({ cls := "TrapdoorVotesModel", name := "isSoWith", desc := "(II)Z" } : Jvm.MethodName) prog_12_method_77_code (6 : Nat) (Option.some Jvm.ClassFile.FieldType.boolean)) ∈ lw_all := lw_g (lw_at lw_m6 53 rfl) rfl
theorem q1322 : (Jvm.Cond.instanceMethod ({ cls := "TrapdoorVotesModel", name := "squares", desc := "(I)I" } : Jvm.MethodName)) ∈ lw_all := lw_g (lw_at lw_m6 55 rfl) rfl
theorem q1323 : (Jvm.Cond.selects "TrapdoorVotesModel" ({ cls := "TrapdoorVotesModel", name := "squares", desc := "(I)I" } : Jvm.MethodName) ({ cls := "TrapdoorVotesModel", name := "squares", desc := "(I)I" } : Jvm.MethodName)) ∈ lw_all := lw_g (lw_at lw_m6 56 rfl) rfl
theorem q1324 : (Jvm.Cond.code ({ cls := "TrapdoorVotesModel", name := "squares", desc := "(I)I" } : Jvm.MethodName) prog_12_method_80_code (2 : Nat) (Option.some Jvm.ClassFile.FieldType.int)) ∈ lw_all := lw_g (lw_at lw_m6 57 rfl) rfl
theorem q1326 : (Jvm.Cond.instanceMethod ({ cls := "TrapdoorVotesModel", name := "ask", desc := "(II)I" } : Jvm.MethodName)) ∈ lw_all := lw_g (lw_at lw_m6 59 rfl) rfl
theorem q1327 : (Jvm.Cond.selects "TrapdoorVotesModel" ({ cls := "TrapdoorVotesModel", name := "ask", desc := "(II)I" } : Jvm.MethodName) ({ cls := "TrapdoorVotesModel", name := "ask", desc := "(II)I" } : Jvm.MethodName)) ∈ lw_all := lw_g (lw_at lw_m6 60 rfl) rfl
theorem q1328 : (Jvm.Cond.code ({ cls := "TrapdoorVotesModel", name := "ask", desc := "(II)I" } : Jvm.MethodName) prog_12_method_81_code (6 : Nat) (Option.some Jvm.ClassFile.FieldType.int)) ∈ lw_all := lw_g (lw_at lw_m6 61 rfl) rfl
theorem q1330 : (Jvm.Cond.instanceMethod ({ cls := "TrapdoorVotesModel", name := "drift", desc := "(III)I" } : Jvm.MethodName)) ∈ lw_all := lw_g (lw_at lw_m6 63 rfl) rfl
theorem q1331 : (Jvm.Cond.selects "TrapdoorVotesModel" ({ cls := "TrapdoorVotesModel", name := "drift", desc := "(III)I" } : Jvm.MethodName) ({ cls := "TrapdoorVotesModel", name := "drift", desc := "(III)I" } : Jvm.MethodName)) ∈ lw_all := lw_g (lw_at lw_m6 64 rfl) rfl
theorem q1332 : (Jvm.Cond.code ({ cls := "TrapdoorVotesModel", name := "drift", desc := "(III)I" } : Jvm.MethodName) prog_12_method_82_code (7 : Nat) (Option.some Jvm.ClassFile.FieldType.int)) ∈ lw_all := lw_g (lw_at lw_m6 65 rfl) rfl
theorem q1333 : (Jvm.Cond.constant "TrapdoorVotesModel" (303 : Nat) (1103515245 : Int32)) ∈ lw_all := lw_g (lw_at lw_m6 66 rfl) rfl
theorem q1335 : (Jvm.Cond.instanceMethod ({ cls := "TrapdoorVotesModel", name := "keep", desc := "(I)I" } : Jvm.MethodName)) ∈ lw_all := lw_g (lw_at lw_m6 68 rfl) rfl
theorem q1336 : (Jvm.Cond.selects "TrapdoorVotesModel" ({ cls := "TrapdoorVotesModel", name := "keep", desc := "(I)I" } : Jvm.MethodName) ({ cls := "TrapdoorVotesModel", name := "keep", desc := "(I)I" } : Jvm.MethodName)) ∈ lw_all := lw_g (lw_at lw_m6 69 rfl) rfl
theorem q1337 : (Jvm.Cond.code ({ cls := "TrapdoorVotesModel", name := "keep", desc := "(I)I" } : Jvm.MethodName) prog_12_method_84_code (3 : Nat) (Option.some Jvm.ClassFile.FieldType.int)) ∈ lw_all := lw_g (lw_at lw_m6 70 rfl) rfl
theorem q1338 : (Jvm.Cond.methodLink "TrapdoorVotesModel" (304 : Nat) ({ cls := "TrapdoorVotesModel", name := "copies", desc := "(II)V" } : Jvm.MethodName)) ∈ lw_all := lw_g (lw_at lw_m6 71 rfl) rfl
theorem q1339 : (Jvm.Cond.privateMethod ({ cls := "TrapdoorVotesModel", name := "copies", desc := "(II)V" } : Jvm.MethodName)) ∈ lw_tbl := lw_at lw_m6 72 rfl
theorem q1340 : (Jvm.Cond.instanceMethod ({ cls := "TrapdoorVotesModel", name := "copies", desc := "(II)V" } : Jvm.MethodName)) ∈ lw_all := lw_g (lw_at lw_m6 73 rfl) rfl
theorem q1341 : (Jvm.Cond.code ({ cls := "TrapdoorVotesModel", name := "copies", desc := "(II)V" } : Jvm.MethodName) prog_12_method_83_code (4 : Nat) (Option.none : Option Jvm.ClassFile.FieldType)) ∈ lw_all := lw_g (lw_at lw_m6 74 rfl) rfl
theorem q1343 : (Jvm.Cond.instanceMethod ({ cls := "TrapdoorVotesModel", name := "back", desc := "(I)I" } : Jvm.MethodName)) ∈ lw_all := lw_g (lw_at lw_m6 76 rfl) rfl
theorem q1344 : (Jvm.Cond.selects "TrapdoorVotesModel" ({ cls := "TrapdoorVotesModel", name := "back", desc := "(I)I" } : Jvm.MethodName) ({ cls := "TrapdoorVotesModel", name := "back", desc := "(I)I" } : Jvm.MethodName)) ∈ lw_all := lw_g (lw_at lw_m6 77 rfl) rfl
theorem q1345 : (Jvm.Cond.code ({ cls := "TrapdoorVotesModel", name := "back", desc := "(I)I" } : Jvm.MethodName) prog_12_method_85_code (2 : Nat) (Option.some Jvm.ClassFile.FieldType.int)) ∈ lw_all := lw_g (lw_at lw_m6 78 rfl) rfl
theorem q1347 : (Jvm.Cond.instanceMethod ({ cls := "TrapdoorVotesModel", name := "sheet", desc := "(III)I" } : Jvm.MethodName)) ∈ lw_all := lw_g (lw_at lw_m6 80 rfl) rfl
theorem q1348 : (Jvm.Cond.selects "TrapdoorVotesModel" ({ cls := "TrapdoorVotesModel", name := "sheet", desc := "(III)I" } : Jvm.MethodName) ({ cls := "TrapdoorVotesModel", name := "sheet", desc := "(III)I" } : Jvm.MethodName)) ∈ lw_all := lw_g (lw_at lw_m6 81 rfl) rfl
theorem q1349 : (Jvm.Cond.code ({ cls := "TrapdoorVotesModel", name := "sheet", desc := "(III)I" } : Jvm.MethodName) prog_12_method_87_code (5 : Nat) (Option.some Jvm.ClassFile.FieldType.int)) ∈ lw_all := lw_g (lw_at lw_m6 82 rfl) rfl
theorem q1350 : (Jvm.Cond.methodLink "TrapdoorVotesModel" (309 : Nat) ({ cls := "TrapdoorVotesModel", name := "isSheet", desc := "(II)Z" } : Jvm.MethodName)) ∈ lw_all := lw_g (lw_at lw_m6 83 rfl) rfl
theorem q1351 : (Jvm.Cond.static ({ cls := "TrapdoorVotesModel", name := "isSheet", desc := "(II)Z" } : Jvm.MethodName)) ∈ lw_all := lw_g (lw_at lw_m6 84 rfl) rfl
theorem q1352 : (Jvm.Cond.code ({ cls := "TrapdoorVotesModel", name := "isSheet", desc := "(II)Z" } : Jvm.MethodName) prog_12_method_86_code (2 : Nat) (Option.some Jvm.ClassFile.FieldType.boolean)) ∈ lw_all := lw_g (lw_at lw_m6 85 rfl) rfl
theorem q1353 : (Jvm.Cond.constantLong "TrapdoorVotesModel" (307 : Nat) (2 : Int64)) ∈ lw_all := lw_g (lw_at lw_m6 86 rfl) rfl
theorem q1355 : (Jvm.Cond.instanceMethod ({ cls := "TrapdoorVotesModel", name := "lay", desc := "(III)I" } : Jvm.MethodName)) ∈ lw_all := lw_g (lw_at lw_m6 88 rfl) rfl
theorem q1356 : (Jvm.Cond.selects "TrapdoorVotesModel" ({ cls := "TrapdoorVotesModel", name := "lay", desc := "(III)I" } : Jvm.MethodName) ({ cls := "TrapdoorVotesModel", name := "lay", desc := "(III)I" } : Jvm.MethodName)) ∈ lw_all := lw_g (lw_at lw_m6 89 rfl) rfl
theorem q1357 : (Jvm.Cond.code ({ cls := "TrapdoorVotesModel", name := "lay", desc := "(III)I" } : Jvm.MethodName) prog_12_method_88_code (4 : Nat) (Option.some Jvm.ClassFile.FieldType.int)) ∈ lw_all := lw_g (lw_at lw_m6 90 rfl) rfl
theorem q1359 : (Jvm.Cond.instanceMethod ({ cls := "TrapdoorVotesModel", name := "read", desc := "(IIII)I" } : Jvm.MethodName)) ∈ lw_all := lw_g (lw_at lw_m6 92 rfl) rfl
theorem q1360 : (Jvm.Cond.selects "TrapdoorVotesModel" ({ cls := "TrapdoorVotesModel", name := "read", desc := "(IIII)I" } : Jvm.MethodName) ({ cls := "TrapdoorVotesModel", name := "read", desc := "(IIII)I" } : Jvm.MethodName)) ∈ lw_all := lw_g (lw_at lw_m6 93 rfl) rfl
theorem q1361 : (Jvm.Cond.code ({ cls := "TrapdoorVotesModel", name := "read", desc := "(IIII)I" } : Jvm.MethodName) prog_12_method_89_code (11 : Nat) (Option.some Jvm.ClassFile.FieldType.int)) ∈ lw_all := lw_g (lw_at lw_m6 94 rfl) rfl
theorem q1362 : (Jvm.Cond.constantLong "TrapdoorVotesModel" (312 : Nat) (13 : Int64)) ∈ lw_all := lw_g (lw_at lw_m6 95 rfl) rfl
theorem q1363 : (Jvm.Cond.methodLink "TrapdoorVotesModel" (314 : Nat) ({ cls := "TrapdoorVotesModel", name := "alter", desc := "(III)I" } : Jvm.MethodName)) ∈ lw_all := lw_g (lw_at lw_m6 96 rfl) rfl
theorem q1365 : (Jvm.Cond.instanceMethod ({ cls := "TrapdoorVotesModel", name := "torn", desc := "()I" } : Jvm.MethodName)) ∈ lw_all := lw_g (lw_at lw_m6 98 rfl) rfl
theorem q1366 : (Jvm.Cond.selects "TrapdoorVotesModel" ({ cls := "TrapdoorVotesModel", name := "torn", desc := "()I" } : Jvm.MethodName) ({ cls := "TrapdoorVotesModel", name := "torn", desc := "()I" } : Jvm.MethodName)) ∈ lw_all := lw_g (lw_at lw_m6 99 rfl) rfl
theorem q1367 : (Jvm.Cond.code ({ cls := "TrapdoorVotesModel", name := "torn", desc := "()I" } : Jvm.MethodName) prog_12_method_90_code (1 : Nat) (Option.some Jvm.ClassFile.FieldType.int)) ∈ lw_all := lw_g (lw_at lw_m6 100 rfl) rfl
theorem q1369 : (Jvm.Cond.instanceMethod ({ cls := "TrapdoorVotesModel", name := "count", desc := "(I)I" } : Jvm.MethodName)) ∈ lw_all := lw_g (lw_at lw_m6 102 rfl) rfl
theorem q1370 : (Jvm.Cond.selects "TrapdoorVotesModel" ({ cls := "TrapdoorVotesModel", name := "count", desc := "(I)I" } : Jvm.MethodName) ({ cls := "TrapdoorVotesModel", name := "count", desc := "(I)I" } : Jvm.MethodName)) ∈ lw_all := lw_g (lw_at lw_m6 103 rfl) rfl
theorem q1371 : (Jvm.Cond.code ({ cls := "TrapdoorVotesModel", name := "count", desc := "(I)I" } : Jvm.MethodName) prog_12_method_91_code (5 : Nat) (Option.some Jvm.ClassFile.FieldType.int)) ∈ lw_all := lw_g (lw_at lw_m6 104 rfl) rfl
theorem in_X4 : ∀ w ∈ wsX40, w ∈ lw_all := lw_in wsX40 [952, 954, 956, 958, 960, 962, 964, 966, 968, 970, 972, 974, 976, 978, 980, 982, 984, 986, 988, 990, 992, 994, 996, 998, 1000, 1002, 1004, 1006, 1008, 1010, 1012, 1014] (by decide +kernel) (by decide +kernel)
