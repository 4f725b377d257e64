/-! JDK: TreeMap, removing -/
set_option maxRecDepth 100000
theorem leaf_rot {lf rt pa : Nat → Option Nat} {p r p0 : Nat} (h : ∀ q, pa p = some q → lf q = some p ∨ rt q = some p) (hr : rt p = some r) (h1 : lf p0 = none) (h2 : rt p0 = none) (n2 : p0 ≠ r) : rlf lf pa p r p0 = none ∧ rrt lf rt pa p r p0 = none := by
  have n1 : p0 ≠ p := fun e => by rw [e, hr] at h2; cases h2
  unfold rlf rrt
  rw [if_neg n2, if_neg n1]
  refine ⟨?_, ?_⟩
  · rw [if_neg (fun e => by rw [h1] at e; cases e.2)]; exact h1
  · rw [if_neg (fun e => by rcases h p0 e.1 with z | z; exact e.2 z; rw [h2] at z; cases z)]; exact h2

abbrev cJ1_fixAfterDeletion : ByteArray := prog_68_method_85_code
def yJ1_fixAfterDeletion : MethodName := ⟨RJ1, "fixAfterDeletion", "(Ljava/util/TreeMap$Entry;)V"⟩
def dkwJ1_fixAfterDeletion_14 : List UInt8 := [182, 1, 58, 42, 180, 0, 101, 76, 167, 254, 170, 43, 4, 184, 1, 51, 177]
abbrev dktJ1_fixAfterDeletion_14 : List UInt8 := dkwJ1_fixAfterDeletion_14 ++ []
def dkwJ1_fixAfterDeletion_13 : List UInt8 := [184, 1, 51, 43, 184, 1, 38, 4, 184, 1, 51, 44, 184, 1, 41, 4, 184, 1, 51, 42, 43, 184, 1, 38]
abbrev dktJ1_fixAfterDeletion_13 : List UInt8 := dkwJ1_fixAfterDeletion_13 ++ dktJ1_fixAfterDeletion_14
def dkwJ1_fixAfterDeletion_12 : List UInt8 := [184, 1, 51, 42, 44, 182, 1, 55, 43, 184, 1, 38, 184, 1, 41, 77, 44, 43, 184, 1, 38, 184, 1, 47]
abbrev dktJ1_fixAfterDeletion_12 : List UInt8 := dkwJ1_fixAfterDeletion_12 ++ dktJ1_fixAfterDeletion_13
def dkwJ1_fixAfterDeletion_11 : List UInt8 := [167, 0, 80, 44, 184, 1, 41, 184, 1, 47, 4, 160, 0, 29, 44, 184, 1, 44, 4, 184, 1, 51, 44, 3]
abbrev dktJ1_fixAfterDeletion_11 : List UInt8 := dkwJ1_fixAfterDeletion_11 ++ dktJ1_fixAfterDeletion_12
def dkwJ1_fixAfterDeletion_10 : List UInt8 := [160, 0, 27, 44, 184, 1, 41, 184, 1, 47, 4, 160, 0, 16, 44, 3, 184, 1, 51, 43, 184, 1, 38, 76]
abbrev dktJ1_fixAfterDeletion_10 : List UInt8 := dkwJ1_fixAfterDeletion_10 ++ dktJ1_fixAfterDeletion_11
def dkwJ1_fixAfterDeletion_9 : List UInt8 := [42, 43, 184, 1, 38, 182, 1, 58, 43, 184, 1, 38, 184, 1, 41, 77, 44, 184, 1, 44, 184, 1, 47, 4]
abbrev dktJ1_fixAfterDeletion_9 : List UInt8 := dkwJ1_fixAfterDeletion_9 ++ dktJ1_fixAfterDeletion_10
def dkwJ1_fixAfterDeletion_8 : List UInt8 := [184, 1, 41, 77, 44, 184, 1, 47, 154, 0, 32, 44, 4, 184, 1, 51, 43, 184, 1, 38, 3, 184, 1, 51]
abbrev dktJ1_fixAfterDeletion_8 : List UInt8 := dkwJ1_fixAfterDeletion_8 ++ dktJ1_fixAfterDeletion_9
def dkwJ1_fixAfterDeletion_7 : List UInt8 := [4, 184, 1, 51, 42, 43, 184, 1, 38, 182, 1, 55, 42, 180, 0, 101, 76, 167, 255, 73, 43, 184, 1, 38]
abbrev dktJ1_fixAfterDeletion_7 : List UInt8 := dkwJ1_fixAfterDeletion_7 ++ dktJ1_fixAfterDeletion_8
def dkwJ1_fixAfterDeletion_6 : List UInt8 := [77, 44, 43, 184, 1, 38, 184, 1, 47, 184, 1, 51, 43, 184, 1, 38, 4, 184, 1, 51, 44, 184, 1, 44]
abbrev dktJ1_fixAfterDeletion_6 : List UInt8 := dkwJ1_fixAfterDeletion_6 ++ dktJ1_fixAfterDeletion_7
def dkwJ1_fixAfterDeletion_5 : List UInt8 := [184, 1, 41, 4, 184, 1, 51, 44, 3, 184, 1, 51, 42, 44, 182, 1, 58, 43, 184, 1, 38, 184, 1, 44]
abbrev dktJ1_fixAfterDeletion_5 : List UInt8 := dkwJ1_fixAfterDeletion_5 ++ dktJ1_fixAfterDeletion_6
def dkwJ1_fixAfterDeletion_4 : List UInt8 := [184, 1, 51, 43, 184, 1, 38, 76, 167, 0, 80, 44, 184, 1, 44, 184, 1, 47, 4, 160, 0, 29, 44]
abbrev dktJ1_fixAfterDeletion_4 : List UInt8 := dkwJ1_fixAfterDeletion_4 ++ dktJ1_fixAfterDeletion_5
def dkwJ1_fixAfterDeletion_3 : List UInt8 := [184, 1, 41, 184, 1, 47, 4, 160, 0, 27, 44, 184, 1, 44, 184, 1, 47, 4, 160, 0, 16, 44, 3]
abbrev dktJ1_fixAfterDeletion_3 : List UInt8 := dkwJ1_fixAfterDeletion_3 ++ dktJ1_fixAfterDeletion_4
def dkwJ1_fixAfterDeletion_2 : List UInt8 := [184, 1, 38, 3, 184, 1, 51, 42, 43, 184, 1, 38, 182, 1, 55, 43, 184, 1, 38, 184, 1, 44, 77, 44]
abbrev dktJ1_fixAfterDeletion_2 : List UInt8 := dkwJ1_fixAfterDeletion_2 ++ dktJ1_fixAfterDeletion_3
def dkwJ1_fixAfterDeletion_1 : List UInt8 := [166, 0, 162, 43, 184, 1, 38, 184, 1, 44, 77, 44, 184, 1, 47, 154, 0, 32, 44, 4, 184, 1, 51, 43]
abbrev dktJ1_fixAfterDeletion_1 : List UInt8 := dkwJ1_fixAfterDeletion_1 ++ dktJ1_fixAfterDeletion_2
def dkwJ1_fixAfterDeletion_0 : List UInt8 := [43, 42, 180, 0, 101, 165, 1, 84, 43, 184, 1, 47, 4, 160, 1, 76, 43, 43, 184, 1, 38, 184, 1, 41]
abbrev dktJ1_fixAfterDeletion_0 : List UInt8 := dkwJ1_fixAfterDeletion_0 ++ dktJ1_fixAfterDeletion_1
theorem dksJ1_fixAfterDeletion_0 : cJ1_fixAfterDeletion.data.toList.drop 0 = dktJ1_fixAfterDeletion_0 := by decide +kernel
theorem dksJ1_fixAfterDeletion_1 : cJ1_fixAfterDeletion.data.toList.drop 24 = dktJ1_fixAfterDeletion_1 := dk_seg dksJ1_fixAfterDeletion_0 24 rfl rfl
theorem dksJ1_fixAfterDeletion_2 : cJ1_fixAfterDeletion.data.toList.drop 48 = dktJ1_fixAfterDeletion_2 := dk_seg dksJ1_fixAfterDeletion_1 24 rfl rfl
theorem dksJ1_fixAfterDeletion_3 : cJ1_fixAfterDeletion.data.toList.drop 72 = dktJ1_fixAfterDeletion_3 := dk_seg dksJ1_fixAfterDeletion_2 24 rfl rfl
theorem dksJ1_fixAfterDeletion_4 : cJ1_fixAfterDeletion.data.toList.drop 95 = dktJ1_fixAfterDeletion_4 := dk_seg dksJ1_fixAfterDeletion_3 23 rfl rfl
theorem dksJ1_fixAfterDeletion_5 : cJ1_fixAfterDeletion.data.toList.drop 118 = dktJ1_fixAfterDeletion_5 := dk_seg dksJ1_fixAfterDeletion_4 23 rfl rfl
theorem dksJ1_fixAfterDeletion_6 : cJ1_fixAfterDeletion.data.toList.drop 142 = dktJ1_fixAfterDeletion_6 := dk_seg dksJ1_fixAfterDeletion_5 24 rfl rfl
theorem dksJ1_fixAfterDeletion_7 : cJ1_fixAfterDeletion.data.toList.drop 166 = dktJ1_fixAfterDeletion_7 := dk_seg dksJ1_fixAfterDeletion_6 24 rfl rfl
theorem dksJ1_fixAfterDeletion_8 : cJ1_fixAfterDeletion.data.toList.drop 190 = dktJ1_fixAfterDeletion_8 := dk_seg dksJ1_fixAfterDeletion_7 24 rfl rfl
theorem dksJ1_fixAfterDeletion_9 : cJ1_fixAfterDeletion.data.toList.drop 214 = dktJ1_fixAfterDeletion_9 := dk_seg dksJ1_fixAfterDeletion_8 24 rfl rfl
theorem dksJ1_fixAfterDeletion_10 : cJ1_fixAfterDeletion.data.toList.drop 238 = dktJ1_fixAfterDeletion_10 := dk_seg dksJ1_fixAfterDeletion_9 24 rfl rfl
theorem dksJ1_fixAfterDeletion_11 : cJ1_fixAfterDeletion.data.toList.drop 262 = dktJ1_fixAfterDeletion_11 := dk_seg dksJ1_fixAfterDeletion_10 24 rfl rfl
theorem dksJ1_fixAfterDeletion_12 : cJ1_fixAfterDeletion.data.toList.drop 286 = dktJ1_fixAfterDeletion_12 := dk_seg dksJ1_fixAfterDeletion_11 24 rfl rfl
theorem dksJ1_fixAfterDeletion_13 : cJ1_fixAfterDeletion.data.toList.drop 310 = dktJ1_fixAfterDeletion_13 := dk_seg dksJ1_fixAfterDeletion_12 24 rfl rfl
theorem dksJ1_fixAfterDeletion_14 : cJ1_fixAfterDeletion.data.toList.drop 334 = dktJ1_fixAfterDeletion_14 := dk_seg dksJ1_fixAfterDeletion_13 24 rfl rfl
theorem dJ1_fixAfterDeletion_0 : decode cJ1_fixAfterDeletion 0 = .ok (.aload_n 1, 1) := dk_43 (dk_at dksJ1_fixAfterDeletion_0 0 rfl rfl)
theorem dJ1_fixAfterDeletion_1 : decode cJ1_fixAfterDeletion 1 = .ok (.aload_n 0, 1) := dk_42 (dk_at dksJ1_fixAfterDeletion_0 1 rfl rfl)
theorem dJ1_fixAfterDeletion_2 : decode cJ1_fixAfterDeletion 2 = .ok (.getfield 101, 3) := dk_180 0 101 (dk_at dksJ1_fixAfterDeletion_0 2 rfl rfl)
theorem dJ1_fixAfterDeletion_5 : decode cJ1_fixAfterDeletion 5 = .ok (.if_acmp .eq 340, 3) := dk_165 1 84 (dk_at dksJ1_fixAfterDeletion_0 5 rfl rfl)
theorem dJ1_fixAfterDeletion_8 : decode cJ1_fixAfterDeletion 8 = .ok (.aload_n 1, 1) := dk_43 (dk_at dksJ1_fixAfterDeletion_0 8 rfl rfl)
theorem dJ1_fixAfterDeletion_9 : decode cJ1_fixAfterDeletion 9 = .ok (.invokestatic 303, 3) := dk_184 1 47 (dk_at dksJ1_fixAfterDeletion_0 9 rfl rfl)
theorem dJ1_fixAfterDeletion_12 : decode cJ1_fixAfterDeletion 12 = .ok (.iconst 1, 1) := dk_4 (dk_at dksJ1_fixAfterDeletion_0 12 rfl rfl)
theorem dJ1_fixAfterDeletion_13 : decode cJ1_fixAfterDeletion 13 = .ok (.if_icmp .ne 332, 3) := dk_160 1 76 (dk_at dksJ1_fixAfterDeletion_0 13 rfl rfl)
theorem dJ1_fixAfterDeletion_16 : decode cJ1_fixAfterDeletion 16 = .ok (.aload_n 1, 1) := dk_43 (dk_at dksJ1_fixAfterDeletion_0 16 rfl rfl)
theorem dJ1_fixAfterDeletion_17 : decode cJ1_fixAfterDeletion 17 = .ok (.aload_n 1, 1) := dk_43 (dk_at dksJ1_fixAfterDeletion_0 17 rfl rfl)
theorem dJ1_fixAfterDeletion_18 : decode cJ1_fixAfterDeletion 18 = .ok (.invokestatic 294, 3) := dk_184 1 38 (dk_at dksJ1_fixAfterDeletion_0 18 rfl rfl)
theorem dJ1_fixAfterDeletion_21 : decode cJ1_fixAfterDeletion 21 = .ok (.invokestatic 297, 3) := dk_184 1 41 (dk_at dksJ1_fixAfterDeletion_0 21 rfl rfl)
theorem dJ1_fixAfterDeletion_24 : decode cJ1_fixAfterDeletion 24 = .ok (.if_acmp .ne 162, 3) := dk_166 0 162 (dk_at dksJ1_fixAfterDeletion_1 0 rfl rfl)
theorem dJ1_fixAfterDeletion_27 : decode cJ1_fixAfterDeletion 27 = .ok (.aload_n 1, 1) := dk_43 (dk_at dksJ1_fixAfterDeletion_1 3 rfl rfl)
theorem dJ1_fixAfterDeletion_28 : decode cJ1_fixAfterDeletion 28 = .ok (.invokestatic 294, 3) := dk_184 1 38 (dk_at dksJ1_fixAfterDeletion_1 4 rfl rfl)
theorem dJ1_fixAfterDeletion_31 : decode cJ1_fixAfterDeletion 31 = .ok (.invokestatic 300, 3) := dk_184 1 44 (dk_at dksJ1_fixAfterDeletion_1 7 rfl rfl)
theorem dJ1_fixAfterDeletion_34 : decode cJ1_fixAfterDeletion 34 = .ok (.astore_n 2, 1) := dk_77 (dk_at dksJ1_fixAfterDeletion_1 10 rfl rfl)
theorem dJ1_fixAfterDeletion_35 : decode cJ1_fixAfterDeletion 35 = .ok (.aload_n 2, 1) := dk_44 (dk_at dksJ1_fixAfterDeletion_1 11 rfl rfl)
theorem dJ1_fixAfterDeletion_36 : decode cJ1_fixAfterDeletion 36 = .ok (.invokestatic 303, 3) := dk_184 1 47 (dk_at dksJ1_fixAfterDeletion_1 12 rfl rfl)
theorem dJ1_fixAfterDeletion_39 : decode cJ1_fixAfterDeletion 39 = .ok (.ifCond .ne 32, 3) := dk_154 0 32 (dk_at dksJ1_fixAfterDeletion_1 15 rfl rfl)
theorem dJ1_fixAfterDeletion_42 : decode cJ1_fixAfterDeletion 42 = .ok (.aload_n 2, 1) := dk_44 (dk_at dksJ1_fixAfterDeletion_1 18 rfl rfl)
theorem dJ1_fixAfterDeletion_43 : decode cJ1_fixAfterDeletion 43 = .ok (.iconst 1, 1) := dk_4 (dk_at dksJ1_fixAfterDeletion_1 19 rfl rfl)
theorem dJ1_fixAfterDeletion_44 : decode cJ1_fixAfterDeletion 44 = .ok (.invokestatic 307, 3) := dk_184 1 51 (dk_at dksJ1_fixAfterDeletion_1 20 rfl rfl)
theorem dJ1_fixAfterDeletion_47 : decode cJ1_fixAfterDeletion 47 = .ok (.aload_n 1, 1) := dk_43 (dk_at dksJ1_fixAfterDeletion_1 23 rfl rfl)
theorem dJ1_fixAfterDeletion_48 : decode cJ1_fixAfterDeletion 48 = .ok (.invokestatic 294, 3) := dk_184 1 38 (dk_at dksJ1_fixAfterDeletion_2 0 rfl rfl)
theorem dJ1_fixAfterDeletion_51 : decode cJ1_fixAfterDeletion 51 = .ok (.iconst 0, 1) := dk_3 (dk_at dksJ1_fixAfterDeletion_2 3 rfl rfl)
theorem dJ1_fixAfterDeletion_52 : decode cJ1_fixAfterDeletion 52 = .ok (.invokestatic 307, 3) := dk_184 1 51 (dk_at dksJ1_fixAfterDeletion_2 4 rfl rfl)
theorem dJ1_fixAfterDeletion_55 : decode cJ1_fixAfterDeletion 55 = .ok (.aload_n 0, 1) := dk_42 (dk_at dksJ1_fixAfterDeletion_2 7 rfl rfl)
theorem dJ1_fixAfterDeletion_56 : decode cJ1_fixAfterDeletion 56 = .ok (.aload_n 1, 1) := dk_43 (dk_at dksJ1_fixAfterDeletion_2 8 rfl rfl)
theorem dJ1_fixAfterDeletion_57 : decode cJ1_fixAfterDeletion 57 = .ok (.invokestatic 294, 3) := dk_184 1 38 (dk_at dksJ1_fixAfterDeletion_2 9 rfl rfl)
theorem dJ1_fixAfterDeletion_60 : decode cJ1_fixAfterDeletion 60 = .ok (.invokevirtual 311, 3) := dk_182 1 55 (dk_at dksJ1_fixAfterDeletion_2 12 rfl rfl)
theorem dJ1_fixAfterDeletion_63 : decode cJ1_fixAfterDeletion 63 = .ok (.aload_n 1, 1) := dk_43 (dk_at dksJ1_fixAfterDeletion_2 15 rfl rfl)
theorem dJ1_fixAfterDeletion_64 : decode cJ1_fixAfterDeletion 64 = .ok (.invokestatic 294, 3) := dk_184 1 38 (dk_at dksJ1_fixAfterDeletion_2 16 rfl rfl)
theorem dJ1_fixAfterDeletion_67 : decode cJ1_fixAfterDeletion 67 = .ok (.invokestatic 300, 3) := dk_184 1 44 (dk_at dksJ1_fixAfterDeletion_2 19 rfl rfl)
theorem dJ1_fixAfterDeletion_70 : decode cJ1_fixAfterDeletion 70 = .ok (.astore_n 2, 1) := dk_77 (dk_at dksJ1_fixAfterDeletion_2 22 rfl rfl)
theorem dJ1_fixAfterDeletion_71 : decode cJ1_fixAfterDeletion 71 = .ok (.aload_n 2, 1) := dk_44 (dk_at dksJ1_fixAfterDeletion_2 23 rfl rfl)
theorem dJ1_fixAfterDeletion_72 : decode cJ1_fixAfterDeletion 72 = .ok (.invokestatic 297, 3) := dk_184 1 41 (dk_at dksJ1_fixAfterDeletion_3 0 rfl rfl)
theorem dJ1_fixAfterDeletion_75 : decode cJ1_fixAfterDeletion 75 = .ok (.invokestatic 303, 3) := dk_184 1 47 (dk_at dksJ1_fixAfterDeletion_3 3 rfl rfl)
theorem dJ1_fixAfterDeletion_78 : decode cJ1_fixAfterDeletion 78 = .ok (.iconst 1, 1) := dk_4 (dk_at dksJ1_fixAfterDeletion_3 6 rfl rfl)
theorem dJ1_fixAfterDeletion_79 : decode cJ1_fixAfterDeletion 79 = .ok (.if_icmp .ne 27, 3) := dk_160 0 27 (dk_at dksJ1_fixAfterDeletion_3 7 rfl rfl)
theorem dJ1_fixAfterDeletion_82 : decode cJ1_fixAfterDeletion 82 = .ok (.aload_n 2, 1) := dk_44 (dk_at dksJ1_fixAfterDeletion_3 10 rfl rfl)
theorem dJ1_fixAfterDeletion_83 : decode cJ1_fixAfterDeletion 83 = .ok (.invokestatic 300, 3) := dk_184 1 44 (dk_at dksJ1_fixAfterDeletion_3 11 rfl rfl)
theorem dJ1_fixAfterDeletion_86 : decode cJ1_fixAfterDeletion 86 = .ok (.invokestatic 303, 3) := dk_184 1 47 (dk_at dksJ1_fixAfterDeletion_3 14 rfl rfl)
theorem dJ1_fixAfterDeletion_89 : decode cJ1_fixAfterDeletion 89 = .ok (.iconst 1, 1) := dk_4 (dk_at dksJ1_fixAfterDeletion_3 17 rfl rfl)
theorem dJ1_fixAfterDeletion_90 : decode cJ1_fixAfterDeletion 90 = .ok (.if_icmp .ne 16, 3) := dk_160 0 16 (dk_at dksJ1_fixAfterDeletion_3 18 rfl rfl)
theorem dJ1_fixAfterDeletion_93 : decode cJ1_fixAfterDeletion 93 = .ok (.aload_n 2, 1) := dk_44 (dk_at dksJ1_fixAfterDeletion_3 21 rfl rfl)
theorem dJ1_fixAfterDeletion_94 : decode cJ1_fixAfterDeletion 94 = .ok (.iconst 0, 1) := dk_3 (dk_at dksJ1_fixAfterDeletion_3 22 rfl rfl)
theorem dJ1_fixAfterDeletion_95 : decode cJ1_fixAfterDeletion 95 = .ok (.invokestatic 307, 3) := dk_184 1 51 (dk_at dksJ1_fixAfterDeletion_4 0 rfl rfl)
theorem dJ1_fixAfterDeletion_98 : decode cJ1_fixAfterDeletion 98 = .ok (.aload_n 1, 1) := dk_43 (dk_at dksJ1_fixAfterDeletion_4 3 rfl rfl)
theorem dJ1_fixAfterDeletion_99 : decode cJ1_fixAfterDeletion 99 = .ok (.invokestatic 294, 3) := dk_184 1 38 (dk_at dksJ1_fixAfterDeletion_4 4 rfl rfl)
theorem dJ1_fixAfterDeletion_102 : decode cJ1_fixAfterDeletion 102 = .ok (.astore_n 1, 1) := dk_76 (dk_at dksJ1_fixAfterDeletion_4 7 rfl rfl)
theorem dJ1_fixAfterDeletion_103 : decode cJ1_fixAfterDeletion 103 = .ok (.goto 80, 3) := dk_167 0 80 (dk_at dksJ1_fixAfterDeletion_4 8 rfl rfl)
theorem dJ1_fixAfterDeletion_106 : decode cJ1_fixAfterDeletion 106 = .ok (.aload_n 2, 1) := dk_44 (dk_at dksJ1_fixAfterDeletion_4 11 rfl rfl)
theorem dJ1_fixAfterDeletion_107 : decode cJ1_fixAfterDeletion 107 = .ok (.invokestatic 300, 3) := dk_184 1 44 (dk_at dksJ1_fixAfterDeletion_4 12 rfl rfl)
theorem dJ1_fixAfterDeletion_110 : decode cJ1_fixAfterDeletion 110 = .ok (.invokestatic 303, 3) := dk_184 1 47 (dk_at dksJ1_fixAfterDeletion_4 15 rfl rfl)
theorem dJ1_fixAfterDeletion_113 : decode cJ1_fixAfterDeletion 113 = .ok (.iconst 1, 1) := dk_4 (dk_at dksJ1_fixAfterDeletion_4 18 rfl rfl)
theorem dJ1_fixAfterDeletion_114 : decode cJ1_fixAfterDeletion 114 = .ok (.if_icmp .ne 29, 3) := dk_160 0 29 (dk_at dksJ1_fixAfterDeletion_4 19 rfl rfl)
theorem dJ1_fixAfterDeletion_117 : decode cJ1_fixAfterDeletion 117 = .ok (.aload_n 2, 1) := dk_44 (dk_at dksJ1_fixAfterDeletion_4 22 rfl rfl)
theorem dJ1_fixAfterDeletion_118 : decode cJ1_fixAfterDeletion 118 = .ok (.invokestatic 297, 3) := dk_184 1 41 (dk_at dksJ1_fixAfterDeletion_5 0 rfl rfl)
theorem dJ1_fixAfterDeletion_121 : decode cJ1_fixAfterDeletion 121 = .ok (.iconst 1, 1) := dk_4 (dk_at dksJ1_fixAfterDeletion_5 3 rfl rfl)
theorem dJ1_fixAfterDeletion_122 : decode cJ1_fixAfterDeletion 122 = .ok (.invokestatic 307, 3) := dk_184 1 51 (dk_at dksJ1_fixAfterDeletion_5 4 rfl rfl)
theorem dJ1_fixAfterDeletion_125 : decode cJ1_fixAfterDeletion 125 = .ok (.aload_n 2, 1) := dk_44 (dk_at dksJ1_fixAfterDeletion_5 7 rfl rfl)
theorem dJ1_fixAfterDeletion_126 : decode cJ1_fixAfterDeletion 126 = .ok (.iconst 0, 1) := dk_3 (dk_at dksJ1_fixAfterDeletion_5 8 rfl rfl)
theorem dJ1_fixAfterDeletion_127 : decode cJ1_fixAfterDeletion 127 = .ok (.invokestatic 307, 3) := dk_184 1 51 (dk_at dksJ1_fixAfterDeletion_5 9 rfl rfl)
theorem dJ1_fixAfterDeletion_130 : decode cJ1_fixAfterDeletion 130 = .ok (.aload_n 0, 1) := dk_42 (dk_at dksJ1_fixAfterDeletion_5 12 rfl rfl)
theorem dJ1_fixAfterDeletion_131 : decode cJ1_fixAfterDeletion 131 = .ok (.aload_n 2, 1) := dk_44 (dk_at dksJ1_fixAfterDeletion_5 13 rfl rfl)
theorem dJ1_fixAfterDeletion_132 : decode cJ1_fixAfterDeletion 132 = .ok (.invokevirtual 314, 3) := dk_182 1 58 (dk_at dksJ1_fixAfterDeletion_5 14 rfl rfl)
theorem dJ1_fixAfterDeletion_135 : decode cJ1_fixAfterDeletion 135 = .ok (.aload_n 1, 1) := dk_43 (dk_at dksJ1_fixAfterDeletion_5 17 rfl rfl)
theorem dJ1_fixAfterDeletion_136 : decode cJ1_fixAfterDeletion 136 = .ok (.invokestatic 294, 3) := dk_184 1 38 (dk_at dksJ1_fixAfterDeletion_5 18 rfl rfl)
theorem dJ1_fixAfterDeletion_139 : decode cJ1_fixAfterDeletion 139 = .ok (.invokestatic 300, 3) := dk_184 1 44 (dk_at dksJ1_fixAfterDeletion_5 21 rfl rfl)
theorem dJ1_fixAfterDeletion_142 : decode cJ1_fixAfterDeletion 142 = .ok (.astore_n 2, 1) := dk_77 (dk_at dksJ1_fixAfterDeletion_6 0 rfl rfl)
theorem dJ1_fixAfterDeletion_143 : decode cJ1_fixAfterDeletion 143 = .ok (.aload_n 2, 1) := dk_44 (dk_at dksJ1_fixAfterDeletion_6 1 rfl rfl)
theorem dJ1_fixAfterDeletion_144 : decode cJ1_fixAfterDeletion 144 = .ok (.aload_n 1, 1) := dk_43 (dk_at dksJ1_fixAfterDeletion_6 2 rfl rfl)
theorem dJ1_fixAfterDeletion_145 : decode cJ1_fixAfterDeletion 145 = .ok (.invokestatic 294, 3) := dk_184 1 38 (dk_at dksJ1_fixAfterDeletion_6 3 rfl rfl)
theorem dJ1_fixAfterDeletion_148 : decode cJ1_fixAfterDeletion 148 = .ok (.invokestatic 303, 3) := dk_184 1 47 (dk_at dksJ1_fixAfterDeletion_6 6 rfl rfl)
theorem dJ1_fixAfterDeletion_151 : decode cJ1_fixAfterDeletion 151 = .ok (.invokestatic 307, 3) := dk_184 1 51 (dk_at dksJ1_fixAfterDeletion_6 9 rfl rfl)
theorem dJ1_fixAfterDeletion_154 : decode cJ1_fixAfterDeletion 154 = .ok (.aload_n 1, 1) := dk_43 (dk_at dksJ1_fixAfterDeletion_6 12 rfl rfl)
theorem dJ1_fixAfterDeletion_155 : decode cJ1_fixAfterDeletion 155 = .ok (.invokestatic 294, 3) := dk_184 1 38 (dk_at dksJ1_fixAfterDeletion_6 13 rfl rfl)
theorem dJ1_fixAfterDeletion_158 : decode cJ1_fixAfterDeletion 158 = .ok (.iconst 1, 1) := dk_4 (dk_at dksJ1_fixAfterDeletion_6 16 rfl rfl)
theorem dJ1_fixAfterDeletion_159 : decode cJ1_fixAfterDeletion 159 = .ok (.invokestatic 307, 3) := dk_184 1 51 (dk_at dksJ1_fixAfterDeletion_6 17 rfl rfl)
theorem dJ1_fixAfterDeletion_162 : decode cJ1_fixAfterDeletion 162 = .ok (.aload_n 2, 1) := dk_44 (dk_at dksJ1_fixAfterDeletion_6 20 rfl rfl)
theorem dJ1_fixAfterDeletion_163 : decode cJ1_fixAfterDeletion 163 = .ok (.invokestatic 300, 3) := dk_184 1 44 (dk_at dksJ1_fixAfterDeletion_6 21 rfl rfl)
theorem dJ1_fixAfterDeletion_166 : decode cJ1_fixAfterDeletion 166 = .ok (.iconst 1, 1) := dk_4 (dk_at dksJ1_fixAfterDeletion_7 0 rfl rfl)
theorem dJ1_fixAfterDeletion_167 : decode cJ1_fixAfterDeletion 167 = .ok (.invokestatic 307, 3) := dk_184 1 51 (dk_at dksJ1_fixAfterDeletion_7 1 rfl rfl)
theorem dJ1_fixAfterDeletion_170 : decode cJ1_fixAfterDeletion 170 = .ok (.aload_n 0, 1) := dk_42 (dk_at dksJ1_fixAfterDeletion_7 4 rfl rfl)
theorem dJ1_fixAfterDeletion_171 : decode cJ1_fixAfterDeletion 171 = .ok (.aload_n 1, 1) := dk_43 (dk_at dksJ1_fixAfterDeletion_7 5 rfl rfl)
theorem dJ1_fixAfterDeletion_172 : decode cJ1_fixAfterDeletion 172 = .ok (.invokestatic 294, 3) := dk_184 1 38 (dk_at dksJ1_fixAfterDeletion_7 6 rfl rfl)
theorem dJ1_fixAfterDeletion_175 : decode cJ1_fixAfterDeletion 175 = .ok (.invokevirtual 311, 3) := dk_182 1 55 (dk_at dksJ1_fixAfterDeletion_7 9 rfl rfl)
theorem dJ1_fixAfterDeletion_178 : decode cJ1_fixAfterDeletion 178 = .ok (.aload_n 0, 1) := dk_42 (dk_at dksJ1_fixAfterDeletion_7 12 rfl rfl)
theorem dJ1_fixAfterDeletion_179 : decode cJ1_fixAfterDeletion 179 = .ok (.getfield 101, 3) := dk_180 0 101 (dk_at dksJ1_fixAfterDeletion_7 13 rfl rfl)
theorem dJ1_fixAfterDeletion_182 : decode cJ1_fixAfterDeletion 182 = .ok (.astore_n 1, 1) := dk_76 (dk_at dksJ1_fixAfterDeletion_7 16 rfl rfl)
theorem dJ1_fixAfterDeletion_183 : decode cJ1_fixAfterDeletion 183 = .ok (.goto (-183), 3) := dk_167 255 73 (dk_at dksJ1_fixAfterDeletion_7 17 rfl rfl)
theorem dJ1_fixAfterDeletion_186 : decode cJ1_fixAfterDeletion 186 = .ok (.aload_n 1, 1) := dk_43 (dk_at dksJ1_fixAfterDeletion_7 20 rfl rfl)
theorem dJ1_fixAfterDeletion_187 : decode cJ1_fixAfterDeletion 187 = .ok (.invokestatic 294, 3) := dk_184 1 38 (dk_at dksJ1_fixAfterDeletion_7 21 rfl rfl)
theorem dJ1_fixAfterDeletion_190 : decode cJ1_fixAfterDeletion 190 = .ok (.invokestatic 297, 3) := dk_184 1 41 (dk_at dksJ1_fixAfterDeletion_8 0 rfl rfl)
theorem dJ1_fixAfterDeletion_193 : decode cJ1_fixAfterDeletion 193 = .ok (.astore_n 2, 1) := dk_77 (dk_at dksJ1_fixAfterDeletion_8 3 rfl rfl)
theorem dJ1_fixAfterDeletion_194 : decode cJ1_fixAfterDeletion 194 = .ok (.aload_n 2, 1) := dk_44 (dk_at dksJ1_fixAfterDeletion_8 4 rfl rfl)
theorem dJ1_fixAfterDeletion_195 : decode cJ1_fixAfterDeletion 195 = .ok (.invokestatic 303, 3) := dk_184 1 47 (dk_at dksJ1_fixAfterDeletion_8 5 rfl rfl)
theorem dJ1_fixAfterDeletion_198 : decode cJ1_fixAfterDeletion 198 = .ok (.ifCond .ne 32, 3) := dk_154 0 32 (dk_at dksJ1_fixAfterDeletion_8 8 rfl rfl)
theorem dJ1_fixAfterDeletion_201 : decode cJ1_fixAfterDeletion 201 = .ok (.aload_n 2, 1) := dk_44 (dk_at dksJ1_fixAfterDeletion_8 11 rfl rfl)
theorem dJ1_fixAfterDeletion_202 : decode cJ1_fixAfterDeletion 202 = .ok (.iconst 1, 1) := dk_4 (dk_at dksJ1_fixAfterDeletion_8 12 rfl rfl)
theorem dJ1_fixAfterDeletion_203 : decode cJ1_fixAfterDeletion 203 = .ok (.invokestatic 307, 3) := dk_184 1 51 (dk_at dksJ1_fixAfterDeletion_8 13 rfl rfl)
theorem dJ1_fixAfterDeletion_206 : decode cJ1_fixAfterDeletion 206 = .ok (.aload_n 1, 1) := dk_43 (dk_at dksJ1_fixAfterDeletion_8 16 rfl rfl)
theorem dJ1_fixAfterDeletion_207 : decode cJ1_fixAfterDeletion 207 = .ok (.invokestatic 294, 3) := dk_184 1 38 (dk_at dksJ1_fixAfterDeletion_8 17 rfl rfl)
theorem dJ1_fixAfterDeletion_210 : decode cJ1_fixAfterDeletion 210 = .ok (.iconst 0, 1) := dk_3 (dk_at dksJ1_fixAfterDeletion_8 20 rfl rfl)
theorem dJ1_fixAfterDeletion_211 : decode cJ1_fixAfterDeletion 211 = .ok (.invokestatic 307, 3) := dk_184 1 51 (dk_at dksJ1_fixAfterDeletion_8 21 rfl rfl)
theorem dJ1_fixAfterDeletion_214 : decode cJ1_fixAfterDeletion 214 = .ok (.aload_n 0, 1) := dk_42 (dk_at dksJ1_fixAfterDeletion_9 0 rfl rfl)
theorem dJ1_fixAfterDeletion_215 : decode cJ1_fixAfterDeletion 215 = .ok (.aload_n 1, 1) := dk_43 (dk_at dksJ1_fixAfterDeletion_9 1 rfl rfl)
theorem dJ1_fixAfterDeletion_216 : decode cJ1_fixAfterDeletion 216 = .ok (.invokestatic 294, 3) := dk_184 1 38 (dk_at dksJ1_fixAfterDeletion_9 2 rfl rfl)
theorem dJ1_fixAfterDeletion_219 : decode cJ1_fixAfterDeletion 219 = .ok (.invokevirtual 314, 3) := dk_182 1 58 (dk_at dksJ1_fixAfterDeletion_9 5 rfl rfl)
theorem dJ1_fixAfterDeletion_222 : decode cJ1_fixAfterDeletion 222 = .ok (.aload_n 1, 1) := dk_43 (dk_at dksJ1_fixAfterDeletion_9 8 rfl rfl)
theorem dJ1_fixAfterDeletion_223 : decode cJ1_fixAfterDeletion 223 = .ok (.invokestatic 294, 3) := dk_184 1 38 (dk_at dksJ1_fixAfterDeletion_9 9 rfl rfl)
theorem dJ1_fixAfterDeletion_226 : decode cJ1_fixAfterDeletion 226 = .ok (.invokestatic 297, 3) := dk_184 1 41 (dk_at dksJ1_fixAfterDeletion_9 12 rfl rfl)
theorem dJ1_fixAfterDeletion_229 : decode cJ1_fixAfterDeletion 229 = .ok (.astore_n 2, 1) := dk_77 (dk_at dksJ1_fixAfterDeletion_9 15 rfl rfl)
theorem dJ1_fixAfterDeletion_230 : decode cJ1_fixAfterDeletion 230 = .ok (.aload_n 2, 1) := dk_44 (dk_at dksJ1_fixAfterDeletion_9 16 rfl rfl)
theorem dJ1_fixAfterDeletion_231 : decode cJ1_fixAfterDeletion 231 = .ok (.invokestatic 300, 3) := dk_184 1 44 (dk_at dksJ1_fixAfterDeletion_9 17 rfl rfl)
theorem dJ1_fixAfterDeletion_234 : decode cJ1_fixAfterDeletion 234 = .ok (.invokestatic 303, 3) := dk_184 1 47 (dk_at dksJ1_fixAfterDeletion_9 20 rfl rfl)
theorem dJ1_fixAfterDeletion_237 : decode cJ1_fixAfterDeletion 237 = .ok (.iconst 1, 1) := dk_4 (dk_at dksJ1_fixAfterDeletion_9 23 rfl rfl)
theorem dJ1_fixAfterDeletion_238 : decode cJ1_fixAfterDeletion 238 = .ok (.if_icmp .ne 27, 3) := dk_160 0 27 (dk_at dksJ1_fixAfterDeletion_10 0 rfl rfl)
theorem dJ1_fixAfterDeletion_241 : decode cJ1_fixAfterDeletion 241 = .ok (.aload_n 2, 1) := dk_44 (dk_at dksJ1_fixAfterDeletion_10 3 rfl rfl)
theorem dJ1_fixAfterDeletion_242 : decode cJ1_fixAfterDeletion 242 = .ok (.invokestatic 297, 3) := dk_184 1 41 (dk_at dksJ1_fixAfterDeletion_10 4 rfl rfl)
theorem dJ1_fixAfterDeletion_245 : decode cJ1_fixAfterDeletion 245 = .ok (.invokestatic 303, 3) := dk_184 1 47 (dk_at dksJ1_fixAfterDeletion_10 7 rfl rfl)
theorem dJ1_fixAfterDeletion_248 : decode cJ1_fixAfterDeletion 248 = .ok (.iconst 1, 1) := dk_4 (dk_at dksJ1_fixAfterDeletion_10 10 rfl rfl)
theorem dJ1_fixAfterDeletion_249 : decode cJ1_fixAfterDeletion 249 = .ok (.if_icmp .ne 16, 3) := dk_160 0 16 (dk_at dksJ1_fixAfterDeletion_10 11 rfl rfl)
theorem dJ1_fixAfterDeletion_252 : decode cJ1_fixAfterDeletion 252 = .ok (.aload_n 2, 1) := dk_44 (dk_at dksJ1_fixAfterDeletion_10 14 rfl rfl)
theorem dJ1_fixAfterDeletion_253 : decode cJ1_fixAfterDeletion 253 = .ok (.iconst 0, 1) := dk_3 (dk_at dksJ1_fixAfterDeletion_10 15 rfl rfl)
theorem dJ1_fixAfterDeletion_254 : decode cJ1_fixAfterDeletion 254 = .ok (.invokestatic 307, 3) := dk_184 1 51 (dk_at dksJ1_fixAfterDeletion_10 16 rfl rfl)
theorem dJ1_fixAfterDeletion_257 : decode cJ1_fixAfterDeletion 257 = .ok (.aload_n 1, 1) := dk_43 (dk_at dksJ1_fixAfterDeletion_10 19 rfl rfl)
theorem dJ1_fixAfterDeletion_258 : decode cJ1_fixAfterDeletion 258 = .ok (.invokestatic 294, 3) := dk_184 1 38 (dk_at dksJ1_fixAfterDeletion_10 20 rfl rfl)
theorem dJ1_fixAfterDeletion_261 : decode cJ1_fixAfterDeletion 261 = .ok (.astore_n 1, 1) := dk_76 (dk_at dksJ1_fixAfterDeletion_10 23 rfl rfl)
theorem dJ1_fixAfterDeletion_262 : decode cJ1_fixAfterDeletion 262 = .ok (.goto 80, 3) := dk_167 0 80 (dk_at dksJ1_fixAfterDeletion_11 0 rfl rfl)
theorem dJ1_fixAfterDeletion_265 : decode cJ1_fixAfterDeletion 265 = .ok (.aload_n 2, 1) := dk_44 (dk_at dksJ1_fixAfterDeletion_11 3 rfl rfl)
theorem dJ1_fixAfterDeletion_266 : decode cJ1_fixAfterDeletion 266 = .ok (.invokestatic 297, 3) := dk_184 1 41 (dk_at dksJ1_fixAfterDeletion_11 4 rfl rfl)
theorem dJ1_fixAfterDeletion_269 : decode cJ1_fixAfterDeletion 269 = .ok (.invokestatic 303, 3) := dk_184 1 47 (dk_at dksJ1_fixAfterDeletion_11 7 rfl rfl)
theorem dJ1_fixAfterDeletion_272 : decode cJ1_fixAfterDeletion 272 = .ok (.iconst 1, 1) := dk_4 (dk_at dksJ1_fixAfterDeletion_11 10 rfl rfl)
theorem dJ1_fixAfterDeletion_273 : decode cJ1_fixAfterDeletion 273 = .ok (.if_icmp .ne 29, 3) := dk_160 0 29 (dk_at dksJ1_fixAfterDeletion_11 11 rfl rfl)
theorem dJ1_fixAfterDeletion_276 : decode cJ1_fixAfterDeletion 276 = .ok (.aload_n 2, 1) := dk_44 (dk_at dksJ1_fixAfterDeletion_11 14 rfl rfl)
theorem dJ1_fixAfterDeletion_277 : decode cJ1_fixAfterDeletion 277 = .ok (.invokestatic 300, 3) := dk_184 1 44 (dk_at dksJ1_fixAfterDeletion_11 15 rfl rfl)
theorem dJ1_fixAfterDeletion_280 : decode cJ1_fixAfterDeletion 280 = .ok (.iconst 1, 1) := dk_4 (dk_at dksJ1_fixAfterDeletion_11 18 rfl rfl)
theorem dJ1_fixAfterDeletion_281 : decode cJ1_fixAfterDeletion 281 = .ok (.invokestatic 307, 3) := dk_184 1 51 (dk_at dksJ1_fixAfterDeletion_11 19 rfl rfl)
theorem dJ1_fixAfterDeletion_284 : decode cJ1_fixAfterDeletion 284 = .ok (.aload_n 2, 1) := dk_44 (dk_at dksJ1_fixAfterDeletion_11 22 rfl rfl)
theorem dJ1_fixAfterDeletion_285 : decode cJ1_fixAfterDeletion 285 = .ok (.iconst 0, 1) := dk_3 (dk_at dksJ1_fixAfterDeletion_11 23 rfl rfl)
theorem dJ1_fixAfterDeletion_286 : decode cJ1_fixAfterDeletion 286 = .ok (.invokestatic 307, 3) := dk_184 1 51 (dk_at dksJ1_fixAfterDeletion_12 0 rfl rfl)
theorem dJ1_fixAfterDeletion_289 : decode cJ1_fixAfterDeletion 289 = .ok (.aload_n 0, 1) := dk_42 (dk_at dksJ1_fixAfterDeletion_12 3 rfl rfl)
theorem dJ1_fixAfterDeletion_290 : decode cJ1_fixAfterDeletion 290 = .ok (.aload_n 2, 1) := dk_44 (dk_at dksJ1_fixAfterDeletion_12 4 rfl rfl)
theorem dJ1_fixAfterDeletion_291 : decode cJ1_fixAfterDeletion 291 = .ok (.invokevirtual 311, 3) := dk_182 1 55 (dk_at dksJ1_fixAfterDeletion_12 5 rfl rfl)
theorem dJ1_fixAfterDeletion_294 : decode cJ1_fixAfterDeletion 294 = .ok (.aload_n 1, 1) := dk_43 (dk_at dksJ1_fixAfterDeletion_12 8 rfl rfl)
theorem dJ1_fixAfterDeletion_295 : decode cJ1_fixAfterDeletion 295 = .ok (.invokestatic 294, 3) := dk_184 1 38 (dk_at dksJ1_fixAfterDeletion_12 9 rfl rfl)
theorem dJ1_fixAfterDeletion_298 : decode cJ1_fixAfterDeletion 298 = .ok (.invokestatic 297, 3) := dk_184 1 41 (dk_at dksJ1_fixAfterDeletion_12 12 rfl rfl)
theorem dJ1_fixAfterDeletion_301 : decode cJ1_fixAfterDeletion 301 = .ok (.astore_n 2, 1) := dk_77 (dk_at dksJ1_fixAfterDeletion_12 15 rfl rfl)
theorem dJ1_fixAfterDeletion_302 : decode cJ1_fixAfterDeletion 302 = .ok (.aload_n 2, 1) := dk_44 (dk_at dksJ1_fixAfterDeletion_12 16 rfl rfl)
theorem dJ1_fixAfterDeletion_303 : decode cJ1_fixAfterDeletion 303 = .ok (.aload_n 1, 1) := dk_43 (dk_at dksJ1_fixAfterDeletion_12 17 rfl rfl)
theorem dJ1_fixAfterDeletion_304 : decode cJ1_fixAfterDeletion 304 = .ok (.invokestatic 294, 3) := dk_184 1 38 (dk_at dksJ1_fixAfterDeletion_12 18 rfl rfl)
theorem dJ1_fixAfterDeletion_307 : decode cJ1_fixAfterDeletion 307 = .ok (.invokestatic 303, 3) := dk_184 1 47 (dk_at dksJ1_fixAfterDeletion_12 21 rfl rfl)
theorem dJ1_fixAfterDeletion_310 : decode cJ1_fixAfterDeletion 310 = .ok (.invokestatic 307, 3) := dk_184 1 51 (dk_at dksJ1_fixAfterDeletion_13 0 rfl rfl)
theorem dJ1_fixAfterDeletion_313 : decode cJ1_fixAfterDeletion 313 = .ok (.aload_n 1, 1) := dk_43 (dk_at dksJ1_fixAfterDeletion_13 3 rfl rfl)
theorem dJ1_fixAfterDeletion_314 : decode cJ1_fixAfterDeletion 314 = .ok (.invokestatic 294, 3) := dk_184 1 38 (dk_at dksJ1_fixAfterDeletion_13 4 rfl rfl)
theorem dJ1_fixAfterDeletion_317 : decode cJ1_fixAfterDeletion 317 = .ok (.iconst 1, 1) := dk_4 (dk_at dksJ1_fixAfterDeletion_13 7 rfl rfl)
theorem dJ1_fixAfterDeletion_318 : decode cJ1_fixAfterDeletion 318 = .ok (.invokestatic 307, 3) := dk_184 1 51 (dk_at dksJ1_fixAfterDeletion_13 8 rfl rfl)
theorem dJ1_fixAfterDeletion_321 : decode cJ1_fixAfterDeletion 321 = .ok (.aload_n 2, 1) := dk_44 (dk_at dksJ1_fixAfterDeletion_13 11 rfl rfl)
theorem dJ1_fixAfterDeletion_322 : decode cJ1_fixAfterDeletion 322 = .ok (.invokestatic 297, 3) := dk_184 1 41 (dk_at dksJ1_fixAfterDeletion_13 12 rfl rfl)
theorem dJ1_fixAfterDeletion_325 : decode cJ1_fixAfterDeletion 325 = .ok (.iconst 1, 1) := dk_4 (dk_at dksJ1_fixAfterDeletion_13 15 rfl rfl)
theorem dJ1_fixAfterDeletion_326 : decode cJ1_fixAfterDeletion 326 = .ok (.invokestatic 307, 3) := dk_184 1 51 (dk_at dksJ1_fixAfterDeletion_13 16 rfl rfl)
theorem dJ1_fixAfterDeletion_329 : decode cJ1_fixAfterDeletion 329 = .ok (.aload_n 0, 1) := dk_42 (dk_at dksJ1_fixAfterDeletion_13 19 rfl rfl)
theorem dJ1_fixAfterDeletion_330 : decode cJ1_fixAfterDeletion 330 = .ok (.aload_n 1, 1) := dk_43 (dk_at dksJ1_fixAfterDeletion_13 20 rfl rfl)
theorem dJ1_fixAfterDeletion_331 : decode cJ1_fixAfterDeletion 331 = .ok (.invokestatic 294, 3) := dk_184 1 38 (dk_at dksJ1_fixAfterDeletion_13 21 rfl rfl)
theorem dJ1_fixAfterDeletion_334 : decode cJ1_fixAfterDeletion 334 = .ok (.invokevirtual 314, 3) := dk_182 1 58 (dk_at dksJ1_fixAfterDeletion_14 0 rfl rfl)
theorem dJ1_fixAfterDeletion_337 : decode cJ1_fixAfterDeletion 337 = .ok (.aload_n 0, 1) := dk_42 (dk_at dksJ1_fixAfterDeletion_14 3 rfl rfl)
theorem dJ1_fixAfterDeletion_338 : decode cJ1_fixAfterDeletion 338 = .ok (.getfield 101, 3) := dk_180 0 101 (dk_at dksJ1_fixAfterDeletion_14 4 rfl rfl)
theorem dJ1_fixAfterDeletion_341 : decode cJ1_fixAfterDeletion 341 = .ok (.astore_n 1, 1) := dk_76 (dk_at dksJ1_fixAfterDeletion_14 7 rfl rfl)
theorem dJ1_fixAfterDeletion_342 : decode cJ1_fixAfterDeletion 342 = .ok (.goto (-342), 3) := dk_167 254 170 (dk_at dksJ1_fixAfterDeletion_14 8 rfl rfl)
theorem dJ1_fixAfterDeletion_345 : decode cJ1_fixAfterDeletion 345 = .ok (.aload_n 1, 1) := dk_43 (dk_at dksJ1_fixAfterDeletion_14 11 rfl rfl)
theorem dJ1_fixAfterDeletion_346 : decode cJ1_fixAfterDeletion 346 = .ok (.iconst 1, 1) := dk_4 (dk_at dksJ1_fixAfterDeletion_14 12 rfl rfl)
theorem dJ1_fixAfterDeletion_347 : decode cJ1_fixAfterDeletion 347 = .ok (.invokestatic 307, 3) := dk_184 1 51 (dk_at dksJ1_fixAfterDeletion_14 13 rfl rfl)
theorem dJ1_fixAfterDeletion_350 : decode cJ1_fixAfterDeletion 350 = .ok (.return_, 1) := dk_177 (dk_at dksJ1_fixAfterDeletion_14 16 rfl rfl)
set_option maxHeartbeats 4000000 in
theorem m_fixDel (l : Launch) (hl : l.stackTraces = false) (g : GE) (A : Nat → Prop) (E : List Nat) (tm : Nat) (ka va : Nat → Nat) (lf rt pa : Nat → Option Nat) (co : Nat → Bool) (vl root : Option Nat) (n : Nat) (md : Int32) (h0 : AHT) (ix lo hi : Nat → Nat) (hI : Inv E ix lo hi lf rt pa root) (ht : tm ∉ E) (x : Nat) (hb : ∀ r, root = some r → (co r = true ∨ x = r)) (hx : x ∈ E) (z : Option Nat) (hz : ∀ p0, z = some p0 → lf p0 = none ∧ rt p0 = none ∧ lo x ≤ ix p0 ∧ ix p0 < hi x) (hzE : ∀ p0, z = some p0 → p0 ∈ E) : U_ l g A yJ1_fixAfterDeletion 2 0 0 [.ref tm, .ref x] (tmO E tm ka va lf rt pa co vl root n md h0) (fun v h' => v = none ∧ ∃ (lo' hi' : Nat → Nat) (lf' rt' pa' : Nat → Option Nat) (co' : Nat → Bool) (root' : Option Nat), Inv E ix lo' hi' lf' rt' pa' root' ∧ (∀ r, root' = some r → co' r = true) ∧ (∀ p0, z = some p0 → lf' p0 = none ∧ rt' p0 = none) ∧ (tmO E tm ka va lf' rt' pa' co' vl root' n md h0) = h') noX := by
  refine U_.of (own := RJ1) (cc := cJ1_fixAfterDeletion) (L := 3) (ret := (none)) hl rfl (plainFor_of_name (by decide)) ⟨by decide, by decide⟩ q1646 q85 (by decide) (fun e => absurd e (by decide)) (Nat.le_of_ble_eq_true rfl) (fun κ cx => ?_)
  show V g A κ _ _ 0 0 (tmO E tm ka va lf rt pa co vl root n md h0) 0 [(0, .ref tm), (1, .ref x)] []
  refine V.loop (α := (Nat) × (Nat → Nat) × (Nat → Nat) × (Nat → Option Nat) × (Nat → Option Nat) × (Nat → Option Nat) × (Nat → Bool) × (Option Nat)) (fun z9_ => E.length - ((z9_.2.2.1) (z9_.1) - (z9_.2.1) (z9_.1))) (fun z9_ => Inv E ix (z9_.2.1) (z9_.2.2.1) (z9_.2.2.2.1) (z9_.2.2.2.2.1) (z9_.2.2.2.2.2.1) (z9_.2.2.2.2.2.2.2) ∧ (z9_.1) ∈ E ∧ (∀ r, (z9_.2.2.2.2.2.2.2) = some r → ((z9_.2.2.2.2.2.2.1) r = true ∨ (z9_.1) = r)) ∧ (∀ p0, z = some p0 → (z9_.2.2.2.1) p0 = none ∧ (z9_.2.2.2.2.1) p0 = none ∧ (z9_.2.1) (z9_.1) ≤ ix p0 ∧ ix p0 < (z9_.2.2.1) (z9_.1))) (fun z9_ => 0) (fun z9_ => 0) (fun z9_ => (tmO E tm ka va (z9_.2.2.2.1) (z9_.2.2.2.2.1) (z9_.2.2.2.2.2.1) (z9_.2.2.2.2.2.2.1) vl (z9_.2.2.2.2.2.2.2) n md h0)) (fun z9_ => [(0, .ref tm), (1, .ref (z9_.1))]) (fun z9_ => []) (fun z9_ hP_ ih_ => ?_) (x, lo, hi, lf, rt, pa, co, root) ⟨hI, hx, hb, hz⟩
  obtain ⟨x_, lo_, hi_, lf_, rt_, pa_, co_, root_⟩ := z9_
  dsimp only at hP_
  obtain ⟨hI_, hx_, hb_, G_⟩ := hP_
  show V g A κ _ _ 0 0 (tmO E tm ka va lf_ rt_ pa_ co_ vl root_ n md h0) 0 [(0, .ref tm), (1, .ref x_)] []
  clear hI hb hz hx
  refine V.aload_n cx dJ1_fixAfterDeletion_0 rfl 1 rfl ?_
  refine V.aload_n cx dJ1_fixAfterDeletion_1 rfl 0 rfl ?_
  refine V.get cx kJ1 (tm_t ht) 3 (by decide) q158 rfl rfl dJ1_fixAfterDeletion_2 ?_
  show V g A κ _ _ 0 0 (tmO E tm ka va lf_ rt_ pa_ co_ vl root_ n md h0) 5 [(0, .ref tm), (1, .ref x_)] [va_rf root_, .ref x_]
  refine V.acmp_eq (rx := (some x_)) (ry := root_) (tgt := 345) cx dJ1_fixAfterDeletion_5 (by decide) (fun cr => ?_) (fun cr => ?_)
  · refine V.aload_n cx dJ1_fixAfterDeletion_345 rfl 1 rfl ?_
    refine V.iconst (v := (nI 1)) cx dJ1_fixAfterDeletion_346 (by decide) ?_
    refine V.toi (y := b2 true) (by decide) ?_
    refine V.callS (As := [.ref x_, .int (b2 true)]) (rest := []) cx (m_setColorS l hl g A E tm ka va lf_ rt_ pa_ co_ vl root_ n md h0 x_ hx_ true) q1066 q1067 (na := 2) rfl (by decide +kernel) (Nat.le_of_ble_eq_true rfl) (by decide) (by decide) (by decide) rfl dJ1_fixAfterDeletion_347 (fun _ _ _ hx => hx.elim) (fun v1 h2 hp => ?_)
    obtain ⟨rfl, rfl⟩ := hp
    show V g A κ _ _ 0 0 (tmO E tm ka va lf_ rt_ pa_ (va_up co_ x_ true) vl root_ n md h0) 350 [(0, .ref tm), (1, .ref x_)] []
    exact V.vreturn cx rfl ⟨rfl, lo_, hi_, lf_, rt_, pa_, _, root_, hI_, fun r hr => by have := hb_ r hr; unfold va_up; grind, fun p0 hp0 => ⟨(G_ p0 hp0).1, (G_ p0 hp0).2.1⟩, rfl⟩ (by decide) (by decide) dJ1_fixAfterDeletion_350
  · have hB_ : ∀ r, root_ = some r → co_ r = true := fun r hr => (hb_ r hr).resolve_right (fun e => cr (by rw [e]; exact hr.symm))
    rcases Bool.eq_false_or_eq_true (co_ x_) with hcx | hcx
    · refine V.aload_n cx dJ1_fixAfterDeletion_8 rfl 1 rfl ?_
      refine V.callS (As := [.ref x_]) (rest := []) cx (m_colorOfS l hl g A E tm ka va lf_ rt_ pa_ co_ vl root_ n md h0 x_ hx_) q1063 q1064 (na := 1) rfl (by decide +kernel) (Nat.le_of_ble_eq_true rfl) (by decide) (by decide) (by decide) rfl dJ1_fixAfterDeletion_9 (fun _ _ _ hx => hx.elim) (fun v7 h8 hp => ?_)
      obtain ⟨rfl, rfl⟩ := hp
      show V g A κ _ _ 0 0 (tmO E tm ka va lf_ rt_ pa_ co_ vl root_ n md h0) 12 [(0, .ref tm), (1, .ref x_)] [.int (b2 (co_ x_))]
      refine V.tob (b := true) (by rw [hcx]) ?_
      show V g A κ _ _ 0 0 (tmO E tm ka va lf_ rt_ pa_ co_ vl root_ n md h0) 12 [(0, .ref tm), (1, .ref x_)] [.int (b2 true)]
      refine V.iconst (v := (nI 1)) cx dJ1_fixAfterDeletion_12 (by decide) ?_
      refine V.icmp_ne (tgt := 345) cx dJ1_fixAfterDeletion_13 (by decide) (fun cx1 => ?_) (fun cx1 => ?_)
      · exact absurd rfl cx1
      · have hppx : ∃ p, pa_ x_ = some p := by rcases opt_c (pa_ x_) with hz | hz; exact absurd ((hI_.2.2.2.2.1 x_ hx_).1 hz).symm cr; exact hz
        obtain ⟨p, hxp_⟩ := hppx
        have hpE : p ∈ E := ((hI_.2.2.2.2.1 x_ hx_).2 p hxp_).1
        have hlp : lf_ p = some x_ ∨ rt_ p = some x_ := ((hI_.2.2.2.2.1 x_ hx_).2 p hxp_).2
        have nxp : x_ ≠ p := by clear ih_ G_; have := Inv.inj hI_ hx_ hpE; obtain ⟨i0, i1, i2, i3, i4, i5⟩ := id hI_; grind
        show V g A κ _ _ 0 0 (tmO E tm ka va lf_ rt_ pa_ co_ vl root_ n md h0) 16 [(0, .ref tm), (1, .ref x_)] []
        refine V.aload_n cx dJ1_fixAfterDeletion_16 rfl 1 rfl ?_
        refine V.aload_n cx dJ1_fixAfterDeletion_17 rfl 1 rfl ?_
        refine V.callS (As := [.ref x_]) (rest := [.ref x_]) cx (m_parentOfS l hl g A E tm ka va lf_ rt_ pa_ co_ vl root_ n md h0 x_ hx_) q1054 q1055 (na := 1) rfl (by decide +kernel) (Nat.le_of_ble_eq_true rfl) (by decide) (by decide) (by decide) rfl dJ1_fixAfterDeletion_18 (fun _ _ _ hx => hx.elim) (fun v9 h10 hp => ?_)
        obtain ⟨rfl, rfl⟩ := hp
        show V g A κ _ _ 0 0 (tmO E tm ka va lf_ rt_ pa_ co_ vl root_ n md h0) 21 [(0, .ref tm), (1, .ref x_)] [va_rf (pa_ x_), .ref x_]
        refine V.toq (o' := (some p)) (by rw [hxp_]) ?_
        show V g A κ _ _ 0 0 (tmO E tm ka va lf_ rt_ pa_ co_ vl root_ n md h0) 21 [(0, .ref tm), (1, .ref x_)] [.ref p, .ref x_]
        refine V.callS (As := [.ref p]) (rest := [.ref x_]) cx (m_leftOfS l hl g A E tm ka va lf_ rt_ pa_ co_ vl root_ n md h0 p hpE) q1057 q1058 (na := 1) rfl (by decide +kernel) (Nat.le_of_ble_eq_true rfl) (by decide) (by decide) (by decide) rfl dJ1_fixAfterDeletion_21 (fun _ _ _ hx => hx.elim) (fun v11 h12 hp => ?_)
        obtain ⟨rfl, rfl⟩ := hp
        show V g A κ _ _ 0 0 (tmO E tm ka va lf_ rt_ pa_ co_ vl root_ n md h0) 24 [(0, .ref tm), (1, .ref x_)] [va_rf (lf_ p), .ref x_]
        show V g A κ _ _ 0 0 (tmO E tm ka va lf_ rt_ pa_ co_ vl root_ n md h0) 24 [(0, .ref tm), (1, .ref x_)] [va_rf (lf_ p), .ref x_]
        refine V.acmp_ne (rx := (some x_)) (ry := (lf_ p)) (tgt := 186) cx dJ1_fixAfterDeletion_24 (by decide) (fun cs => ?_) (fun cs => ?_)
        · have hlx_ : rt_ p = some x_ := hlp.resolve_left (fun e => cs e.symm)
          have rg_ : lo_ x_ = lo_ x_ ∧ hi_ x_ = hi_ x_ := ⟨rfl, rfl⟩
          have mz_ : lo_ p ≤ lo_ x_ ∧ hi_ x_ ≤ hi_ p ∧ hi_ p - lo_ p > hi_ x_ - lo_ x_ ∧ lo_ x_ = lo_ x_ ∧ hi_ x_ = hi_ x_ ∧ hi_ p ≤ E.length ∧ lo_ p ≤ hi_ p := by
            have h1 := hI_.2.1 p hpE
            have h2 := hI_.2.1 x_ hx_
            have h3 := (hI_.2.2.2.1 p hpE).2 x_ hlx_
            have h4 := rg_
            omega
          have nt_ : ∀ q, pa_ p = some q → lf_ q = some p ∨ rt_ q = some p := fun q hq => ((hI_.2.2.2.2.1 p hpE).2 q hq).2
          refine V.aload_n cx dJ1_fixAfterDeletion_186 rfl 1 rfl ?_
          refine V.callS (As := [.ref x_]) (rest := []) cx (m_parentOfS l hl g A E tm ka va lf_ rt_ pa_ co_ vl root_ n md h0 x_ hx_) q1054 q1055 (na := 1) rfl (by decide +kernel) (Nat.le_of_ble_eq_true rfl) (by decide) (by decide) (by decide) rfl dJ1_fixAfterDeletion_187 (fun _ _ _ hx => hx.elim) (fun v279 h280 hp => ?_)
          obtain ⟨rfl, rfl⟩ := hp
          show V g A κ _ _ 0 0 (tmO E tm ka va lf_ rt_ pa_ co_ vl root_ n md h0) 190 [(0, .ref tm), (1, .ref x_)] [va_rf (pa_ x_)]
          refine V.toq (o' := (some p)) (by rw [hxp_]) ?_
          show V g A κ _ _ 0 0 (tmO E tm ka va lf_ rt_ pa_ co_ vl root_ n md h0) 190 [(0, .ref tm), (1, .ref x_)] [.ref p]
          rcases unc (lf_ p) co_ with ⟨u, hu, hcu⟩ | hcu
          · have huE : u ∈ E := ((hI_.2.2.1 p hpE).2 u hu).1
            have nup : u ≠ p := fun e => by have h1 := (hI_.2.2.1 p hpE).2 u hu; have h2 := hI_.2.1 u huE; rw [e] at h1 h2; omega
            refine V.callS (As := [.ref p]) (rest := []) cx (m_leftOfS l hl g A E tm ka va lf_ rt_ pa_ co_ vl root_ n md h0 p hpE) q1057 q1058 (na := 1) rfl (by decide +kernel) (Nat.le_of_ble_eq_true rfl) (by decide) (by decide) (by decide) rfl dJ1_fixAfterDeletion_190 (fun _ _ _ hx => hx.elim) (fun v281 h282 hp => ?_)
            obtain ⟨rfl, rfl⟩ := hp
            show V g A κ _ _ 0 0 (tmO E tm ka va lf_ rt_ pa_ co_ vl root_ n md h0) 193 [(0, .ref tm), (1, .ref x_)] [va_rf (lf_ p)]
            refine V.toq (o' := (some u)) (by rw [hu]) ?_
            show V g A κ _ _ 0 0 (tmO E tm ka va lf_ rt_ pa_ co_ vl root_ n md h0) 193 [(0, .ref tm), (1, .ref x_)] [.ref u]
            refine V.astore_n (lv' := [(2, .ref u), (0, .ref tm), (1, .ref x_)]) cx dJ1_fixAfterDeletion_193 rfl (by decide) rfl ?_
            refine V.aload_n cx dJ1_fixAfterDeletion_194 rfl 0 rfl ?_
            refine V.callS (As := [.ref u]) (rest := []) cx (m_colorOfS l hl g A E tm ka va lf_ rt_ pa_ co_ vl root_ n md h0 u huE) q1063 q1064 (na := 1) rfl (by decide +kernel) (Nat.le_of_ble_eq_true rfl) (by decide) (by decide) (by decide) rfl dJ1_fixAfterDeletion_195 (fun _ _ _ hx => hx.elim) (fun v283 h284 hp => ?_)
            obtain ⟨rfl, rfl⟩ := hp
            show V g A κ _ _ 0 0 (tmO E tm ka va lf_ rt_ pa_ co_ vl root_ n md h0) 198 [(2, .ref u), (0, .ref tm), (1, .ref x_)] [.int (b2 (co_ u))]
            refine V.tob (b := false) (by rw [hcu]) ?_
            show V g A κ _ _ 0 0 (tmO E tm ka va lf_ rt_ pa_ co_ vl root_ n md h0) 198 [(2, .ref u), (0, .ref tm), (1, .ref x_)] [.int (b2 false)]
            refine V.bif_ne (tgt := 230) cx dJ1_fixAfterDeletion_198 (by decide) (fun cb => ?_) (fun cb => ?_)
            · exact absurd cb (by decide)
            · refine V.aload_n cx dJ1_fixAfterDeletion_201 rfl 0 rfl ?_
              refine V.iconst (v := (nI 1)) cx dJ1_fixAfterDeletion_202 (by decide) ?_
              refine V.toi (y := b2 true) (by decide) ?_
              refine V.callS (As := [.ref u, .int (b2 true)]) (rest := []) cx (m_setColorS l hl g A E tm ka va lf_ rt_ pa_ co_ vl root_ n md h0 u huE true) q1066 q1067 (na := 2) rfl (by decide +kernel) (Nat.le_of_ble_eq_true rfl) (by decide) (by decide) (by decide) rfl dJ1_fixAfterDeletion_203 (fun _ _ _ hx => hx.elim) (fun v285 h286 hp => ?_)
              obtain ⟨rfl, rfl⟩ := hp
              show V g A κ _ _ 0 0 (tmO E tm ka va lf_ rt_ pa_ (va_up co_ u true) vl root_ n md h0) 206 [(2, .ref u), (0, .ref tm), (1, .ref x_)] []
              refine V.aload_n cx dJ1_fixAfterDeletion_206 rfl 2 rfl ?_
              refine V.callS (As := [.ref x_]) (rest := []) cx (m_parentOfS l hl g A E tm ka va lf_ rt_ pa_ (va_up co_ u true) vl root_ n md h0 x_ hx_) q1054 q1055 (na := 1) rfl (by decide +kernel) (Nat.le_of_ble_eq_true rfl) (by decide) (by decide) (by decide) rfl dJ1_fixAfterDeletion_207 (fun _ _ _ hx => hx.elim) (fun v287 h288 hp => ?_)
              obtain ⟨rfl, rfl⟩ := hp
              show V g A κ _ _ 0 0 (tmO E tm ka va lf_ rt_ pa_ (va_up co_ u true) vl root_ n md h0) 210 [(2, .ref u), (0, .ref tm), (1, .ref x_)] [va_rf (pa_ x_)]
              refine V.toq (o' := (some p)) (by rw [hxp_]) ?_
              show V g A κ _ _ 0 0 (tmO E tm ka va lf_ rt_ pa_ (va_up co_ u true) vl root_ n md h0) 210 [(2, .ref u), (0, .ref tm), (1, .ref x_)] [.ref p]
              refine V.iconst (v := (nI 0)) cx dJ1_fixAfterDeletion_210 (by decide) ?_
              refine V.toi (y := b2 false) (by decide) ?_
              refine V.callS (As := [.ref p, .int (b2 false)]) (rest := []) cx (m_setColorS l hl g A E tm ka va lf_ rt_ pa_ (va_up co_ u true) vl root_ n md h0 p hpE false) q1066 q1067 (na := 2) rfl (by decide +kernel) (Nat.le_of_ble_eq_true rfl) (by decide) (by decide) (by decide) rfl dJ1_fixAfterDeletion_211 (fun _ _ _ hx => hx.elim) (fun v289 h290 hp => ?_)
              obtain ⟨rfl, rfl⟩ := hp
              show V g A κ _ _ 0 0 (tmO E tm ka va lf_ rt_ pa_ (va_up (va_up co_ u true) p false) vl root_ n md h0) 214 [(2, .ref u), (0, .ref tm), (1, .ref x_)] []
              refine V.aload_n cx dJ1_fixAfterDeletion_214 rfl 1 rfl ?_
              refine V.aload_n cx dJ1_fixAfterDeletion_215 rfl 2 rfl ?_
              refine V.callS (As := [.ref x_]) (rest := [.ref tm]) cx (m_parentOfS l hl g A E tm ka va lf_ rt_ pa_ (va_up (va_up co_ u true) p false) vl root_ n md h0 x_ hx_) q1054 q1055 (na := 1) rfl (by decide +kernel) (Nat.le_of_ble_eq_true rfl) (by decide) (by decide) (by decide) rfl dJ1_fixAfterDeletion_216 (fun _ _ _ hx => hx.elim) (fun v291 h292 hp => ?_)
              obtain ⟨rfl, rfl⟩ := hp
              show V g A κ _ _ 0 0 (tmO E tm ka va lf_ rt_ pa_ (va_up (va_up co_ u true) p false) vl root_ n md h0) 219 [(2, .ref u), (0, .ref tm), (1, .ref x_)] [va_rf (pa_ x_), .ref tm]
              refine V.toq (o' := (some p)) (by rw [hxp_]) ?_
              show V g A κ _ _ 0 0 (tmO E tm ka va lf_ rt_ pa_ (va_up (va_up co_ u true) p false) vl root_ n md h0) 219 [(2, .ref u), (0, .ref tm), (1, .ref x_)] [.ref p, .ref tm]
              refine V.callV (As := [.ref p]) (rest := []) (C := "java/util/TreeMap") cx (m_rotR l hl g A E tm ka va lf_ rt_ pa_ (va_up (va_up co_ u true) p false) vl root_ n md h0 ix lo_ hi_ hI_ ht p u hpE hu) rfl q1073 q1075 qs10 (Rv.of kJ1 (tm_t ht)) (na := 1) rfl (by decide +kernel) (Nat.le_of_ble_eq_true rfl) (by decide) (by decide) (by decide) rfl dJ1_fixAfterDeletion_219 (fun _ _ _ hx => hx.elim) (fun v293 h294 hp => ?_)
              obtain ⟨rfl, rfl⟩ := hp
              show V g A κ _ _ 0 0 (tmO E tm ka va (rrt rt_ lf_ pa_ p u) (rlf rt_ pa_ p u) (rpa rt_ pa_ p u) (va_up (va_up co_ u true) p false) vl (if pa_ p = none then some u else root_) n md h0) 222 [(2, .ref u), (0, .ref tm), (1, .ref x_)] []
              obtain ⟨rt1, lf1, pa1, root1, lo1, hi1, hI1, e11, e21, e31, e41, e51, e61⟩ : ∃ (rt1 lf1 pa1 : Nat → Option Nat) (root1 : Option Nat) (lo1 hi1 : Nat → Nat), Inv E ix lo1 hi1 lf1 rt1 pa1 root1 ∧ (rlf rt_ pa_ p u) = rt1 ∧ (rrt rt_ lf_ pa_ p u) = lf1 ∧ (rpa rt_ pa_ p u) = pa1 ∧ (if pa_ p = none then some u else root_) = root1 ∧ (va_up lo_ p (ix u + 1)) = lo1 ∧ (va_up hi_ u (hi_ p)) = hi1 := ⟨_, _, _, _, _, _, Inv.rotR hI_ hpE hu, rfl, rfl, rfl, rfl, rfl, rfl⟩
              refine V.hto (h' := (tmO E tm ka va lf1 rt1 pa1 (va_up (va_up co_ u true) p false) vl root1 n md h0)) (by rw [e11, e21, e31, e41]) ?_
              show V g A κ _ _ 0 0 (tmO E tm ka va lf1 rt1 pa1 (va_up (va_up co_ u true) p false) vl root1 n md h0) 222 [(2, .ref u), (0, .ref tm), (1, .ref x_)] []
              obtain ⟨co1, hco1⟩ : ∃ z : Nat → Bool, (va_up (va_up co_ u true) p false) = z := ⟨_, rfl⟩
              refine V.hto (h' := (tmO E tm ka va lf1 rt1 pa1 co1 vl root1 n md h0)) (by rw [hco1]) ?_
              show V g A κ _ _ 0 0 (tmO E tm ka va lf1 rt1 pa1 co1 vl root1 n md h0) 222 [(2, .ref u), (0, .ref tm), (1, .ref x_)] []
              have q1 := (hI_.2.2.2.1 p hpE).2 x_ hlx_
              have q2 := (hI_.2.2.1 p hpE).2 u hu
              have q4 := hI_.2.1 u huE
              have q5 := hI_.2.1 x_ hx_
              have q6 := hI_.2.1 p hpE
              have nxu : x_ ≠ u := fun e => by subst e; omega
              have hxp1 : pa1 x_ = some p := by rw [← e31]; unfold rpa; rw [if_neg nxp, if_neg nxu, if_neg (fun e => by have h1 := ((hI_.2.2.2.1 u huE).2 x_ e).2.1; rw [hxp_] at h1; exact nup (Option.some.inj h1).symm)]; exact hxp_
              have hlx1 : rt1 p = some x_ := by rw [← e11]; unfold rlf; rw [if_neg (Ne.symm nup), if_neg (fun e => by have h1 := (hI_.2.2.2.2.1 p hpE).2 p e.1; rw [hlx_, hu] at h1; rcases h1.2 with h2 | h2 <;> have h3 := Option.some.inj h2 <;> subst h3 <;> omega)]; exact hlx_
              have rg1 : lo1 x_ = lo_ x_ ∧ hi1 x_ = hi_ x_ := by rw [← e51, ← e61]; unfold va_up; rw [if_neg nxp, if_neg nxu]; exact ⟨rfl, rfl⟩
              have hB1 : ∀ r, root1 = some r → co1 r = true := fun r hr => by
                rw [← hco1]; unfold va_up
                by_cases hpp : pa_ p = none
                · rw [← e41, if_pos hpp] at hr
                  have h1 := Option.some.inj hr
                  subst h1
                  rw [if_neg nup, if_pos rfl]
                · rw [← e41, if_neg hpp] at hr
                  have h1 := hB_ r hr
                  have h2 := (hI_.2.2.2.2.2.2 r hr).2.1
                  have nrp : r ≠ p := fun e => hpp (e ▸ h2)
                  rw [if_neg nrp]
                  by_cases hrn : r = u
                  · rw [if_pos hrn]
                  · rw [if_neg hrn]; exact h1
              have G1 : ∀ p0, z = some p0 → lf1 p0 = none ∧ rt1 p0 = none ∧ lo1 x_ ≤ ix p0 ∧ ix p0 < hi1 x_ := fun p0 hp0 => by
                have g := G_ p0 hp0
                have gg := leaf_rot (fun q hq => Or.symm ((hI_.2.2.2.2.1 p hpE).2 q hq).2) hu g.2.1 g.1 (fun e => by subst e; omega)
                rw [e11, e21] at gg
                exact ⟨gg.2, gg.1, by have := rg1; omega, by have := rg1; omega⟩
              have mz1 : lo1 p ≤ lo1 x_ ∧ hi1 x_ ≤ hi1 p ∧ hi1 p - lo1 p > hi_ x_ - lo_ x_ ∧ lo1 x_ = lo_ x_ ∧ hi1 x_ = hi_ x_ ∧ hi1 p ≤ E.length ∧ lo1 p ≤ hi1 p := by
                have h1 := hI1.2.1 p hpE
                have h2 := hI1.2.1 x_ hx_
                have h3 := (hI1.2.2.2.1 p hpE).2 x_ hlx1
                have h4 := rg1
                omega
              have nt1 : ∀ q, pa1 p = some q → lf1 q = some p ∨ rt1 q = some p := fun q hq => ((hI1.2.2.2.2.1 p hpE).2 q hq).2
              refine V.aload_n cx dJ1_fixAfterDeletion_222 rfl 2 rfl ?_
              refine V.callS (As := [.ref x_]) (rest := []) cx (m_parentOfS l hl g A E tm ka va lf1 rt1 pa1 co1 vl root1 n md h0 x_ hx_) q1054 q1055 (na := 1) rfl (by decide +kernel) (Nat.le_of_ble_eq_true rfl) (by decide) (by decide) (by decide) rfl dJ1_fixAfterDeletion_223 (fun _ _ _ hx => hx.elim) (fun v295 h296 hp => ?_)
              obtain ⟨rfl, rfl⟩ := hp
              show V g A κ _ _ 0 0 (tmO E tm ka va lf1 rt1 pa1 co1 vl root1 n md h0) 226 [(2, .ref u), (0, .ref tm), (1, .ref x_)] [va_rf (pa1 x_)]
              refine V.toq (o' := (some p)) (by rw [hxp1]) ?_
              show V g A κ _ _ 0 0 (tmO E tm ka va lf1 rt1 pa1 co1 vl root1 n md h0) 226 [(2, .ref u), (0, .ref tm), (1, .ref x_)] [.ref p]
              rcases opt_c (lf1 p) with hs1 | ⟨s1, hs1⟩
              · refine V.callS (As := [.ref p]) (rest := []) cx (m_leftOfS l hl g A E tm ka va lf1 rt1 pa1 co1 vl root1 n md h0 p hpE) q1057 q1058 (na := 1) rfl (by decide +kernel) (Nat.le_of_ble_eq_true rfl) (by decide) (by decide) (by decide) rfl dJ1_fixAfterDeletion_226 (fun _ _ _ hx => hx.elim) (fun v297 h298 hp => ?_)
                obtain ⟨rfl, rfl⟩ := hp
                show V g A κ _ _ 0 0 (tmO E tm ka va lf1 rt1 pa1 co1 vl root1 n md h0) 229 [(2, .ref u), (0, .ref tm), (1, .ref x_)] [va_rf (lf1 p)]
                refine V.toq (o' := none) (by rw [hs1]) ?_
                show V g A κ _ _ 0 0 (tmO E tm ka va lf1 rt1 pa1 co1 vl root1 n md h0) 229 [(2, .ref u), (0, .ref tm), (1, .ref x_)] [.null]
                refine V.astore_nN (lv' := [(2, .null), (0, .ref tm), (1, .ref x_)]) cx dJ1_fixAfterDeletion_229 rfl (by decide) rfl ?_
                refine V.aload_nN cx dJ1_fixAfterDeletion_230 rfl 0 rfl ?_
                refine V.callS (As := [.null]) (rest := []) cx (m_rightOfN l hl g A E tm ka va lf1 rt1 pa1 co1 vl root1 n md h0) q1060 q1061 (na := 1) rfl (by decide +kernel) (Nat.le_of_ble_eq_true rfl) (by decide) (by decide) (by decide) rfl dJ1_fixAfterDeletion_231 (fun _ _ _ hx => hx.elim) (fun v299 h300 hp => ?_)
                obtain ⟨rfl, rfl⟩ := hp
                show V g A κ _ _ 0 0 (tmO E tm ka va lf1 rt1 pa1 co1 vl root1 n md h0) 234 [(2, .null), (0, .ref tm), (1, .ref x_)] [.null]
                refine V.callS (As := [.null]) (rest := []) cx (m_colorOfN l hl g A E tm ka va lf1 rt1 pa1 co1 vl root1 n md h0) q1063 q1064 (na := 1) rfl (by decide +kernel) (Nat.le_of_ble_eq_true rfl) (by decide) (by decide) (by decide) rfl dJ1_fixAfterDeletion_234 (fun _ _ _ hx => hx.elim) (fun v301 h302 hp => ?_)
                obtain ⟨rfl, rfl⟩ := hp
                show V g A κ _ _ 0 0 (tmO E tm ka va lf1 rt1 pa1 co1 vl root1 n md h0) 237 [(2, .null), (0, .ref tm), (1, .ref x_)] [.int (b2 true)]
                refine V.iconst (v := (nI 1)) cx dJ1_fixAfterDeletion_237 (by decide) ?_
                refine V.icmp_ne (tgt := 265) cx dJ1_fixAfterDeletion_238 (by decide) (fun cz => ?_) (fun cz => ?_)
                · exact absurd rfl cz
                · refine V.aload_nN cx dJ1_fixAfterDeletion_241 rfl 0 rfl ?_
                  refine V.callS (As := [.null]) (rest := []) cx (m_leftOfN l hl g A E tm ka va lf1 rt1 pa1 co1 vl root1 n md h0) q1057 q1058 (na := 1) rfl (by decide +kernel) (Nat.le_of_ble_eq_true rfl) (by decide) (by decide) (by decide) rfl dJ1_fixAfterDeletion_242 (fun _ _ _ hx => hx.elim) (fun v303 h304 hp => ?_)
                  obtain ⟨rfl, rfl⟩ := hp
                  show V g A κ _ _ 0 0 (tmO E tm ka va lf1 rt1 pa1 co1 vl root1 n md h0) 245 [(2, .null), (0, .ref tm), (1, .ref x_)] [.null]
                  refine V.callS (As := [.null]) (rest := []) cx (m_colorOfN l hl g A E tm ka va lf1 rt1 pa1 co1 vl root1 n md h0) q1063 q1064 (na := 1) rfl (by decide +kernel) (Nat.le_of_ble_eq_true rfl) (by decide) (by decide) (by decide) rfl dJ1_fixAfterDeletion_245 (fun _ _ _ hx => hx.elim) (fun v305 h306 hp => ?_)
                  obtain ⟨rfl, rfl⟩ := hp
                  show V g A κ _ _ 0 0 (tmO E tm ka va lf1 rt1 pa1 co1 vl root1 n md h0) 248 [(2, .null), (0, .ref tm), (1, .ref x_)] [.int (b2 true)]
                  refine V.iconst (v := (nI 1)) cx dJ1_fixAfterDeletion_248 (by decide) ?_
                  refine V.icmp_ne (tgt := 265) cx dJ1_fixAfterDeletion_249 (by decide) (fun cz => ?_) (fun cz => ?_)
                  · exact absurd rfl cz
                  · refine V.aload_nN cx dJ1_fixAfterDeletion_252 rfl 0 rfl ?_
                    refine V.iconst (v := (nI 0)) cx dJ1_fixAfterDeletion_253 (by decide) ?_
                    refine V.toi (y := b2 false) (by decide) ?_
                    refine V.callS (As := [.null, .int (b2 false)]) (rest := []) cx (m_setColorN l hl g A E tm ka va lf1 rt1 pa1 co1 vl root1 n md h0 false) q1066 q1067 (na := 2) rfl (by decide +kernel) (Nat.le_of_ble_eq_true rfl) (by decide) (by decide) (by decide) rfl dJ1_fixAfterDeletion_254 (fun _ _ _ hx => hx.elim) (fun v307 h308 hp => ?_)
                    obtain ⟨rfl, rfl⟩ := hp
                    show V g A κ _ _ 0 0 (tmO E tm ka va lf1 rt1 pa1 co1 vl root1 n md h0) 257 [(2, .null), (0, .ref tm), (1, .ref x_)] []
                    refine V.aload_n cx dJ1_fixAfterDeletion_257 rfl 2 rfl ?_
                    refine V.callS (As := [.ref x_]) (rest := []) cx (m_parentOfS l hl g A E tm ka va lf1 rt1 pa1 co1 vl root1 n md h0 x_ hx_) q1054 q1055 (na := 1) rfl (by decide +kernel) (Nat.le_of_ble_eq_true rfl) (by decide) (by decide) (by decide) rfl dJ1_fixAfterDeletion_258 (fun _ _ _ hx => hx.elim) (fun v309 h310 hp => ?_)
                    obtain ⟨rfl, rfl⟩ := hp
                    show V g A κ _ _ 0 0 (tmO E tm ka va lf1 rt1 pa1 co1 vl root1 n md h0) 261 [(2, .null), (0, .ref tm), (1, .ref x_)] [va_rf (pa1 x_)]
                    refine V.toq (o' := (some p)) (by rw [hxp1]) ?_
                    show V g A κ _ _ 0 0 (tmO E tm ka va lf1 rt1 pa1 co1 vl root1 n md h0) 261 [(2, .null), (0, .ref tm), (1, .ref x_)] [.ref p]
                    refine V.astore_n (lv' := [(1, .ref p), (2, .null), (0, .ref tm)]) cx dJ1_fixAfterDeletion_261 rfl (by decide) rfl ?_
                    refine V.goto (tgt := 342) cx dJ1_fixAfterDeletion_262 (by decide) ?_
                    refine V.goto (tgt := 0) cx dJ1_fixAfterDeletion_342 (by decide) ?_
                    refine V.sub [2, 0] rfl ?_
                    exact ih_ (p, lo1, hi1, lf1, rt1, pa1, co1, root1) (by dsimp only; exact (by have h1 := mz1; clear ih_; omega)) (by dsimp only; exact ⟨hI1, hpE, fun r hr => Or.inl (hB1 r hr), fun p0 hp0 => by have h1 := G1 p0 hp0; have h2 := mz1; exact ⟨h1.1, h1.2.1, by omega, by omega⟩⟩)
              · refine V.callS (As := [.ref p]) (rest := []) cx (m_leftOfS l hl g A E tm ka va lf1 rt1 pa1 co1 vl root1 n md h0 p hpE) q1057 q1058 (na := 1) rfl (by decide +kernel) (Nat.le_of_ble_eq_true rfl) (by decide) (by decide) (by decide) rfl dJ1_fixAfterDeletion_226 (fun _ _ _ hx => hx.elim) (fun v311 h312 hp => ?_)
                obtain ⟨rfl, rfl⟩ := hp
                show V g A κ _ _ 0 0 (tmO E tm ka va lf1 rt1 pa1 co1 vl root1 n md h0) 229 [(2, .ref u), (0, .ref tm), (1, .ref x_)] [va_rf (lf1 p)]
                refine V.toq (o' := (some s1)) (by rw [hs1]) ?_
                show V g A κ _ _ 0 0 (tmO E tm ka va lf1 rt1 pa1 co1 vl root1 n md h0) 229 [(2, .ref u), (0, .ref tm), (1, .ref x_)] [.ref s1]
                refine V.astore_n (lv' := [(2, .ref s1), (0, .ref tm), (1, .ref x_)]) cx dJ1_fixAfterDeletion_229 rfl (by decide) rfl ?_
                have hsE : s1 ∈ E := ((hI1.2.2.1 p hpE).2 s1 hs1).1
                have hsp : pa1 s1 = some p := ((hI1.2.2.1 p hpE).2 s1 hs1).2.1
                have nsp : s1 ≠ p := fun e => by have h1 := (hI1.2.2.1 p hpE).2 s1 hs1; have h2 := hI1.2.1 s1 hsE; rw [e] at h1 h2; omega
                rcases unc (rt1 s1) co1 with ⟨na, hna, hcn⟩ | hcn
                · have hnE : na ∈ E := (fun e he => ((hI1.2.2.2.1 s1 hsE).2 e he).1) na hna
                  rcases unc (lf1 s1) co1 with ⟨nb, hnb, hcf⟩ | hcf
                  · have hfE : nb ∈ E := (fun e he => ((hI1.2.2.1 s1 hsE).2 e he).1) nb hnb
                    refine V.aload_n cx dJ1_fixAfterDeletion_230 rfl 0 rfl ?_
                    refine V.callS (As := [.ref s1]) (rest := []) cx (m_rightOfS l hl g A E tm ka va lf1 rt1 pa1 co1 vl root1 n md h0 s1 hsE) q1060 q1061 (na := 1) rfl (by decide +kernel) (Nat.le_of_ble_eq_true rfl) (by decide) (by decide) (by decide) rfl dJ1_fixAfterDeletion_231 (fun _ _ _ hx => hx.elim) (fun v313 h314 hp => ?_)
                    obtain ⟨rfl, rfl⟩ := hp
                    show V g A κ _ _ 0 0 (tmO E tm ka va lf1 rt1 pa1 co1 vl root1 n md h0) 234 [(2, .ref s1), (0, .ref tm), (1, .ref x_)] [va_rf (rt1 s1)]
                    refine V.toq (o' := (some na)) (by rw [hna]) ?_
                    show V g A κ _ _ 0 0 (tmO E tm ka va lf1 rt1 pa1 co1 vl root1 n md h0) 234 [(2, .ref s1), (0, .ref tm), (1, .ref x_)] [.ref na]
                    refine V.callS (As := [.ref na]) (rest := []) cx (m_colorOfS l hl g A E tm ka va lf1 rt1 pa1 co1 vl root1 n md h0 na hnE) q1063 q1064 (na := 1) rfl (by decide +kernel) (Nat.le_of_ble_eq_true rfl) (by decide) (by decide) (by decide) rfl dJ1_fixAfterDeletion_234 (fun _ _ _ hx => hx.elim) (fun v315 h316 hp => ?_)
                    obtain ⟨rfl, rfl⟩ := hp
                    show V g A κ _ _ 0 0 (tmO E tm ka va lf1 rt1 pa1 co1 vl root1 n md h0) 237 [(2, .ref s1), (0, .ref tm), (1, .ref x_)] [.int (b2 (co1 na))]
                    refine V.tob (b := false) (by rw [hcn]) ?_
                    show V g A κ _ _ 0 0 (tmO E tm ka va lf1 rt1 pa1 co1 vl root1 n md h0) 237 [(2, .ref s1), (0, .ref tm), (1, .ref x_)] [.int (b2 false)]
                    refine V.iconst (v := (nI 1)) cx dJ1_fixAfterDeletion_237 (by decide) ?_
                    refine V.icmp_ne (tgt := 265) cx dJ1_fixAfterDeletion_238 (by decide) (fun cz => ?_) (fun cz => ?_)
                    · refine V.aload_n cx dJ1_fixAfterDeletion_265 rfl 0 rfl ?_
                      refine V.callS (As := [.ref s1]) (rest := []) cx (m_leftOfS l hl g A E tm ka va lf1 rt1 pa1 co1 vl root1 n md h0 s1 hsE) q1057 q1058 (na := 1) rfl (by decide +kernel) (Nat.le_of_ble_eq_true rfl) (by decide) (by decide) (by decide) rfl dJ1_fixAfterDeletion_266 (fun _ _ _ hx => hx.elim) (fun v317 h318 hp => ?_)
                      obtain ⟨rfl, rfl⟩ := hp
                      show V g A κ _ _ 0 0 (tmO E tm ka va lf1 rt1 pa1 co1 vl root1 n md h0) 269 [(2, .ref s1), (0, .ref tm), (1, .ref x_)] [va_rf (lf1 s1)]
                      refine V.toq (o' := (some nb)) (by rw [hnb]) ?_
                      show V g A κ _ _ 0 0 (tmO E tm ka va lf1 rt1 pa1 co1 vl root1 n md h0) 269 [(2, .ref s1), (0, .ref tm), (1, .ref x_)] [.ref nb]
                      refine V.callS (As := [.ref nb]) (rest := []) cx (m_colorOfS l hl g A E tm ka va lf1 rt1 pa1 co1 vl root1 n md h0 nb hfE) q1063 q1064 (na := 1) rfl (by decide +kernel) (Nat.le_of_ble_eq_true rfl) (by decide) (by decide) (by decide) rfl dJ1_fixAfterDeletion_269 (fun _ _ _ hx => hx.elim) (fun v319 h320 hp => ?_)
                      obtain ⟨rfl, rfl⟩ := hp
                      show V g A κ _ _ 0 0 (tmO E tm ka va lf1 rt1 pa1 co1 vl root1 n md h0) 272 [(2, .ref s1), (0, .ref tm), (1, .ref x_)] [.int (b2 (co1 nb))]
                      refine V.tob (b := false) (by rw [hcf]) ?_
                      show V g A κ _ _ 0 0 (tmO E tm ka va lf1 rt1 pa1 co1 vl root1 n md h0) 272 [(2, .ref s1), (0, .ref tm), (1, .ref x_)] [.int (b2 false)]
                      refine V.iconst (v := (nI 1)) cx dJ1_fixAfterDeletion_272 (by decide) ?_
                      refine V.icmp_ne (tgt := 302) cx dJ1_fixAfterDeletion_273 (by decide) (fun cz => ?_) (fun cz => ?_)
                      · refine V.aload_n cx dJ1_fixAfterDeletion_302 rfl 0 rfl ?_
                        refine V.aload_n cx dJ1_fixAfterDeletion_303 rfl 2 rfl ?_
                        refine V.callS (As := [.ref x_]) (rest := [.ref s1]) cx (m_parentOfS l hl g A E tm ka va lf1 rt1 pa1 co1 vl root1 n md h0 x_ hx_) q1054 q1055 (na := 1) rfl (by decide +kernel) (Nat.le_of_ble_eq_true rfl) (by decide) (by decide) (by decide) rfl dJ1_fixAfterDeletion_304 (fun _ _ _ hx => hx.elim) (fun v321 h322 hp => ?_)
                        obtain ⟨rfl, rfl⟩ := hp
                        show V g A κ _ _ 0 0 (tmO E tm ka va lf1 rt1 pa1 co1 vl root1 n md h0) 307 [(2, .ref s1), (0, .ref tm), (1, .ref x_)] [va_rf (pa1 x_), .ref s1]
                        refine V.toq (o' := (some p)) (by rw [hxp1]) ?_
                        show V g A κ _ _ 0 0 (tmO E tm ka va lf1 rt1 pa1 co1 vl root1 n md h0) 307 [(2, .ref s1), (0, .ref tm), (1, .ref x_)] [.ref p, .ref s1]
                        refine V.callS (As := [.ref p]) (rest := [.ref s1]) cx (m_colorOfS l hl g A E tm ka va lf1 rt1 pa1 co1 vl root1 n md h0 p hpE) q1063 q1064 (na := 1) rfl (by decide +kernel) (Nat.le_of_ble_eq_true rfl) (by decide) (by decide) (by decide) rfl dJ1_fixAfterDeletion_307 (fun _ _ _ hx => hx.elim) (fun v323 h324 hp => ?_)
                        obtain ⟨rfl, rfl⟩ := hp
                        show V g A κ _ _ 0 0 (tmO E tm ka va lf1 rt1 pa1 co1 vl root1 n md h0) 310 [(2, .ref s1), (0, .ref tm), (1, .ref x_)] [.int (b2 (co1 p)), .ref s1]
                        show V g A κ _ _ 0 0 (tmO E tm ka va lf1 rt1 pa1 co1 vl root1 n md h0) 310 [(2, .ref s1), (0, .ref tm), (1, .ref x_)] [.int (b2 (co1 p)), .ref s1]
                        refine V.callS (As := [.ref s1, .int (b2 (co1 p))]) (rest := []) cx (m_setColorS l hl g A E tm ka va lf1 rt1 pa1 co1 vl root1 n md h0 s1 hsE (co1 p)) q1066 q1067 (na := 2) rfl (by decide +kernel) (Nat.le_of_ble_eq_true rfl) (by decide) (by decide) (by decide) rfl dJ1_fixAfterDeletion_310 (fun _ _ _ hx => hx.elim) (fun v325 h326 hp => ?_)
                        obtain ⟨rfl, rfl⟩ := hp
                        show V g A κ _ _ 0 0 (tmO E tm ka va lf1 rt1 pa1 (va_up co1 s1 (co1 p)) vl root1 n md h0) 313 [(2, .ref s1), (0, .ref tm), (1, .ref x_)] []
                        refine V.aload_n cx dJ1_fixAfterDeletion_313 rfl 2 rfl ?_
                        refine V.callS (As := [.ref x_]) (rest := []) cx (m_parentOfS l hl g A E tm ka va lf1 rt1 pa1 (va_up co1 s1 (co1 p)) vl root1 n md h0 x_ hx_) q1054 q1055 (na := 1) rfl (by decide +kernel) (Nat.le_of_ble_eq_true rfl) (by decide) (by decide) (by decide) rfl dJ1_fixAfterDeletion_314 (fun _ _ _ hx => hx.elim) (fun v327 h328 hp => ?_)
                        obtain ⟨rfl, rfl⟩ := hp
                        show V g A κ _ _ 0 0 (tmO E tm ka va lf1 rt1 pa1 (va_up co1 s1 (co1 p)) vl root1 n md h0) 317 [(2, .ref s1), (0, .ref tm), (1, .ref x_)] [va_rf (pa1 x_)]
                        refine V.toq (o' := (some p)) (by rw [hxp1]) ?_
                        show V g A κ _ _ 0 0 (tmO E tm ka va lf1 rt1 pa1 (va_up co1 s1 (co1 p)) vl root1 n md h0) 317 [(2, .ref s1), (0, .ref tm), (1, .ref x_)] [.ref p]
                        refine V.iconst (v := (nI 1)) cx dJ1_fixAfterDeletion_317 (by decide) ?_
                        refine V.toi (y := b2 true) (by decide) ?_
                        refine V.callS (As := [.ref p, .int (b2 true)]) (rest := []) cx (m_setColorS l hl g A E tm ka va lf1 rt1 pa1 (va_up co1 s1 (co1 p)) vl root1 n md h0 p hpE true) q1066 q1067 (na := 2) rfl (by decide +kernel) (Nat.le_of_ble_eq_true rfl) (by decide) (by decide) (by decide) rfl dJ1_fixAfterDeletion_318 (fun _ _ _ hx => hx.elim) (fun v329 h330 hp => ?_)
                        obtain ⟨rfl, rfl⟩ := hp
                        show V g A κ _ _ 0 0 (tmO E tm ka va lf1 rt1 pa1 (va_up (va_up co1 s1 (co1 p)) p true) vl root1 n md h0) 321 [(2, .ref s1), (0, .ref tm), (1, .ref x_)] []
                        refine V.aload_n cx dJ1_fixAfterDeletion_321 rfl 0 rfl ?_
                        refine V.callS (As := [.ref s1]) (rest := []) cx (m_leftOfS l hl g A E tm ka va lf1 rt1 pa1 (va_up (va_up co1 s1 (co1 p)) p true) vl root1 n md h0 s1 hsE) q1057 q1058 (na := 1) rfl (by decide +kernel) (Nat.le_of_ble_eq_true rfl) (by decide) (by decide) (by decide) rfl dJ1_fixAfterDeletion_322 (fun _ _ _ hx => hx.elim) (fun v331 h332 hp => ?_)
                        obtain ⟨rfl, rfl⟩ := hp
                        show V g A κ _ _ 0 0 (tmO E tm ka va lf1 rt1 pa1 (va_up (va_up co1 s1 (co1 p)) p true) vl root1 n md h0) 325 [(2, .ref s1), (0, .ref tm), (1, .ref x_)] [va_rf (lf1 s1)]
                        refine V.toq (o' := (some nb)) (by rw [hnb]) ?_
                        show V g A κ _ _ 0 0 (tmO E tm ka va lf1 rt1 pa1 (va_up (va_up co1 s1 (co1 p)) p true) vl root1 n md h0) 325 [(2, .ref s1), (0, .ref tm), (1, .ref x_)] [.ref nb]
                        refine V.iconst (v := (nI 1)) cx dJ1_fixAfterDeletion_325 (by decide) ?_
                        refine V.toi (y := b2 true) (by decide) ?_
                        refine V.callS (As := [.ref nb, .int (b2 true)]) (rest := []) cx (m_setColorS l hl g A E tm ka va lf1 rt1 pa1 (va_up (va_up co1 s1 (co1 p)) p true) vl root1 n md h0 nb hfE true) q1066 q1067 (na := 2) rfl (by decide +kernel) (Nat.le_of_ble_eq_true rfl) (by decide) (by decide) (by decide) rfl dJ1_fixAfterDeletion_326 (fun _ _ _ hx => hx.elim) (fun v333 h334 hp => ?_)
                        obtain ⟨rfl, rfl⟩ := hp
                        show V g A κ _ _ 0 0 (tmO E tm ka va lf1 rt1 pa1 (va_up (va_up (va_up co1 s1 (co1 p)) p true) nb true) vl root1 n md h0) 329 [(2, .ref s1), (0, .ref tm), (1, .ref x_)] []
                        refine V.aload_n cx dJ1_fixAfterDeletion_329 rfl 1 rfl ?_
                        refine V.aload_n cx dJ1_fixAfterDeletion_330 rfl 2 rfl ?_
                        refine V.callS (As := [.ref x_]) (rest := [.ref tm]) cx (m_parentOfS l hl g A E tm ka va lf1 rt1 pa1 (va_up (va_up (va_up co1 s1 (co1 p)) p true) nb true) vl root1 n md h0 x_ hx_) q1054 q1055 (na := 1) rfl (by decide +kernel) (Nat.le_of_ble_eq_true rfl) (by decide) (by decide) (by decide) rfl dJ1_fixAfterDeletion_331 (fun _ _ _ hx => hx.elim) (fun v335 h336 hp => ?_)
                        obtain ⟨rfl, rfl⟩ := hp
                        show V g A κ _ _ 0 0 (tmO E tm ka va lf1 rt1 pa1 (va_up (va_up (va_up co1 s1 (co1 p)) p true) nb true) vl root1 n md h0) 334 [(2, .ref s1), (0, .ref tm), (1, .ref x_)] [va_rf (pa1 x_), .ref tm]
                        refine V.toq (o' := (some p)) (by rw [hxp1]) ?_
                        show V g A κ _ _ 0 0 (tmO E tm ka va lf1 rt1 pa1 (va_up (va_up (va_up co1 s1 (co1 p)) p true) nb true) vl root1 n md h0) 334 [(2, .ref s1), (0, .ref tm), (1, .ref x_)] [.ref p, .ref tm]
                        refine V.callV (As := [.ref p]) (rest := []) (C := "java/util/TreeMap") cx (m_rotR l hl g A E tm ka va lf1 rt1 pa1 (va_up (va_up (va_up co1 s1 (co1 p)) p true) nb true) vl root1 n md h0 ix lo1 hi1 hI1 ht p s1 hpE hs1) rfl q1073 q1075 qs10 (Rv.of kJ1 (tm_t ht)) (na := 1) rfl (by decide +kernel) (Nat.le_of_ble_eq_true rfl) (by decide) (by decide) (by decide) rfl dJ1_fixAfterDeletion_334 (fun _ _ _ hx => hx.elim) (fun v337 h338 hp => ?_)
                        obtain ⟨rfl, rfl⟩ := hp
                        show V g A κ _ _ 0 0 (tmO E tm ka va (rrt rt1 lf1 pa1 p s1) (rlf rt1 pa1 p s1) (rpa rt1 pa1 p s1) (va_up (va_up (va_up co1 s1 (co1 p)) p true) nb true) vl (if pa1 p = none then some s1 else root1) n md h0) 337 [(2, .ref s1), (0, .ref tm), (1, .ref x_)] []
                        obtain ⟨rt4, lf4, pa4, root4, lo4, hi4, hI4, e14, e24, e34, e44, e54, e64⟩ : ∃ (rt4 lf4 pa4 : Nat → Option Nat) (root4 : Option Nat) (lo4 hi4 : Nat → Nat), Inv E ix lo4 hi4 lf4 rt4 pa4 root4 ∧ (rlf rt1 pa1 p s1) = rt4 ∧ (rrt rt1 lf1 pa1 p s1) = lf4 ∧ (rpa rt1 pa1 p s1) = pa4 ∧ (if pa1 p = none then some s1 else root1) = root4 ∧ (va_up lo1 p (ix s1 + 1)) = lo4 ∧ (va_up hi1 s1 (hi1 p)) = hi4 := ⟨_, _, _, _, _, _, Inv.rotR hI1 hpE hs1, rfl, rfl, rfl, rfl, rfl, rfl⟩
                        refine V.hto (h' := (tmO E tm ka va lf4 rt4 pa4 (va_up (va_up (va_up co1 s1 (co1 p)) p true) nb true) vl root4 n md h0)) (by rw [e14, e24, e34, e44]) ?_
                        show V g A κ _ _ 0 0 (tmO E tm ka va lf4 rt4 pa4 (va_up (va_up (va_up co1 s1 (co1 p)) p true) nb true) vl root4 n md h0) 337 [(2, .ref s1), (0, .ref tm), (1, .ref x_)] []
                        rcases opt_c root4 with hr4 | ⟨rr, hr4⟩
                        · exact absurd (Inv.root_some hI4 hx_) (fun e => absurd (hr4.symm.trans e.choose_spec) (by intro e; cases e))
                        · refine V.aload_n cx dJ1_fixAfterDeletion_337 rfl 1 rfl ?_
                          refine V.get cx kJ1 (tm_t ht) 3 (by decide) q158 rfl rfl dJ1_fixAfterDeletion_338 ?_
                          refine V.toq (o' := (some rr)) (by rw [hr4]) ?_
                          show V g A κ _ _ 0 0 (tmO E tm ka va lf4 rt4 pa4 (va_up (va_up (va_up co1 s1 (co1 p)) p true) nb true) vl root4 n md h0) 341 [(2, .ref s1), (0, .ref tm), (1, .ref x_)] [.ref rr]
                          refine V.astore_n (lv' := [(1, .ref rr), (2, .ref s1), (0, .ref tm)]) cx dJ1_fixAfterDeletion_341 rfl (by decide) rfl ?_
                          refine V.goto (tgt := 0) cx dJ1_fixAfterDeletion_342 (by decide) ?_
                          have k4 := hI4.2.2.2.2.2.2 rr hr4
                          refine V.sub [2, 0] rfl ?_
                          exact ih_ (rr, lo4, hi4, lf4, rt4, pa4, (va_up (va_up (va_up co1 s1 (co1 p)) p true) nb true), root4) (by dsimp only; exact (by have h1 := mz1; rw [k4.2.2.1, k4.2.2.2]; omega)) (by dsimp only; exact ⟨hI4, k4.1, fun r hr => Or.inr (Option.some.inj (hr4.symm.trans hr)), fun p0 hp0 => by have h1 := G1 p0 hp0; have h2 := hI4.2.1 p0 (hzE p0 hp0); have g := leaf_rot (fun q hq => (nt1 q hq).symm) hs1 h1.2.1 h1.1 (fun e => by have h3 := h1.1; rw [e, hnb] at h3; cases h3); rw [e14, e24] at g; exact ⟨g.2, g.1, by omega, by omega⟩⟩)
                      · exact absurd cz (by decide)
                    · exact absurd cz (by decide)
                  · refine V.aload_n cx dJ1_fixAfterDeletion_230 rfl 0 rfl ?_
                    refine V.callS (As := [.ref s1]) (rest := []) cx (m_rightOfS l hl g A E tm ka va lf1 rt1 pa1 co1 vl root1 n md h0 s1 hsE) q1060 q1061 (na := 1) rfl (by decide +kernel) (Nat.le_of_ble_eq_true rfl) (by decide) (by decide) (by decide) rfl dJ1_fixAfterDeletion_231 (fun _ _ _ hx => hx.elim) (fun v339 h340 hp => ?_)
                    obtain ⟨rfl, rfl⟩ := hp
                    show V g A κ _ _ 0 0 (tmO E tm ka va lf1 rt1 pa1 co1 vl root1 n md h0) 234 [(2, .ref s1), (0, .ref tm), (1, .ref x_)] [va_rf (rt1 s1)]
                    refine V.toq (o' := (some na)) (by rw [hna]) ?_
                    show V g A κ _ _ 0 0 (tmO E tm ka va lf1 rt1 pa1 co1 vl root1 n md h0) 234 [(2, .ref s1), (0, .ref tm), (1, .ref x_)] [.ref na]
                    refine V.callS (As := [.ref na]) (rest := []) cx (m_colorOfS l hl g A E tm ka va lf1 rt1 pa1 co1 vl root1 n md h0 na hnE) q1063 q1064 (na := 1) rfl (by decide +kernel) (Nat.le_of_ble_eq_true rfl) (by decide) (by decide) (by decide) rfl dJ1_fixAfterDeletion_234 (fun _ _ _ hx => hx.elim) (fun v341 h342 hp => ?_)
                    obtain ⟨rfl, rfl⟩ := hp
                    show V g A κ _ _ 0 0 (tmO E tm ka va lf1 rt1 pa1 co1 vl root1 n md h0) 237 [(2, .ref s1), (0, .ref tm), (1, .ref x_)] [.int (b2 (co1 na))]
                    refine V.tob (b := false) (by rw [hcn]) ?_
                    show V g A κ _ _ 0 0 (tmO E tm ka va lf1 rt1 pa1 co1 vl root1 n md h0) 237 [(2, .ref s1), (0, .ref tm), (1, .ref x_)] [.int (b2 false)]
                    refine V.iconst (v := (nI 1)) cx dJ1_fixAfterDeletion_237 (by decide) ?_
                    refine V.icmp_ne (tgt := 265) cx dJ1_fixAfterDeletion_238 (by decide) (fun cz => ?_) (fun cz => ?_)
                    · refine V.aload_n cx dJ1_fixAfterDeletion_265 rfl 0 rfl ?_
                      refine V.callS (As := [.ref s1]) (rest := []) cx (m_leftOfS l hl g A E tm ka va lf1 rt1 pa1 co1 vl root1 n md h0 s1 hsE) q1057 q1058 (na := 1) rfl (by decide +kernel) (Nat.le_of_ble_eq_true rfl) (by decide) (by decide) (by decide) rfl dJ1_fixAfterDeletion_266 (fun _ _ _ hx => hx.elim) (fun v343 h344 hp => ?_)
                      obtain ⟨rfl, rfl⟩ := hp
                      show V g A κ _ _ 0 0 (tmO E tm ka va lf1 rt1 pa1 co1 vl root1 n md h0) 269 [(2, .ref s1), (0, .ref tm), (1, .ref x_)] [va_rf (lf1 s1)]
                      show V g A κ _ _ 0 0 (tmO E tm ka va lf1 rt1 pa1 co1 vl root1 n md h0) 269 [(2, .ref s1), (0, .ref tm), (1, .ref x_)] [va_rf (lf1 s1)]
                      refine V.callS (As := [va_rf (lf1 s1)]) (rest := []) cx (m_colorOf l hl g A E tm ka va lf1 rt1 pa1 co1 vl root1 n md h0 (lf1 s1) (fun e he => ((hI1.2.2.1 s1 hsE).2 e he).1)) q1063 q1064 (na := 1) rfl (by decide +kernel) (Nat.le_of_ble_eq_true rfl) (by decide) (by decide) (by decide) rfl dJ1_fixAfterDeletion_269 (fun _ _ _ hx => hx.elim) (fun v345 h346 hp => ?_)
                      obtain ⟨rfl, rfl⟩ := hp
                      show V g A κ _ _ 0 0 (tmO E tm ka va lf1 rt1 pa1 co1 vl root1 n md h0) 272 [(2, .ref s1), (0, .ref tm), (1, .ref x_)] [.int (b2 (Option.elim (lf1 s1) true co1))]
                      refine V.tob (b := true) hcf ?_
                      refine V.iconst (v := (nI 1)) cx dJ1_fixAfterDeletion_272 (by decide) ?_
                      refine V.icmp_ne (tgt := 302) cx dJ1_fixAfterDeletion_273 (by decide) (fun cz => ?_) (fun cz => ?_)
                      · exact absurd rfl cz
                      · have nns : na ≠ s1 := fun e => by have h1 := (hI1.2.2.2.1 s1 hsE).2 na hna; have h2 := hI1.2.1 na hnE; rw [e] at h1 h2; omega
                        refine V.aload_n cx dJ1_fixAfterDeletion_276 rfl 0 rfl ?_
                        refine V.callS (As := [.ref s1]) (rest := []) cx (m_rightOfS l hl g A E tm ka va lf1 rt1 pa1 co1 vl root1 n md h0 s1 hsE) q1060 q1061 (na := 1) rfl (by decide +kernel) (Nat.le_of_ble_eq_true rfl) (by decide) (by decide) (by decide) rfl dJ1_fixAfterDeletion_277 (fun _ _ _ hx => hx.elim) (fun v347 h348 hp => ?_)
                        obtain ⟨rfl, rfl⟩ := hp
                        show V g A κ _ _ 0 0 (tmO E tm ka va lf1 rt1 pa1 co1 vl root1 n md h0) 280 [(2, .ref s1), (0, .ref tm), (1, .ref x_)] [va_rf (rt1 s1)]
                        refine V.toq (o' := (some na)) (by rw [hna]) ?_
                        show V g A κ _ _ 0 0 (tmO E tm ka va lf1 rt1 pa1 co1 vl root1 n md h0) 280 [(2, .ref s1), (0, .ref tm), (1, .ref x_)] [.ref na]
                        refine V.iconst (v := (nI 1)) cx dJ1_fixAfterDeletion_280 (by decide) ?_
                        refine V.toi (y := b2 true) (by decide) ?_
                        refine V.callS (As := [.ref na, .int (b2 true)]) (rest := []) cx (m_setColorS l hl g A E tm ka va lf1 rt1 pa1 co1 vl root1 n md h0 na hnE true) q1066 q1067 (na := 2) rfl (by decide +kernel) (Nat.le_of_ble_eq_true rfl) (by decide) (by decide) (by decide) rfl dJ1_fixAfterDeletion_281 (fun _ _ _ hx => hx.elim) (fun v349 h350 hp => ?_)
                        obtain ⟨rfl, rfl⟩ := hp
                        show V g A κ _ _ 0 0 (tmO E tm ka va lf1 rt1 pa1 (va_up co1 na true) vl root1 n md h0) 284 [(2, .ref s1), (0, .ref tm), (1, .ref x_)] []
                        refine V.aload_n cx dJ1_fixAfterDeletion_284 rfl 0 rfl ?_
                        refine V.iconst (v := (nI 0)) cx dJ1_fixAfterDeletion_285 (by decide) ?_
                        refine V.toi (y := b2 false) (by decide) ?_
                        refine V.callS (As := [.ref s1, .int (b2 false)]) (rest := []) cx (m_setColorS l hl g A E tm ka va lf1 rt1 pa1 (va_up co1 na true) vl root1 n md h0 s1 hsE false) q1066 q1067 (na := 2) rfl (by decide +kernel) (Nat.le_of_ble_eq_true rfl) (by decide) (by decide) (by decide) rfl dJ1_fixAfterDeletion_286 (fun _ _ _ hx => hx.elim) (fun v351 h352 hp => ?_)
                        obtain ⟨rfl, rfl⟩ := hp
                        show V g A κ _ _ 0 0 (tmO E tm ka va lf1 rt1 pa1 (va_up (va_up co1 na true) s1 false) vl root1 n md h0) 289 [(2, .ref s1), (0, .ref tm), (1, .ref x_)] []
                        refine V.aload_n cx dJ1_fixAfterDeletion_289 rfl 1 rfl ?_
                        refine V.aload_n cx dJ1_fixAfterDeletion_290 rfl 0 rfl ?_
                        refine V.callV (As := [.ref s1]) (rest := []) (C := "java/util/TreeMap") cx (m_rotL l hl g A E tm ka va lf1 rt1 pa1 (va_up (va_up co1 na true) s1 false) vl root1 n md h0 ix lo1 hi1 hI1 ht s1 na hsE hna) rfl q1069 q1071 qs9 (Rv.of kJ1 (tm_t ht)) (na := 1) rfl (by decide +kernel) (Nat.le_of_ble_eq_true rfl) (by decide) (by decide) (by decide) rfl dJ1_fixAfterDeletion_291 (fun _ _ _ hx => hx.elim) (fun v353 h354 hp => ?_)
                        obtain ⟨rfl, rfl⟩ := hp
                        show V g A κ _ _ 0 0 (tmO E tm ka va (rlf lf1 pa1 s1 na) (rrt lf1 rt1 pa1 s1 na) (rpa lf1 pa1 s1 na) (va_up (va_up co1 na true) s1 false) vl (if pa1 s1 = none then some na else root1) n md h0) 294 [(2, .ref s1), (0, .ref tm), (1, .ref x_)] []
                        obtain ⟨lf3, rt3, pa3, root3, lo3, hi3, hI3, e13, e23, e33, e43, e53, e63⟩ : ∃ (lf3 rt3 pa3 : Nat → Option Nat) (root3 : Option Nat) (lo3 hi3 : Nat → Nat), Inv E ix lo3 hi3 lf3 rt3 pa3 root3 ∧ (rlf lf1 pa1 s1 na) = lf3 ∧ (rrt lf1 rt1 pa1 s1 na) = rt3 ∧ (rpa lf1 pa1 s1 na) = pa3 ∧ (if pa1 s1 = none then some na else root1) = root3 ∧ (va_up lo1 na (lo1 s1)) = lo3 ∧ (va_up hi1 s1 (ix na)) = hi3 := ⟨_, _, _, _, _, _, Inv.rotL hI1 hsE hna, rfl, rfl, rfl, rfl, rfl, rfl⟩
                        refine V.hto (h' := (tmO E tm ka va lf3 rt3 pa3 (va_up (va_up co1 na true) s1 false) vl root3 n md h0)) (by rw [e13, e23, e33, e43]) ?_
                        show V g A κ _ _ 0 0 (tmO E tm ka va lf3 rt3 pa3 (va_up (va_up co1 na true) s1 false) vl root3 n md h0) 294 [(2, .ref s1), (0, .ref tm), (1, .ref x_)] []
                        obtain ⟨co3, hco3⟩ : ∃ z : Nat → Bool, (va_up (va_up co1 na true) s1 false) = z := ⟨_, rfl⟩
                        refine V.hto (h' := (tmO E tm ka va lf3 rt3 pa3 co3 vl root3 n md h0)) (by rw [hco3]) ?_
                        show V g A κ _ _ 0 0 (tmO E tm ka va lf3 rt3 pa3 co3 vl root3 n md h0) 294 [(2, .ref s1), (0, .ref tm), (1, .ref x_)] []
                        have q1 := (hI1.2.2.2.1 p hpE).2 x_ hlx1
                        have q2 := (hI1.2.2.1 p hpE).2 s1 hs1
                        have q3 := (hI1.2.2.2.1 s1 hsE).2 na hna
                        have q4 := hI1.2.1 na hnE
                        have q5 := hI1.2.1 x_ hx_
                        have q6 := hI1.2.1 p hpE
                        have q7 := hI1.2.1 s1 hsE
                        have nnp : na ≠ p := fun e => by subst e; omega
                        have nxn : x_ ≠ na := fun e => by subst e; omega
                        have nxs : x_ ≠ s1 := fun e => by subst e; omega
                        have hxp3 : pa3 x_ = some p := by rw [← e33]; unfold rpa; rw [if_neg nxs, if_neg nxn, if_neg (fun e => by have h1 := ((hI1.2.2.1 na hnE).2 x_ e).2.1; rw [hxp1] at h1; exact nnp (Option.some.inj h1).symm)]; exact hxp1
                        have hs3 : lf3 p = some na := by rw [← e13]; unfold rlf; rw [if_neg (Ne.symm nnp), if_pos ⟨hsp, hs1⟩]
                        have hf3 : lf3 na = some s1 := by rw [← e13]; unfold rlf; rw [if_pos rfl]
                        have hlx3 : rt3 p = some x_ := by rw [← e23]; unfold rrt; rw [if_neg (Ne.symm nsp), if_neg (fun e => e.2 hs1)]; exact hlx1
                        have rg3 : lo3 x_ = lo_ x_ ∧ hi3 x_ = hi_ x_ := by rw [← e53, ← e63]; unfold va_up; rw [if_neg nxn, if_neg nxs]; exact rg1
                        have hB3 : ∀ r, root3 = some r → co3 r = true := fun r hr => by
                          rw [← e43, hsp, if_neg (by simp)] at hr
                          have h1 := hB1 r hr
                          have h2 := (hI1.2.2.2.2.2.2 r hr).2.1
                          rw [← hco3]; unfold va_up
                          rw [if_neg (fun e => by rw [e, hsp] at h2; cases h2)]
                          by_cases hrn : r = na
                          · rw [if_pos hrn]
                          · rw [if_neg hrn]; exact h1
                        have G3 : ∀ p0, z = some p0 → lf3 p0 = none ∧ rt3 p0 = none ∧ lo3 x_ ≤ ix p0 ∧ ix p0 < hi3 x_ := fun p0 hp0 => by
                          have g := G1 p0 hp0
                          have gg := leaf_rot (fun q hq => id ((hI1.2.2.2.2.1 s1 hsE).2 q hq).2) hna g.1 g.2.1 (fun e => by subst e; have := rg1; omega)
                          rw [e13, e23] at gg
                          exact ⟨gg.1, gg.2, by have := rg3; have := rg1; omega, by have := rg3; have := rg1; omega⟩
                        refine V.aload_n cx dJ1_fixAfterDeletion_294 rfl 2 rfl ?_
                        refine V.callS (As := [.ref x_]) (rest := []) cx (m_parentOfS l hl g A E tm ka va lf3 rt3 pa3 co3 vl root3 n md h0 x_ hx_) q1054 q1055 (na := 1) rfl (by decide +kernel) (Nat.le_of_ble_eq_true rfl) (by decide) (by decide) (by decide) rfl dJ1_fixAfterDeletion_295 (fun _ _ _ hx => hx.elim) (fun v355 h356 hp => ?_)
                        obtain ⟨rfl, rfl⟩ := hp
                        show V g A κ _ _ 0 0 (tmO E tm ka va lf3 rt3 pa3 co3 vl root3 n md h0) 298 [(2, .ref s1), (0, .ref tm), (1, .ref x_)] [va_rf (pa3 x_)]
                        refine V.toq (o' := (some p)) (by rw [hxp3]) ?_
                        show V g A κ _ _ 0 0 (tmO E tm ka va lf3 rt3 pa3 co3 vl root3 n md h0) 298 [(2, .ref s1), (0, .ref tm), (1, .ref x_)] [.ref p]
                        refine V.callS (As := [.ref p]) (rest := []) cx (m_leftOfS l hl g A E tm ka va lf3 rt3 pa3 co3 vl root3 n md h0 p hpE) q1057 q1058 (na := 1) rfl (by decide +kernel) (Nat.le_of_ble_eq_true rfl) (by decide) (by decide) (by decide) rfl dJ1_fixAfterDeletion_298 (fun _ _ _ hx => hx.elim) (fun v357 h358 hp => ?_)
                        obtain ⟨rfl, rfl⟩ := hp
                        show V g A κ _ _ 0 0 (tmO E tm ka va lf3 rt3 pa3 co3 vl root3 n md h0) 301 [(2, .ref s1), (0, .ref tm), (1, .ref x_)] [va_rf (lf3 p)]
                        refine V.toq (o' := (some na)) (by rw [hs3]) ?_
                        show V g A κ _ _ 0 0 (tmO E tm ka va lf3 rt3 pa3 co3 vl root3 n md h0) 301 [(2, .ref s1), (0, .ref tm), (1, .ref x_)] [.ref na]
                        refine V.astore_n (lv' := [(2, .ref na), (0, .ref tm), (1, .ref x_)]) cx dJ1_fixAfterDeletion_301 rfl (by decide) rfl ?_
                        refine V.aload_n cx dJ1_fixAfterDeletion_302 rfl 0 rfl ?_
                        refine V.aload_n cx dJ1_fixAfterDeletion_303 rfl 2 rfl ?_
                        have mz3 : lo3 p ≤ lo3 x_ ∧ hi3 x_ ≤ hi3 p ∧ hi3 p - lo3 p > hi_ x_ - lo_ x_ ∧ lo3 x_ = lo_ x_ ∧ hi3 x_ = hi_ x_ ∧ hi3 p ≤ E.length ∧ lo3 p ≤ hi3 p := by
                          have h1 := hI3.2.1 p hpE
                          have h2 := hI3.2.1 x_ hx_
                          have h3 := (hI3.2.2.2.1 p hpE).2 x_ hlx3
                          have h4 := rg3
                          omega
                        have nt3 : ∀ q, pa3 p = some q → lf3 q = some p ∨ rt3 q = some p := fun q hq => ((hI3.2.2.2.2.1 p hpE).2 q hq).2
                        refine V.callS (As := [.ref x_]) (rest := [.ref na]) cx (m_parentOfS l hl g A E tm ka va lf3 rt3 pa3 co3 vl root3 n md h0 x_ hx_) q1054 q1055 (na := 1) rfl (by decide +kernel) (Nat.le_of_ble_eq_true rfl) (by decide) (by decide) (by decide) rfl dJ1_fixAfterDeletion_304 (fun _ _ _ hx => hx.elim) (fun v359 h360 hp => ?_)
                        obtain ⟨rfl, rfl⟩ := hp
                        show V g A κ _ _ 0 0 (tmO E tm ka va lf3 rt3 pa3 co3 vl root3 n md h0) 307 [(2, .ref na), (0, .ref tm), (1, .ref x_)] [va_rf (pa3 x_), .ref na]
                        refine V.toq (o' := (some p)) (by rw [hxp3]) ?_
                        show V g A κ _ _ 0 0 (tmO E tm ka va lf3 rt3 pa3 co3 vl root3 n md h0) 307 [(2, .ref na), (0, .ref tm), (1, .ref x_)] [.ref p, .ref na]
                        refine V.callS (As := [.ref p]) (rest := [.ref na]) cx (m_colorOfS l hl g A E tm ka va lf3 rt3 pa3 co3 vl root3 n md h0 p hpE) q1063 q1064 (na := 1) rfl (by decide +kernel) (Nat.le_of_ble_eq_true rfl) (by decide) (by decide) (by decide) rfl dJ1_fixAfterDeletion_307 (fun _ _ _ hx => hx.elim) (fun v361 h362 hp => ?_)
                        obtain ⟨rfl, rfl⟩ := hp
                        show V g A κ _ _ 0 0 (tmO E tm ka va lf3 rt3 pa3 co3 vl root3 n md h0) 310 [(2, .ref na), (0, .ref tm), (1, .ref x_)] [.int (b2 (co3 p)), .ref na]
                        show V g A κ _ _ 0 0 (tmO E tm ka va lf3 rt3 pa3 co3 vl root3 n md h0) 310 [(2, .ref na), (0, .ref tm), (1, .ref x_)] [.int (b2 (co3 p)), .ref na]
                        refine V.callS (As := [.ref na, .int (b2 (co3 p))]) (rest := []) cx (m_setColorS l hl g A E tm ka va lf3 rt3 pa3 co3 vl root3 n md h0 na hnE (co3 p)) q1066 q1067 (na := 2) rfl (by decide +kernel) (Nat.le_of_ble_eq_true rfl) (by decide) (by decide) (by decide) rfl dJ1_fixAfterDeletion_310 (fun _ _ _ hx => hx.elim) (fun v363 h364 hp => ?_)
                        obtain ⟨rfl, rfl⟩ := hp
                        show V g A κ _ _ 0 0 (tmO E tm ka va lf3 rt3 pa3 (va_up co3 na (co3 p)) vl root3 n md h0) 313 [(2, .ref na), (0, .ref tm), (1, .ref x_)] []
                        refine V.aload_n cx dJ1_fixAfterDeletion_313 rfl 2 rfl ?_
                        refine V.callS (As := [.ref x_]) (rest := []) cx (m_parentOfS l hl g A E tm ka va lf3 rt3 pa3 (va_up co3 na (co3 p)) vl root3 n md h0 x_ hx_) q1054 q1055 (na := 1) rfl (by decide +kernel) (Nat.le_of_ble_eq_true rfl) (by decide) (by decide) (by decide) rfl dJ1_fixAfterDeletion_314 (fun _ _ _ hx => hx.elim) (fun v365 h366 hp => ?_)
                        obtain ⟨rfl, rfl⟩ := hp
                        show V g A κ _ _ 0 0 (tmO E tm ka va lf3 rt3 pa3 (va_up co3 na (co3 p)) vl root3 n md h0) 317 [(2, .ref na), (0, .ref tm), (1, .ref x_)] [va_rf (pa3 x_)]
                        refine V.toq (o' := (some p)) (by rw [hxp3]) ?_
                        show V g A κ _ _ 0 0 (tmO E tm ka va lf3 rt3 pa3 (va_up co3 na (co3 p)) vl root3 n md h0) 317 [(2, .ref na), (0, .ref tm), (1, .ref x_)] [.ref p]
                        refine V.iconst (v := (nI 1)) cx dJ1_fixAfterDeletion_317 (by decide) ?_
                        refine V.toi (y := b2 true) (by decide) ?_
                        refine V.callS (As := [.ref p, .int (b2 true)]) (rest := []) cx (m_setColorS l hl g A E tm ka va lf3 rt3 pa3 (va_up co3 na (co3 p)) vl root3 n md h0 p hpE true) q1066 q1067 (na := 2) rfl (by decide +kernel) (Nat.le_of_ble_eq_true rfl) (by decide) (by decide) (by decide) rfl dJ1_fixAfterDeletion_318 (fun _ _ _ hx => hx.elim) (fun v367 h368 hp => ?_)
                        obtain ⟨rfl, rfl⟩ := hp
                        show V g A κ _ _ 0 0 (tmO E tm ka va lf3 rt3 pa3 (va_up (va_up co3 na (co3 p)) p true) vl root3 n md h0) 321 [(2, .ref na), (0, .ref tm), (1, .ref x_)] []
                        refine V.aload_n cx dJ1_fixAfterDeletion_321 rfl 0 rfl ?_
                        refine V.callS (As := [.ref na]) (rest := []) cx (m_leftOfS l hl g A E tm ka va lf3 rt3 pa3 (va_up (va_up co3 na (co3 p)) p true) vl root3 n md h0 na hnE) q1057 q1058 (na := 1) rfl (by decide +kernel) (Nat.le_of_ble_eq_true rfl) (by decide) (by decide) (by decide) rfl dJ1_fixAfterDeletion_322 (fun _ _ _ hx => hx.elim) (fun v369 h370 hp => ?_)
                        obtain ⟨rfl, rfl⟩ := hp
                        show V g A κ _ _ 0 0 (tmO E tm ka va lf3 rt3 pa3 (va_up (va_up co3 na (co3 p)) p true) vl root3 n md h0) 325 [(2, .ref na), (0, .ref tm), (1, .ref x_)] [va_rf (lf3 na)]
                        refine V.toq (o' := (some s1)) (by rw [hf3]) ?_
                        show V g A κ _ _ 0 0 (tmO E tm ka va lf3 rt3 pa3 (va_up (va_up co3 na (co3 p)) p true) vl root3 n md h0) 325 [(2, .ref na), (0, .ref tm), (1, .ref x_)] [.ref s1]
                        refine V.iconst (v := (nI 1)) cx dJ1_fixAfterDeletion_325 (by decide) ?_
                        refine V.toi (y := b2 true) (by decide) ?_
                        refine V.callS (As := [.ref s1, .int (b2 true)]) (rest := []) cx (m_setColorS l hl g A E tm ka va lf3 rt3 pa3 (va_up (va_up co3 na (co3 p)) p true) vl root3 n md h0 s1 hsE true) q1066 q1067 (na := 2) rfl (by decide +kernel) (Nat.le_of_ble_eq_true rfl) (by decide) (by decide) (by decide) rfl dJ1_fixAfterDeletion_326 (fun _ _ _ hx => hx.elim) (fun v371 h372 hp => ?_)
                        obtain ⟨rfl, rfl⟩ := hp
                        show V g A κ _ _ 0 0 (tmO E tm ka va lf3 rt3 pa3 (va_up (va_up (va_up co3 na (co3 p)) p true) s1 true) vl root3 n md h0) 329 [(2, .ref na), (0, .ref tm), (1, .ref x_)] []
                        refine V.aload_n cx dJ1_fixAfterDeletion_329 rfl 1 rfl ?_
                        refine V.aload_n cx dJ1_fixAfterDeletion_330 rfl 2 rfl ?_
                        refine V.callS (As := [.ref x_]) (rest := [.ref tm]) cx (m_parentOfS l hl g A E tm ka va lf3 rt3 pa3 (va_up (va_up (va_up co3 na (co3 p)) p true) s1 true) vl root3 n md h0 x_ hx_) q1054 q1055 (na := 1) rfl (by decide +kernel) (Nat.le_of_ble_eq_true rfl) (by decide) (by decide) (by decide) rfl dJ1_fixAfterDeletion_331 (fun _ _ _ hx => hx.elim) (fun v373 h374 hp => ?_)
                        obtain ⟨rfl, rfl⟩ := hp
                        show V g A κ _ _ 0 0 (tmO E tm ka va lf3 rt3 pa3 (va_up (va_up (va_up co3 na (co3 p)) p true) s1 true) vl root3 n md h0) 334 [(2, .ref na), (0, .ref tm), (1, .ref x_)] [va_rf (pa3 x_), .ref tm]
                        refine V.toq (o' := (some p)) (by rw [hxp3]) ?_
                        show V g A κ _ _ 0 0 (tmO E tm ka va lf3 rt3 pa3 (va_up (va_up (va_up co3 na (co3 p)) p true) s1 true) vl root3 n md h0) 334 [(2, .ref na), (0, .ref tm), (1, .ref x_)] [.ref p, .ref tm]
                        refine V.callV (As := [.ref p]) (rest := []) (C := "java/util/TreeMap") cx (m_rotR l hl g A E tm ka va lf3 rt3 pa3 (va_up (va_up (va_up co3 na (co3 p)) p true) s1 true) vl root3 n md h0 ix lo3 hi3 hI3 ht p na hpE hs3) rfl q1073 q1075 qs10 (Rv.of kJ1 (tm_t ht)) (na := 1) rfl (by decide +kernel) (Nat.le_of_ble_eq_true rfl) (by decide) (by decide) (by decide) rfl dJ1_fixAfterDeletion_334 (fun _ _ _ hx => hx.elim) (fun v375 h376 hp => ?_)
                        obtain ⟨rfl, rfl⟩ := hp
                        show V g A κ _ _ 0 0 (tmO E tm ka va (rrt rt3 lf3 pa3 p na) (rlf rt3 pa3 p na) (rpa rt3 pa3 p na) (va_up (va_up (va_up co3 na (co3 p)) p true) s1 true) vl (if pa3 p = none then some na else root3) n md h0) 337 [(2, .ref na), (0, .ref tm), (1, .ref x_)] []
                        obtain ⟨rt4, lf4, pa4, root4, lo4, hi4, hI4, e14, e24, e34, e44, e54, e64⟩ : ∃ (rt4 lf4 pa4 : Nat → Option Nat) (root4 : Option Nat) (lo4 hi4 : Nat → Nat), Inv E ix lo4 hi4 lf4 rt4 pa4 root4 ∧ (rlf rt3 pa3 p na) = rt4 ∧ (rrt rt3 lf3 pa3 p na) = lf4 ∧ (rpa rt3 pa3 p na) = pa4 ∧ (if pa3 p = none then some na else root3) = root4 ∧ (va_up lo3 p (ix na + 1)) = lo4 ∧ (va_up hi3 na (hi3 p)) = hi4 := ⟨_, _, _, _, _, _, Inv.rotR hI3 hpE hs3, rfl, rfl, rfl, rfl, rfl, rfl⟩
                        refine V.hto (h' := (tmO E tm ka va lf4 rt4 pa4 (va_up (va_up (va_up co3 na (co3 p)) p true) s1 true) vl root4 n md h0)) (by rw [e14, e24, e34, e44]) ?_
                        show V g A κ _ _ 0 0 (tmO E tm ka va lf4 rt4 pa4 (va_up (va_up (va_up co3 na (co3 p)) p true) s1 true) vl root4 n md h0) 337 [(2, .ref na), (0, .ref tm), (1, .ref x_)] []
                        rcases opt_c root4 with hr4 | ⟨rr, hr4⟩
                        · exact absurd (Inv.root_some hI4 hx_) (fun e => absurd (hr4.symm.trans e.choose_spec) (by intro e; cases e))
                        · refine V.aload_n cx dJ1_fixAfterDeletion_337 rfl 1 rfl ?_
                          refine V.get cx kJ1 (tm_t ht) 3 (by decide) q158 rfl rfl dJ1_fixAfterDeletion_338 ?_
                          refine V.toq (o' := (some rr)) (by rw [hr4]) ?_
                          show V g A κ _ _ 0 0 (tmO E tm ka va lf4 rt4 pa4 (va_up (va_up (va_up co3 na (co3 p)) p true) s1 true) vl root4 n md h0) 341 [(2, .ref na), (0, .ref tm), (1, .ref x_)] [.ref rr]
                          refine V.astore_n (lv' := [(1, .ref rr), (2, .ref na), (0, .ref tm)]) cx dJ1_fixAfterDeletion_341 rfl (by decide) rfl ?_
                          refine V.goto (tgt := 0) cx dJ1_fixAfterDeletion_342 (by decide) ?_
                          have k4 := hI4.2.2.2.2.2.2 rr hr4
                          refine V.sub [2, 0] rfl ?_
                          exact ih_ (rr, lo4, hi4, lf4, rt4, pa4, (va_up (va_up (va_up co3 na (co3 p)) p true) s1 true), root4) (by dsimp only; exact (by have h1 := mz3; rw [k4.2.2.1, k4.2.2.2]; omega)) (by dsimp only; exact ⟨hI4, k4.1, fun r hr => Or.inr (Option.some.inj (hr4.symm.trans hr)), fun p0 hp0 => by have h1 := G3 p0 hp0; have h2 := hI4.2.1 p0 (hzE p0 hp0); have g := leaf_rot (fun q hq => (nt3 q hq).symm) hs3 h1.2.1 h1.1 (fun e => by have h3 := h1.1; rw [e, hf3] at h3; cases h3); rw [e14, e24] at g; exact ⟨g.2, g.1, by omega, by omega⟩⟩)
                    · exact absurd cz (by decide)
                · rcases unc (lf1 s1) co1 with ⟨nb, hnb, hcf⟩ | hcf
                  · have hfE : nb ∈ E := (fun e he => ((hI1.2.2.1 s1 hsE).2 e he).1) nb hnb
                    refine V.aload_n cx dJ1_fixAfterDeletion_230 rfl 0 rfl ?_
                    refine V.callS (As := [.ref s1]) (rest := []) cx (m_rightOfS l hl g A E tm ka va lf1 rt1 pa1 co1 vl root1 n md h0 s1 hsE) q1060 q1061 (na := 1) rfl (by decide +kernel) (Nat.le_of_ble_eq_true rfl) (by decide) (by decide) (by decide) rfl dJ1_fixAfterDeletion_231 (fun _ _ _ hx => hx.elim) (fun v377 h378 hp => ?_)
                    obtain ⟨rfl, rfl⟩ := hp
                    show V g A κ _ _ 0 0 (tmO E tm ka va lf1 rt1 pa1 co1 vl root1 n md h0) 234 [(2, .ref s1), (0, .ref tm), (1, .ref x_)] [va_rf (rt1 s1)]
                    show V g A κ _ _ 0 0 (tmO E tm ka va lf1 rt1 pa1 co1 vl root1 n md h0) 234 [(2, .ref s1), (0, .ref tm), (1, .ref x_)] [va_rf (rt1 s1)]
                    refine V.callS (As := [va_rf (rt1 s1)]) (rest := []) cx (m_colorOf l hl g A E tm ka va lf1 rt1 pa1 co1 vl root1 n md h0 (rt1 s1) (fun e he => ((hI1.2.2.2.1 s1 hsE).2 e he).1)) q1063 q1064 (na := 1) rfl (by decide +kernel) (Nat.le_of_ble_eq_true rfl) (by decide) (by decide) (by decide) rfl dJ1_fixAfterDeletion_234 (fun _ _ _ hx => hx.elim) (fun v379 h380 hp => ?_)
                    obtain ⟨rfl, rfl⟩ := hp
                    show V g A κ _ _ 0 0 (tmO E tm ka va lf1 rt1 pa1 co1 vl root1 n md h0) 237 [(2, .ref s1), (0, .ref tm), (1, .ref x_)] [.int (b2 (Option.elim (rt1 s1) true co1))]
                    refine V.tob (b := true) hcn ?_
                    refine V.iconst (v := (nI 1)) cx dJ1_fixAfterDeletion_237 (by decide) ?_
                    refine V.icmp_ne (tgt := 265) cx dJ1_fixAfterDeletion_238 (by decide) (fun cz => ?_) (fun cz => ?_)
                    · exact absurd rfl cz
                    · refine V.aload_n cx dJ1_fixAfterDeletion_241 rfl 0 rfl ?_
                      refine V.callS (As := [.ref s1]) (rest := []) cx (m_leftOfS l hl g A E tm ka va lf1 rt1 pa1 co1 vl root1 n md h0 s1 hsE) q1057 q1058 (na := 1) rfl (by decide +kernel) (Nat.le_of_ble_eq_true rfl) (by decide) (by decide) (by decide) rfl dJ1_fixAfterDeletion_242 (fun _ _ _ hx => hx.elim) (fun v381 h382 hp => ?_)
                      obtain ⟨rfl, rfl⟩ := hp
                      show V g A κ _ _ 0 0 (tmO E tm ka va lf1 rt1 pa1 co1 vl root1 n md h0) 245 [(2, .ref s1), (0, .ref tm), (1, .ref x_)] [va_rf (lf1 s1)]
                      refine V.toq (o' := (some nb)) (by rw [hnb]) ?_
                      show V g A κ _ _ 0 0 (tmO E tm ka va lf1 rt1 pa1 co1 vl root1 n md h0) 245 [(2, .ref s1), (0, .ref tm), (1, .ref x_)] [.ref nb]
                      refine V.callS (As := [.ref nb]) (rest := []) cx (m_colorOfS l hl g A E tm ka va lf1 rt1 pa1 co1 vl root1 n md h0 nb hfE) q1063 q1064 (na := 1) rfl (by decide +kernel) (Nat.le_of_ble_eq_true rfl) (by decide) (by decide) (by decide) rfl dJ1_fixAfterDeletion_245 (fun _ _ _ hx => hx.elim) (fun v383 h384 hp => ?_)
                      obtain ⟨rfl, rfl⟩ := hp
                      show V g A κ _ _ 0 0 (tmO E tm ka va lf1 rt1 pa1 co1 vl root1 n md h0) 248 [(2, .ref s1), (0, .ref tm), (1, .ref x_)] [.int (b2 (co1 nb))]
                      refine V.tob (b := false) (by rw [hcf]) ?_
                      show V g A κ _ _ 0 0 (tmO E tm ka va lf1 rt1 pa1 co1 vl root1 n md h0) 248 [(2, .ref s1), (0, .ref tm), (1, .ref x_)] [.int (b2 false)]
                      refine V.iconst (v := (nI 1)) cx dJ1_fixAfterDeletion_248 (by decide) ?_
                      refine V.icmp_ne (tgt := 265) cx dJ1_fixAfterDeletion_249 (by decide) (fun cz => ?_) (fun cz => ?_)
                      · refine V.aload_n cx dJ1_fixAfterDeletion_265 rfl 0 rfl ?_
                        refine V.callS (As := [.ref s1]) (rest := []) cx (m_leftOfS l hl g A E tm ka va lf1 rt1 pa1 co1 vl root1 n md h0 s1 hsE) q1057 q1058 (na := 1) rfl (by decide +kernel) (Nat.le_of_ble_eq_true rfl) (by decide) (by decide) (by decide) rfl dJ1_fixAfterDeletion_266 (fun _ _ _ hx => hx.elim) (fun v385 h386 hp => ?_)
                        obtain ⟨rfl, rfl⟩ := hp
                        show V g A κ _ _ 0 0 (tmO E tm ka va lf1 rt1 pa1 co1 vl root1 n md h0) 269 [(2, .ref s1), (0, .ref tm), (1, .ref x_)] [va_rf (lf1 s1)]
                        refine V.toq (o' := (some nb)) (by rw [hnb]) ?_
                        show V g A κ _ _ 0 0 (tmO E tm ka va lf1 rt1 pa1 co1 vl root1 n md h0) 269 [(2, .ref s1), (0, .ref tm), (1, .ref x_)] [.ref nb]
                        refine V.callS (As := [.ref nb]) (rest := []) cx (m_colorOfS l hl g A E tm ka va lf1 rt1 pa1 co1 vl root1 n md h0 nb hfE) q1063 q1064 (na := 1) rfl (by decide +kernel) (Nat.le_of_ble_eq_true rfl) (by decide) (by decide) (by decide) rfl dJ1_fixAfterDeletion_269 (fun _ _ _ hx => hx.elim) (fun v387 h388 hp => ?_)
                        obtain ⟨rfl, rfl⟩ := hp
                        show V g A κ _ _ 0 0 (tmO E tm ka va lf1 rt1 pa1 co1 vl root1 n md h0) 272 [(2, .ref s1), (0, .ref tm), (1, .ref x_)] [.int (b2 (co1 nb))]
                        refine V.tob (b := false) (by rw [hcf]) ?_
                        show V g A κ _ _ 0 0 (tmO E tm ka va lf1 rt1 pa1 co1 vl root1 n md h0) 272 [(2, .ref s1), (0, .ref tm), (1, .ref x_)] [.int (b2 false)]
                        refine V.iconst (v := (nI 1)) cx dJ1_fixAfterDeletion_272 (by decide) ?_
                        refine V.icmp_ne (tgt := 302) cx dJ1_fixAfterDeletion_273 (by decide) (fun cz => ?_) (fun cz => ?_)
                        · refine V.aload_n cx dJ1_fixAfterDeletion_302 rfl 0 rfl ?_
                          refine V.aload_n cx dJ1_fixAfterDeletion_303 rfl 2 rfl ?_
                          refine V.callS (As := [.ref x_]) (rest := [.ref s1]) cx (m_parentOfS l hl g A E tm ka va lf1 rt1 pa1 co1 vl root1 n md h0 x_ hx_) q1054 q1055 (na := 1) rfl (by decide +kernel) (Nat.le_of_ble_eq_true rfl) (by decide) (by decide) (by decide) rfl dJ1_fixAfterDeletion_304 (fun _ _ _ hx => hx.elim) (fun v389 h390 hp => ?_)
                          obtain ⟨rfl, rfl⟩ := hp
                          show V g A κ _ _ 0 0 (tmO E tm ka va lf1 rt1 pa1 co1 vl root1 n md h0) 307 [(2, .ref s1), (0, .ref tm), (1, .ref x_)] [va_rf (pa1 x_), .ref s1]
                          refine V.toq (o' := (some p)) (by rw [hxp1]) ?_
                          show V g A κ _ _ 0 0 (tmO E tm ka va lf1 rt1 pa1 co1 vl root1 n md h0) 307 [(2, .ref s1), (0, .ref tm), (1, .ref x_)] [.ref p, .ref s1]
                          refine V.callS (As := [.ref p]) (rest := [.ref s1]) cx (m_colorOfS l hl g A E tm ka va lf1 rt1 pa1 co1 vl root1 n md h0 p hpE) q1063 q1064 (na := 1) rfl (by decide +kernel) (Nat.le_of_ble_eq_true rfl) (by decide) (by decide) (by decide) rfl dJ1_fixAfterDeletion_307 (fun _ _ _ hx => hx.elim) (fun v391 h392 hp => ?_)
                          obtain ⟨rfl, rfl⟩ := hp
                          show V g A κ _ _ 0 0 (tmO E tm ka va lf1 rt1 pa1 co1 vl root1 n md h0) 310 [(2, .ref s1), (0, .ref tm), (1, .ref x_)] [.int (b2 (co1 p)), .ref s1]
                          show V g A κ _ _ 0 0 (tmO E tm ka va lf1 rt1 pa1 co1 vl root1 n md h0) 310 [(2, .ref s1), (0, .ref tm), (1, .ref x_)] [.int (b2 (co1 p)), .ref s1]
                          refine V.callS (As := [.ref s1, .int (b2 (co1 p))]) (rest := []) cx (m_setColorS l hl g A E tm ka va lf1 rt1 pa1 co1 vl root1 n md h0 s1 hsE (co1 p)) q1066 q1067 (na := 2) rfl (by decide +kernel) (Nat.le_of_ble_eq_true rfl) (by decide) (by decide) (by decide) rfl dJ1_fixAfterDeletion_310 (fun _ _ _ hx => hx.elim) (fun v393 h394 hp => ?_)
                          obtain ⟨rfl, rfl⟩ := hp
                          show V g A κ _ _ 0 0 (tmO E tm ka va lf1 rt1 pa1 (va_up co1 s1 (co1 p)) vl root1 n md h0) 313 [(2, .ref s1), (0, .ref tm), (1, .ref x_)] []
                          refine V.aload_n cx dJ1_fixAfterDeletion_313 rfl 2 rfl ?_
                          refine V.callS (As := [.ref x_]) (rest := []) cx (m_parentOfS l hl g A E tm ka va lf1 rt1 pa1 (va_up co1 s1 (co1 p)) vl root1 n md h0 x_ hx_) q1054 q1055 (na := 1) rfl (by decide +kernel) (Nat.le_of_ble_eq_true rfl) (by decide) (by decide) (by decide) rfl dJ1_fixAfterDeletion_314 (fun _ _ _ hx => hx.elim) (fun v395 h396 hp => ?_)
                          obtain ⟨rfl, rfl⟩ := hp
                          show V g A κ _ _ 0 0 (tmO E tm ka va lf1 rt1 pa1 (va_up co1 s1 (co1 p)) vl root1 n md h0) 317 [(2, .ref s1), (0, .ref tm), (1, .ref x_)] [va_rf (pa1 x_)]
                          refine V.toq (o' := (some p)) (by rw [hxp1]) ?_
                          show V g A κ _ _ 0 0 (tmO E tm ka va lf1 rt1 pa1 (va_up co1 s1 (co1 p)) vl root1 n md h0) 317 [(2, .ref s1), (0, .ref tm), (1, .ref x_)] [.ref p]
                          refine V.iconst (v := (nI 1)) cx dJ1_fixAfterDeletion_317 (by decide) ?_
                          refine V.toi (y := b2 true) (by decide) ?_
                          refine V.callS (As := [.ref p, .int (b2 true)]) (rest := []) cx (m_setColorS l hl g A E tm ka va lf1 rt1 pa1 (va_up co1 s1 (co1 p)) vl root1 n md h0 p hpE true) q1066 q1067 (na := 2) rfl (by decide +kernel) (Nat.le_of_ble_eq_true rfl) (by decide) (by decide) (by decide) rfl dJ1_fixAfterDeletion_318 (fun _ _ _ hx => hx.elim) (fun v397 h398 hp => ?_)
                          obtain ⟨rfl, rfl⟩ := hp
                          show V g A κ _ _ 0 0 (tmO E tm ka va lf1 rt1 pa1 (va_up (va_up co1 s1 (co1 p)) p true) vl root1 n md h0) 321 [(2, .ref s1), (0, .ref tm), (1, .ref x_)] []
                          refine V.aload_n cx dJ1_fixAfterDeletion_321 rfl 0 rfl ?_
                          refine V.callS (As := [.ref s1]) (rest := []) cx (m_leftOfS l hl g A E tm ka va lf1 rt1 pa1 (va_up (va_up co1 s1 (co1 p)) p true) vl root1 n md h0 s1 hsE) q1057 q1058 (na := 1) rfl (by decide +kernel) (Nat.le_of_ble_eq_true rfl) (by decide) (by decide) (by decide) rfl dJ1_fixAfterDeletion_322 (fun _ _ _ hx => hx.elim) (fun v399 h400 hp => ?_)
                          obtain ⟨rfl, rfl⟩ := hp
                          show V g A κ _ _ 0 0 (tmO E tm ka va lf1 rt1 pa1 (va_up (va_up co1 s1 (co1 p)) p true) vl root1 n md h0) 325 [(2, .ref s1), (0, .ref tm), (1, .ref x_)] [va_rf (lf1 s1)]
                          refine V.toq (o' := (some nb)) (by rw [hnb]) ?_
                          show V g A κ _ _ 0 0 (tmO E tm ka va lf1 rt1 pa1 (va_up (va_up co1 s1 (co1 p)) p true) vl root1 n md h0) 325 [(2, .ref s1), (0, .ref tm), (1, .ref x_)] [.ref nb]
                          refine V.iconst (v := (nI 1)) cx dJ1_fixAfterDeletion_325 (by decide) ?_
                          refine V.toi (y := b2 true) (by decide) ?_
                          refine V.callS (As := [.ref nb, .int (b2 true)]) (rest := []) cx (m_setColorS l hl g A E tm ka va lf1 rt1 pa1 (va_up (va_up co1 s1 (co1 p)) p true) vl root1 n md h0 nb hfE true) q1066 q1067 (na := 2) rfl (by decide +kernel) (Nat.le_of_ble_eq_true rfl) (by decide) (by decide) (by decide) rfl dJ1_fixAfterDeletion_326 (fun _ _ _ hx => hx.elim) (fun v401 h402 hp => ?_)
                          obtain ⟨rfl, rfl⟩ := hp
                          show V g A κ _ _ 0 0 (tmO E tm ka va lf1 rt1 pa1 (va_up (va_up (va_up co1 s1 (co1 p)) p true) nb true) vl root1 n md h0) 329 [(2, .ref s1), (0, .ref tm), (1, .ref x_)] []
                          refine V.aload_n cx dJ1_fixAfterDeletion_329 rfl 1 rfl ?_
                          refine V.aload_n cx dJ1_fixAfterDeletion_330 rfl 2 rfl ?_
                          refine V.callS (As := [.ref x_]) (rest := [.ref tm]) cx (m_parentOfS l hl g A E tm ka va lf1 rt1 pa1 (va_up (va_up (va_up co1 s1 (co1 p)) p true) nb true) vl root1 n md h0 x_ hx_) q1054 q1055 (na := 1) rfl (by decide +kernel) (Nat.le_of_ble_eq_true rfl) (by decide) (by decide) (by decide) rfl dJ1_fixAfterDeletion_331 (fun _ _ _ hx => hx.elim) (fun v403 h404 hp => ?_)
                          obtain ⟨rfl, rfl⟩ := hp
                          show V g A κ _ _ 0 0 (tmO E tm ka va lf1 rt1 pa1 (va_up (va_up (va_up co1 s1 (co1 p)) p true) nb true) vl root1 n md h0) 334 [(2, .ref s1), (0, .ref tm), (1, .ref x_)] [va_rf (pa1 x_), .ref tm]
                          refine V.toq (o' := (some p)) (by rw [hxp1]) ?_
                          show V g A κ _ _ 0 0 (tmO E tm ka va lf1 rt1 pa1 (va_up (va_up (va_up co1 s1 (co1 p)) p true) nb true) vl root1 n md h0) 334 [(2, .ref s1), (0, .ref tm), (1, .ref x_)] [.ref p, .ref tm]
                          refine V.callV (As := [.ref p]) (rest := []) (C := "java/util/TreeMap") cx (m_rotR l hl g A E tm ka va lf1 rt1 pa1 (va_up (va_up (va_up co1 s1 (co1 p)) p true) nb true) vl root1 n md h0 ix lo1 hi1 hI1 ht p s1 hpE hs1) rfl q1073 q1075 qs10 (Rv.of kJ1 (tm_t ht)) (na := 1) rfl (by decide +kernel) (Nat.le_of_ble_eq_true rfl) (by decide) (by decide) (by decide) rfl dJ1_fixAfterDeletion_334 (fun _ _ _ hx => hx.elim) (fun v405 h406 hp => ?_)
                          obtain ⟨rfl, rfl⟩ := hp
                          show V g A κ _ _ 0 0 (tmO E tm ka va (rrt rt1 lf1 pa1 p s1) (rlf rt1 pa1 p s1) (rpa rt1 pa1 p s1) (va_up (va_up (va_up co1 s1 (co1 p)) p true) nb true) vl (if pa1 p = none then some s1 else root1) n md h0) 337 [(2, .ref s1), (0, .ref tm), (1, .ref x_)] []
                          obtain ⟨rt4, lf4, pa4, root4, lo4, hi4, hI4, e14, e24, e34, e44, e54, e64⟩ : ∃ (rt4 lf4 pa4 : Nat → Option Nat) (root4 : Option Nat) (lo4 hi4 : Nat → Nat), Inv E ix lo4 hi4 lf4 rt4 pa4 root4 ∧ (rlf rt1 pa1 p s1) = rt4 ∧ (rrt rt1 lf1 pa1 p s1) = lf4 ∧ (rpa rt1 pa1 p s1) = pa4 ∧ (if pa1 p = none then some s1 else root1) = root4 ∧ (va_up lo1 p (ix s1 + 1)) = lo4 ∧ (va_up hi1 s1 (hi1 p)) = hi4 := ⟨_, _, _, _, _, _, Inv.rotR hI1 hpE hs1, rfl, rfl, rfl, rfl, rfl, rfl⟩
                          refine V.hto (h' := (tmO E tm ka va lf4 rt4 pa4 (va_up (va_up (va_up co1 s1 (co1 p)) p true) nb true) vl root4 n md h0)) (by rw [e14, e24, e34, e44]) ?_
                          show V g A κ _ _ 0 0 (tmO E tm ka va lf4 rt4 pa4 (va_up (va_up (va_up co1 s1 (co1 p)) p true) nb true) vl root4 n md h0) 337 [(2, .ref s1), (0, .ref tm), (1, .ref x_)] []
                          rcases opt_c root4 with hr4 | ⟨rr, hr4⟩
                          · exact absurd (Inv.root_some hI4 hx_) (fun e => absurd (hr4.symm.trans e.choose_spec) (by intro e; cases e))
                          · refine V.aload_n cx dJ1_fixAfterDeletion_337 rfl 1 rfl ?_
                            refine V.get cx kJ1 (tm_t ht) 3 (by decide) q158 rfl rfl dJ1_fixAfterDeletion_338 ?_
                            refine V.toq (o' := (some rr)) (by rw [hr4]) ?_
                            show V g A κ _ _ 0 0 (tmO E tm ka va lf4 rt4 pa4 (va_up (va_up (va_up co1 s1 (co1 p)) p true) nb true) vl root4 n md h0) 341 [(2, .ref s1), (0, .ref tm), (1, .ref x_)] [.ref rr]
                            refine V.astore_n (lv' := [(1, .ref rr), (2, .ref s1), (0, .ref tm)]) cx dJ1_fixAfterDeletion_341 rfl (by decide) rfl ?_
                            refine V.goto (tgt := 0) cx dJ1_fixAfterDeletion_342 (by decide) ?_
                            have k4 := hI4.2.2.2.2.2.2 rr hr4
                            refine V.sub [2, 0] rfl ?_
                            exact ih_ (rr, lo4, hi4, lf4, rt4, pa4, (va_up (va_up (va_up co1 s1 (co1 p)) p true) nb true), root4) (by dsimp only; exact (by have h1 := mz1; rw [k4.2.2.1, k4.2.2.2]; omega)) (by dsimp only; exact ⟨hI4, k4.1, fun r hr => Or.inr (Option.some.inj (hr4.symm.trans hr)), fun p0 hp0 => by have h1 := G1 p0 hp0; have h2 := hI4.2.1 p0 (hzE p0 hp0); have g := leaf_rot (fun q hq => (nt1 q hq).symm) hs1 h1.2.1 h1.1 (fun e => by have h3 := h1.1; rw [e, hnb] at h3; cases h3); rw [e14, e24] at g; exact ⟨g.2, g.1, by omega, by omega⟩⟩)
                        · exact absurd cz (by decide)
                      · exact absurd cz (by decide)
                  · refine V.aload_n cx dJ1_fixAfterDeletion_230 rfl 0 rfl ?_
                    refine V.callS (As := [.ref s1]) (rest := []) cx (m_rightOfS l hl g A E tm ka va lf1 rt1 pa1 co1 vl root1 n md h0 s1 hsE) q1060 q1061 (na := 1) rfl (by decide +kernel) (Nat.le_of_ble_eq_true rfl) (by decide) (by decide) (by decide) rfl dJ1_fixAfterDeletion_231 (fun _ _ _ hx => hx.elim) (fun v407 h408 hp => ?_)
                    obtain ⟨rfl, rfl⟩ := hp
                    show V g A κ _ _ 0 0 (tmO E tm ka va lf1 rt1 pa1 co1 vl root1 n md h0) 234 [(2, .ref s1), (0, .ref tm), (1, .ref x_)] [va_rf (rt1 s1)]
                    show V g A κ _ _ 0 0 (tmO E tm ka va lf1 rt1 pa1 co1 vl root1 n md h0) 234 [(2, .ref s1), (0, .ref tm), (1, .ref x_)] [va_rf (rt1 s1)]
                    refine V.callS (As := [va_rf (rt1 s1)]) (rest := []) cx (m_colorOf l hl g A E tm ka va lf1 rt1 pa1 co1 vl root1 n md h0 (rt1 s1) (fun e he => ((hI1.2.2.2.1 s1 hsE).2 e he).1)) q1063 q1064 (na := 1) rfl (by decide +kernel) (Nat.le_of_ble_eq_true rfl) (by decide) (by decide) (by decide) rfl dJ1_fixAfterDeletion_234 (fun _ _ _ hx => hx.elim) (fun v409 h410 hp => ?_)
                    obtain ⟨rfl, rfl⟩ := hp
                    show V g A κ _ _ 0 0 (tmO E tm ka va lf1 rt1 pa1 co1 vl root1 n md h0) 237 [(2, .ref s1), (0, .ref tm), (1, .ref x_)] [.int (b2 (Option.elim (rt1 s1) true co1))]
                    refine V.tob (b := true) hcn ?_
                    refine V.iconst (v := (nI 1)) cx dJ1_fixAfterDeletion_237 (by decide) ?_
                    refine V.icmp_ne (tgt := 265) cx dJ1_fixAfterDeletion_238 (by decide) (fun cz => ?_) (fun cz => ?_)
                    · exact absurd rfl cz
                    · refine V.aload_n cx dJ1_fixAfterDeletion_241 rfl 0 rfl ?_
                      refine V.callS (As := [.ref s1]) (rest := []) cx (m_leftOfS l hl g A E tm ka va lf1 rt1 pa1 co1 vl root1 n md h0 s1 hsE) q1057 q1058 (na := 1) rfl (by decide +kernel) (Nat.le_of_ble_eq_true rfl) (by decide) (by decide) (by decide) rfl dJ1_fixAfterDeletion_242 (fun _ _ _ hx => hx.elim) (fun v411 h412 hp => ?_)
                      obtain ⟨rfl, rfl⟩ := hp
                      show V g A κ _ _ 0 0 (tmO E tm ka va lf1 rt1 pa1 co1 vl root1 n md h0) 245 [(2, .ref s1), (0, .ref tm), (1, .ref x_)] [va_rf (lf1 s1)]
                      show V g A κ _ _ 0 0 (tmO E tm ka va lf1 rt1 pa1 co1 vl root1 n md h0) 245 [(2, .ref s1), (0, .ref tm), (1, .ref x_)] [va_rf (lf1 s1)]
                      refine V.callS (As := [va_rf (lf1 s1)]) (rest := []) cx (m_colorOf l hl g A E tm ka va lf1 rt1 pa1 co1 vl root1 n md h0 (lf1 s1) (fun e he => ((hI1.2.2.1 s1 hsE).2 e he).1)) q1063 q1064 (na := 1) rfl (by decide +kernel) (Nat.le_of_ble_eq_true rfl) (by decide) (by decide) (by decide) rfl dJ1_fixAfterDeletion_245 (fun _ _ _ hx => hx.elim) (fun v413 h414 hp => ?_)
                      obtain ⟨rfl, rfl⟩ := hp
                      show V g A κ _ _ 0 0 (tmO E tm ka va lf1 rt1 pa1 co1 vl root1 n md h0) 248 [(2, .ref s1), (0, .ref tm), (1, .ref x_)] [.int (b2 (Option.elim (lf1 s1) true co1))]
                      refine V.tob (b := true) hcf ?_
                      refine V.iconst (v := (nI 1)) cx dJ1_fixAfterDeletion_248 (by decide) ?_
                      refine V.icmp_ne (tgt := 265) cx dJ1_fixAfterDeletion_249 (by decide) (fun cz => ?_) (fun cz => ?_)
                      · exact absurd rfl cz
                      · refine V.aload_n cx dJ1_fixAfterDeletion_252 rfl 0 rfl ?_
                        refine V.iconst (v := (nI 0)) cx dJ1_fixAfterDeletion_253 (by decide) ?_
                        refine V.toi (y := b2 false) (by decide) ?_
                        refine V.callS (As := [.ref s1, .int (b2 false)]) (rest := []) cx (m_setColorS l hl g A E tm ka va lf1 rt1 pa1 co1 vl root1 n md h0 s1 hsE false) q1066 q1067 (na := 2) rfl (by decide +kernel) (Nat.le_of_ble_eq_true rfl) (by decide) (by decide) (by decide) rfl dJ1_fixAfterDeletion_254 (fun _ _ _ hx => hx.elim) (fun v415 h416 hp => ?_)
                        obtain ⟨rfl, rfl⟩ := hp
                        show V g A κ _ _ 0 0 (tmO E tm ka va lf1 rt1 pa1 (va_up co1 s1 false) vl root1 n md h0) 257 [(2, .ref s1), (0, .ref tm), (1, .ref x_)] []
                        refine V.aload_n cx dJ1_fixAfterDeletion_257 rfl 2 rfl ?_
                        refine V.callS (As := [.ref x_]) (rest := []) cx (m_parentOfS l hl g A E tm ka va lf1 rt1 pa1 (va_up co1 s1 false) vl root1 n md h0 x_ hx_) q1054 q1055 (na := 1) rfl (by decide +kernel) (Nat.le_of_ble_eq_true rfl) (by decide) (by decide) (by decide) rfl dJ1_fixAfterDeletion_258 (fun _ _ _ hx => hx.elim) (fun v417 h418 hp => ?_)
                        obtain ⟨rfl, rfl⟩ := hp
                        show V g A κ _ _ 0 0 (tmO E tm ka va lf1 rt1 pa1 (va_up co1 s1 false) vl root1 n md h0) 261 [(2, .ref s1), (0, .ref tm), (1, .ref x_)] [va_rf (pa1 x_)]
                        refine V.toq (o' := (some p)) (by rw [hxp1]) ?_
                        show V g A κ _ _ 0 0 (tmO E tm ka va lf1 rt1 pa1 (va_up co1 s1 false) vl root1 n md h0) 261 [(2, .ref s1), (0, .ref tm), (1, .ref x_)] [.ref p]
                        refine V.astore_n (lv' := [(1, .ref p), (2, .ref s1), (0, .ref tm)]) cx dJ1_fixAfterDeletion_261 rfl (by decide) rfl ?_
                        refine V.goto (tgt := 342) cx dJ1_fixAfterDeletion_262 (by decide) ?_
                        refine V.goto (tgt := 0) cx dJ1_fixAfterDeletion_342 (by decide) ?_
                        refine V.sub [2, 0] rfl ?_
                        exact ih_ (p, lo1, hi1, lf1, rt1, pa1, (va_up co1 s1 false), root1) (by dsimp only; exact (by have h1 := mz1; clear ih_; omega)) (by dsimp only; exact ⟨hI1, hpE, fun r hr => Or.inl ((va_up_ne _ _ (fun e => by have h2 := (hI1.2.2.2.2.2.2 r hr).2.1; rw [e, hsp] at h2; cases h2)).trans (hB1 r hr)), fun p0 hp0 => by have h1 := G1 p0 hp0; have h2 := mz1; exact ⟨h1.1, h1.2.1, by omega, by omega⟩⟩)
          · rcases opt_c (lf_ p) with hs0 | ⟨s0, hs0⟩
            · refine V.callS (As := [.ref p]) (rest := []) cx (m_leftOfS l hl g A E tm ka va lf_ rt_ pa_ co_ vl root_ n md h0 p hpE) q1057 q1058 (na := 1) rfl (by decide +kernel) (Nat.le_of_ble_eq_true rfl) (by decide) (by decide) (by decide) rfl dJ1_fixAfterDeletion_190 (fun _ _ _ hx => hx.elim) (fun v419 h420 hp => ?_)
              obtain ⟨rfl, rfl⟩ := hp
              show V g A κ _ _ 0 0 (tmO E tm ka va lf_ rt_ pa_ co_ vl root_ n md h0) 193 [(0, .ref tm), (1, .ref x_)] [va_rf (lf_ p)]
              refine V.toq (o' := none) (by rw [hs0]) ?_
              show V g A κ _ _ 0 0 (tmO E tm ka va lf_ rt_ pa_ co_ vl root_ n md h0) 193 [(0, .ref tm), (1, .ref x_)] [.null]
              refine V.astore_nN (lv' := [(2, .null), (0, .ref tm), (1, .ref x_)]) cx dJ1_fixAfterDeletion_193 rfl (by decide) rfl ?_
              refine V.aload_nN cx dJ1_fixAfterDeletion_194 rfl 0 rfl ?_
              refine V.callS (As := [.null]) (rest := []) cx (m_colorOfN l hl g A E tm ka va lf_ rt_ pa_ co_ vl root_ n md h0) q1063 q1064 (na := 1) rfl (by decide +kernel) (Nat.le_of_ble_eq_true rfl) (by decide) (by decide) (by decide) rfl dJ1_fixAfterDeletion_195 (fun _ _ _ hx => hx.elim) (fun v421 h422 hp => ?_)
              obtain ⟨rfl, rfl⟩ := hp
              show V g A κ _ _ 0 0 (tmO E tm ka va lf_ rt_ pa_ co_ vl root_ n md h0) 198 [(2, .null), (0, .ref tm), (1, .ref x_)] [.int (b2 true)]
              refine V.bif_ne (tgt := 230) cx dJ1_fixAfterDeletion_198 (by decide) (fun cb => ?_) (fun cb => ?_)
              · refine V.aload_nN cx dJ1_fixAfterDeletion_230 rfl 0 rfl ?_
                refine V.callS (As := [.null]) (rest := []) cx (m_rightOfN l hl g A E tm ka va lf_ rt_ pa_ co_ vl root_ n md h0) q1060 q1061 (na := 1) rfl (by decide +kernel) (Nat.le_of_ble_eq_true rfl) (by decide) (by decide) (by decide) rfl dJ1_fixAfterDeletion_231 (fun _ _ _ hx => hx.elim) (fun v423 h424 hp => ?_)
                obtain ⟨rfl, rfl⟩ := hp
                show V g A κ _ _ 0 0 (tmO E tm ka va lf_ rt_ pa_ co_ vl root_ n md h0) 234 [(2, .null), (0, .ref tm), (1, .ref x_)] [.null]
                refine V.callS (As := [.null]) (rest := []) cx (m_colorOfN l hl g A E tm ka va lf_ rt_ pa_ co_ vl root_ n md h0) q1063 q1064 (na := 1) rfl (by decide +kernel) (Nat.le_of_ble_eq_true rfl) (by decide) (by decide) (by decide) rfl dJ1_fixAfterDeletion_234 (fun _ _ _ hx => hx.elim) (fun v425 h426 hp => ?_)
                obtain ⟨rfl, rfl⟩ := hp
                show V g A κ _ _ 0 0 (tmO E tm ka va lf_ rt_ pa_ co_ vl root_ n md h0) 237 [(2, .null), (0, .ref tm), (1, .ref x_)] [.int (b2 true)]
                refine V.iconst (v := (nI 1)) cx dJ1_fixAfterDeletion_237 (by decide) ?_
                refine V.icmp_ne (tgt := 265) cx dJ1_fixAfterDeletion_238 (by decide) (fun cz => ?_) (fun cz => ?_)
                · exact absurd rfl cz
                · refine V.aload_nN cx dJ1_fixAfterDeletion_241 rfl 0 rfl ?_
                  refine V.callS (As := [.null]) (rest := []) cx (m_leftOfN l hl g A E tm ka va lf_ rt_ pa_ co_ vl root_ n md h0) q1057 q1058 (na := 1) rfl (by decide +kernel) (Nat.le_of_ble_eq_true rfl) (by decide) (by decide) (by decide) rfl dJ1_fixAfterDeletion_242 (fun _ _ _ hx => hx.elim) (fun v427 h428 hp => ?_)
                  obtain ⟨rfl, rfl⟩ := hp
                  show V g A κ _ _ 0 0 (tmO E tm ka va lf_ rt_ pa_ co_ vl root_ n md h0) 245 [(2, .null), (0, .ref tm), (1, .ref x_)] [.null]
                  refine V.callS (As := [.null]) (rest := []) cx (m_colorOfN l hl g A E tm ka va lf_ rt_ pa_ co_ vl root_ n md h0) q1063 q1064 (na := 1) rfl (by decide +kernel) (Nat.le_of_ble_eq_true rfl) (by decide) (by decide) (by decide) rfl dJ1_fixAfterDeletion_245 (fun _ _ _ hx => hx.elim) (fun v429 h430 hp => ?_)
                  obtain ⟨rfl, rfl⟩ := hp
                  show V g A κ _ _ 0 0 (tmO E tm ka va lf_ rt_ pa_ co_ vl root_ n md h0) 248 [(2, .null), (0, .ref tm), (1, .ref x_)] [.int (b2 true)]
                  refine V.iconst (v := (nI 1)) cx dJ1_fixAfterDeletion_248 (by decide) ?_
                  refine V.icmp_ne (tgt := 265) cx dJ1_fixAfterDeletion_249 (by decide) (fun cz => ?_) (fun cz => ?_)
                  · exact absurd rfl cz
                  · refine V.aload_nN cx dJ1_fixAfterDeletion_252 rfl 0 rfl ?_
                    refine V.iconst (v := (nI 0)) cx dJ1_fixAfterDeletion_253 (by decide) ?_
                    refine V.toi (y := b2 false) (by decide) ?_
                    refine V.callS (As := [.null, .int (b2 false)]) (rest := []) cx (m_setColorN l hl g A E tm ka va lf_ rt_ pa_ co_ vl root_ n md h0 false) q1066 q1067 (na := 2) rfl (by decide +kernel) (Nat.le_of_ble_eq_true rfl) (by decide) (by decide) (by decide) rfl dJ1_fixAfterDeletion_254 (fun _ _ _ hx => hx.elim) (fun v431 h432 hp => ?_)
                    obtain ⟨rfl, rfl⟩ := hp
                    show V g A κ _ _ 0 0 (tmO E tm ka va lf_ rt_ pa_ co_ vl root_ n md h0) 257 [(2, .null), (0, .ref tm), (1, .ref x_)] []
                    refine V.aload_n cx dJ1_fixAfterDeletion_257 rfl 2 rfl ?_
                    refine V.callS (As := [.ref x_]) (rest := []) cx (m_parentOfS l hl g A E tm ka va lf_ rt_ pa_ co_ vl root_ n md h0 x_ hx_) q1054 q1055 (na := 1) rfl (by decide +kernel) (Nat.le_of_ble_eq_true rfl) (by decide) (by decide) (by decide) rfl dJ1_fixAfterDeletion_258 (fun _ _ _ hx => hx.elim) (fun v433 h434 hp => ?_)
                    obtain ⟨rfl, rfl⟩ := hp
                    show V g A κ _ _ 0 0 (tmO E tm ka va lf_ rt_ pa_ co_ vl root_ n md h0) 261 [(2, .null), (0, .ref tm), (1, .ref x_)] [va_rf (pa_ x_)]
                    refine V.toq (o' := (some p)) (by rw [hxp_]) ?_
                    show V g A κ _ _ 0 0 (tmO E tm ka va lf_ rt_ pa_ co_ vl root_ n md h0) 261 [(2, .null), (0, .ref tm), (1, .ref x_)] [.ref p]
                    refine V.astore_n (lv' := [(1, .ref p), (2, .null), (0, .ref tm)]) cx dJ1_fixAfterDeletion_261 rfl (by decide) rfl ?_
                    refine V.goto (tgt := 342) cx dJ1_fixAfterDeletion_262 (by decide) ?_
                    refine V.goto (tgt := 0) cx dJ1_fixAfterDeletion_342 (by decide) ?_
                    refine V.sub [2, 0] rfl ?_
                    exact ih_ (p, lo_, hi_, lf_, rt_, pa_, co_, root_) (by dsimp only; exact (by have h1 := mz_; clear ih_; omega)) (by dsimp only; exact ⟨hI_, hpE, fun r hr => Or.inl (hB_ r hr), fun p0 hp0 => by have h1 := G_ p0 hp0; have h2 := mz_; exact ⟨h1.1, h1.2.1, by omega, by omega⟩⟩)
              · exact absurd cb (by decide)
            · rw [hs0] at hcu
              have hcs : co_ s0 = true := hcu
              have hs0E : s0 ∈ E := ((hI_.2.2.1 p hpE).2 s0 hs0).1
              refine V.callS (As := [.ref p]) (rest := []) cx (m_leftOfS l hl g A E tm ka va lf_ rt_ pa_ co_ vl root_ n md h0 p hpE) q1057 q1058 (na := 1) rfl (by decide +kernel) (Nat.le_of_ble_eq_true rfl) (by decide) (by decide) (by decide) rfl dJ1_fixAfterDeletion_190 (fun _ _ _ hx => hx.elim) (fun v435 h436 hp => ?_)
              obtain ⟨rfl, rfl⟩ := hp
              show V g A κ _ _ 0 0 (tmO E tm ka va lf_ rt_ pa_ co_ vl root_ n md h0) 193 [(0, .ref tm), (1, .ref x_)] [va_rf (lf_ p)]
              refine V.toq (o' := (some s0)) (by rw [hs0]) ?_
              show V g A κ _ _ 0 0 (tmO E tm ka va lf_ rt_ pa_ co_ vl root_ n md h0) 193 [(0, .ref tm), (1, .ref x_)] [.ref s0]
              refine V.astore_n (lv' := [(2, .ref s0), (0, .ref tm), (1, .ref x_)]) cx dJ1_fixAfterDeletion_193 rfl (by decide) rfl ?_
              refine V.aload_n cx dJ1_fixAfterDeletion_194 rfl 0 rfl ?_
              refine V.callS (As := [.ref s0]) (rest := []) cx (m_colorOfS l hl g A E tm ka va lf_ rt_ pa_ co_ vl root_ n md h0 s0 hs0E) q1063 q1064 (na := 1) rfl (by decide +kernel) (Nat.le_of_ble_eq_true rfl) (by decide) (by decide) (by decide) rfl dJ1_fixAfterDeletion_195 (fun _ _ _ hx => hx.elim) (fun v437 h438 hp => ?_)
              obtain ⟨rfl, rfl⟩ := hp
              show V g A κ _ _ 0 0 (tmO E tm ka va lf_ rt_ pa_ co_ vl root_ n md h0) 198 [(2, .ref s0), (0, .ref tm), (1, .ref x_)] [.int (b2 (co_ s0))]
              refine V.tob (b := true) (by rw [hcs]) ?_
              show V g A κ _ _ 0 0 (tmO E tm ka va lf_ rt_ pa_ co_ vl root_ n md h0) 198 [(2, .ref s0), (0, .ref tm), (1, .ref x_)] [.int (b2 true)]
              refine V.bif_ne (tgt := 230) cx dJ1_fixAfterDeletion_198 (by decide) (fun cb => ?_) (fun cb => ?_)
              · have hsE : s0 ∈ E := ((hI_.2.2.1 p hpE).2 s0 hs0).1
                have hsp : pa_ s0 = some p := ((hI_.2.2.1 p hpE).2 s0 hs0).2.1
                have nsp : s0 ≠ p := fun e => by have h1 := (hI_.2.2.1 p hpE).2 s0 hs0; have h2 := hI_.2.1 s0 hsE; rw [e] at h1 h2; omega
                rcases unc (rt_ s0) co_ with ⟨na, hna, hcn⟩ | hcn
                · have hnE : na ∈ E := (fun e he => ((hI_.2.2.2.1 s0 hsE).2 e he).1) na hna
                  rcases unc (lf_ s0) co_ with ⟨nb, hnb, hcf⟩ | hcf
                  · have hfE : nb ∈ E := (fun e he => ((hI_.2.2.1 s0 hsE).2 e he).1) nb hnb
                    refine V.aload_n cx dJ1_fixAfterDeletion_230 rfl 0 rfl ?_
                    refine V.callS (As := [.ref s0]) (rest := []) cx (m_rightOfS l hl g A E tm ka va lf_ rt_ pa_ co_ vl root_ n md h0 s0 hsE) q1060 q1061 (na := 1) rfl (by decide +kernel) (Nat.le_of_ble_eq_true rfl) (by decide) (by decide) (by decide) rfl dJ1_fixAfterDeletion_231 (fun _ _ _ hx => hx.elim) (fun v439 h440 hp => ?_)
                    obtain ⟨rfl, rfl⟩ := hp
                    show V g A κ _ _ 0 0 (tmO E tm ka va lf_ rt_ pa_ co_ vl root_ n md h0) 234 [(2, .ref s0), (0, .ref tm), (1, .ref x_)] [va_rf (rt_ s0)]
                    refine V.toq (o' := (some na)) (by rw [hna]) ?_
                    show V g A κ _ _ 0 0 (tmO E tm ka va lf_ rt_ pa_ co_ vl root_ n md h0) 234 [(2, .ref s0), (0, .ref tm), (1, .ref x_)] [.ref na]
                    refine V.callS (As := [.ref na]) (rest := []) cx (m_colorOfS l hl g A E tm ka va lf_ rt_ pa_ co_ vl root_ n md h0 na hnE) q1063 q1064 (na := 1) rfl (by decide +kernel) (Nat.le_of_ble_eq_true rfl) (by decide) (by decide) (by decide) rfl dJ1_fixAfterDeletion_234 (fun _ _ _ hx => hx.elim) (fun v441 h442 hp => ?_)
                    obtain ⟨rfl, rfl⟩ := hp
                    show V g A κ _ _ 0 0 (tmO E tm ka va lf_ rt_ pa_ co_ vl root_ n md h0) 237 [(2, .ref s0), (0, .ref tm), (1, .ref x_)] [.int (b2 (co_ na))]
                    refine V.tob (b := false) (by rw [hcn]) ?_
                    show V g A κ _ _ 0 0 (tmO E tm ka va lf_ rt_ pa_ co_ vl root_ n md h0) 237 [(2, .ref s0), (0, .ref tm), (1, .ref x_)] [.int (b2 false)]
                    refine V.iconst (v := (nI 1)) cx dJ1_fixAfterDeletion_237 (by decide) ?_
                    refine V.icmp_ne (tgt := 265) cx dJ1_fixAfterDeletion_238 (by decide) (fun cz => ?_) (fun cz => ?_)
                    · refine V.aload_n cx dJ1_fixAfterDeletion_265 rfl 0 rfl ?_
                      refine V.callS (As := [.ref s0]) (rest := []) cx (m_leftOfS l hl g A E tm ka va lf_ rt_ pa_ co_ vl root_ n md h0 s0 hsE) q1057 q1058 (na := 1) rfl (by decide +kernel) (Nat.le_of_ble_eq_true rfl) (by decide) (by decide) (by decide) rfl dJ1_fixAfterDeletion_266 (fun _ _ _ hx => hx.elim) (fun v443 h444 hp => ?_)
                      obtain ⟨rfl, rfl⟩ := hp
                      show V g A κ _ _ 0 0 (tmO E tm ka va lf_ rt_ pa_ co_ vl root_ n md h0) 269 [(2, .ref s0), (0, .ref tm), (1, .ref x_)] [va_rf (lf_ s0)]
                      refine V.toq (o' := (some nb)) (by rw [hnb]) ?_
                      show V g A κ _ _ 0 0 (tmO E tm ka va lf_ rt_ pa_ co_ vl root_ n md h0) 269 [(2, .ref s0), (0, .ref tm), (1, .ref x_)] [.ref nb]
                      refine V.callS (As := [.ref nb]) (rest := []) cx (m_colorOfS l hl g A E tm ka va lf_ rt_ pa_ co_ vl root_ n md h0 nb hfE) q1063 q1064 (na := 1) rfl (by decide +kernel) (Nat.le_of_ble_eq_true rfl) (by decide) (by decide) (by decide) rfl dJ1_fixAfterDeletion_269 (fun _ _ _ hx => hx.elim) (fun v445 h446 hp => ?_)
                      obtain ⟨rfl, rfl⟩ := hp
                      show V g A κ _ _ 0 0 (tmO E tm ka va lf_ rt_ pa_ co_ vl root_ n md h0) 272 [(2, .ref s0), (0, .ref tm), (1, .ref x_)] [.int (b2 (co_ nb))]
                      refine V.tob (b := false) (by rw [hcf]) ?_
                      show V g A κ _ _ 0 0 (tmO E tm ka va lf_ rt_ pa_ co_ vl root_ n md h0) 272 [(2, .ref s0), (0, .ref tm), (1, .ref x_)] [.int (b2 false)]
                      refine V.iconst (v := (nI 1)) cx dJ1_fixAfterDeletion_272 (by decide) ?_
                      refine V.icmp_ne (tgt := 302) cx dJ1_fixAfterDeletion_273 (by decide) (fun cz => ?_) (fun cz => ?_)
                      · refine V.aload_n cx dJ1_fixAfterDeletion_302 rfl 0 rfl ?_
                        refine V.aload_n cx dJ1_fixAfterDeletion_303 rfl 2 rfl ?_
                        refine V.callS (As := [.ref x_]) (rest := [.ref s0]) cx (m_parentOfS l hl g A E tm ka va lf_ rt_ pa_ co_ vl root_ n md h0 x_ hx_) q1054 q1055 (na := 1) rfl (by decide +kernel) (Nat.le_of_ble_eq_true rfl) (by decide) (by decide) (by decide) rfl dJ1_fixAfterDeletion_304 (fun _ _ _ hx => hx.elim) (fun v447 h448 hp => ?_)
                        obtain ⟨rfl, rfl⟩ := hp
                        show V g A κ _ _ 0 0 (tmO E tm ka va lf_ rt_ pa_ co_ vl root_ n md h0) 307 [(2, .ref s0), (0, .ref tm), (1, .ref x_)] [va_rf (pa_ x_), .ref s0]
                        refine V.toq (o' := (some p)) (by rw [hxp_]) ?_
                        show V g A κ _ _ 0 0 (tmO E tm ka va lf_ rt_ pa_ co_ vl root_ n md h0) 307 [(2, .ref s0), (0, .ref tm), (1, .ref x_)] [.ref p, .ref s0]
                        refine V.callS (As := [.ref p]) (rest := [.ref s0]) cx (m_colorOfS l hl g A E tm ka va lf_ rt_ pa_ co_ vl root_ n md h0 p hpE) q1063 q1064 (na := 1) rfl (by decide +kernel) (Nat.le_of_ble_eq_true rfl) (by decide) (by decide) (by decide) rfl dJ1_fixAfterDeletion_307 (fun _ _ _ hx => hx.elim) (fun v449 h450 hp => ?_)
                        obtain ⟨rfl, rfl⟩ := hp
                        show V g A κ _ _ 0 0 (tmO E tm ka va lf_ rt_ pa_ co_ vl root_ n md h0) 310 [(2, .ref s0), (0, .ref tm), (1, .ref x_)] [.int (b2 (co_ p)), .ref s0]
                        show V g A κ _ _ 0 0 (tmO E tm ka va lf_ rt_ pa_ co_ vl root_ n md h0) 310 [(2, .ref s0), (0, .ref tm), (1, .ref x_)] [.int (b2 (co_ p)), .ref s0]
                        refine V.callS (As := [.ref s0, .int (b2 (co_ p))]) (rest := []) cx (m_setColorS l hl g A E tm ka va lf_ rt_ pa_ co_ vl root_ n md h0 s0 hsE (co_ p)) q1066 q1067 (na := 2) rfl (by decide +kernel) (Nat.le_of_ble_eq_true rfl) (by decide) (by decide) (by decide) rfl dJ1_fixAfterDeletion_310 (fun _ _ _ hx => hx.elim) (fun v451 h452 hp => ?_)
                        obtain ⟨rfl, rfl⟩ := hp
                        show V g A κ _ _ 0 0 (tmO E tm ka va lf_ rt_ pa_ (va_up co_ s0 (co_ p)) vl root_ n md h0) 313 [(2, .ref s0), (0, .ref tm), (1, .ref x_)] []
                        refine V.aload_n cx dJ1_fixAfterDeletion_313 rfl 2 rfl ?_
                        refine V.callS (As := [.ref x_]) (rest := []) cx (m_parentOfS l hl g A E tm ka va lf_ rt_ pa_ (va_up co_ s0 (co_ p)) vl root_ n md h0 x_ hx_) q1054 q1055 (na := 1) rfl (by decide +kernel) (Nat.le_of_ble_eq_true rfl) (by decide) (by decide) (by decide) rfl dJ1_fixAfterDeletion_314 (fun _ _ _ hx => hx.elim) (fun v453 h454 hp => ?_)
                        obtain ⟨rfl, rfl⟩ := hp
                        show V g A κ _ _ 0 0 (tmO E tm ka va lf_ rt_ pa_ (va_up co_ s0 (co_ p)) vl root_ n md h0) 317 [(2, .ref s0), (0, .ref tm), (1, .ref x_)] [va_rf (pa_ x_)]
                        refine V.toq (o' := (some p)) (by rw [hxp_]) ?_
                        show V g A κ _ _ 0 0 (tmO E tm ka va lf_ rt_ pa_ (va_up co_ s0 (co_ p)) vl root_ n md h0) 317 [(2, .ref s0), (0, .ref tm), (1, .ref x_)] [.ref p]
                        refine V.iconst (v := (nI 1)) cx dJ1_fixAfterDeletion_317 (by decide) ?_
                        refine V.toi (y := b2 true) (by decide) ?_
                        refine V.callS (As := [.ref p, .int (b2 true)]) (rest := []) cx (m_setColorS l hl g A E tm ka va lf_ rt_ pa_ (va_up co_ s0 (co_ p)) vl root_ n md h0 p hpE true) q1066 q1067 (na := 2) rfl (by decide +kernel) (Nat.le_of_ble_eq_true rfl) (by decide) (by decide) (by decide) rfl dJ1_fixAfterDeletion_318 (fun _ _ _ hx => hx.elim) (fun v455 h456 hp => ?_)
                        obtain ⟨rfl, rfl⟩ := hp
                        show V g A κ _ _ 0 0 (tmO E tm ka va lf_ rt_ pa_ (va_up (va_up co_ s0 (co_ p)) p true) vl root_ n md h0) 321 [(2, .ref s0), (0, .ref tm), (1, .ref x_)] []
                        refine V.aload_n cx dJ1_fixAfterDeletion_321 rfl 0 rfl ?_
                        refine V.callS (As := [.ref s0]) (rest := []) cx (m_leftOfS l hl g A E tm ka va lf_ rt_ pa_ (va_up (va_up co_ s0 (co_ p)) p true) vl root_ n md h0 s0 hsE) q1057 q1058 (na := 1) rfl (by decide +kernel) (Nat.le_of_ble_eq_true rfl) (by decide) (by decide) (by decide) rfl dJ1_fixAfterDeletion_322 (fun _ _ _ hx => hx.elim) (fun v457 h458 hp => ?_)
                        obtain ⟨rfl, rfl⟩ := hp
                        show V g A κ _ _ 0 0 (tmO E tm ka va lf_ rt_ pa_ (va_up (va_up co_ s0 (co_ p)) p true) vl root_ n md h0) 325 [(2, .ref s0), (0, .ref tm), (1, .ref x_)] [va_rf (lf_ s0)]
                        refine V.toq (o' := (some nb)) (by rw [hnb]) ?_
                        show V g A κ _ _ 0 0 (tmO E tm ka va lf_ rt_ pa_ (va_up (va_up co_ s0 (co_ p)) p true) vl root_ n md h0) 325 [(2, .ref s0), (0, .ref tm), (1, .ref x_)] [.ref nb]
                        refine V.iconst (v := (nI 1)) cx dJ1_fixAfterDeletion_325 (by decide) ?_
                        refine V.toi (y := b2 true) (by decide) ?_
                        refine V.callS (As := [.ref nb, .int (b2 true)]) (rest := []) cx (m_setColorS l hl g A E tm ka va lf_ rt_ pa_ (va_up (va_up co_ s0 (co_ p)) p true) vl root_ n md h0 nb hfE true) q1066 q1067 (na := 2) rfl (by decide +kernel) (Nat.le_of_ble_eq_true rfl) (by decide) (by decide) (by decide) rfl dJ1_fixAfterDeletion_326 (fun _ _ _ hx => hx.elim) (fun v459 h460 hp => ?_)
                        obtain ⟨rfl, rfl⟩ := hp
                        show V g A κ _ _ 0 0 (tmO E tm ka va lf_ rt_ pa_ (va_up (va_up (va_up co_ s0 (co_ p)) p true) nb true) vl root_ n md h0) 329 [(2, .ref s0), (0, .ref tm), (1, .ref x_)] []
                        refine V.aload_n cx dJ1_fixAfterDeletion_329 rfl 1 rfl ?_
                        refine V.aload_n cx dJ1_fixAfterDeletion_330 rfl 2 rfl ?_
                        refine V.callS (As := [.ref x_]) (rest := [.ref tm]) cx (m_parentOfS l hl g A E tm ka va lf_ rt_ pa_ (va_up (va_up (va_up co_ s0 (co_ p)) p true) nb true) vl root_ n md h0 x_ hx_) q1054 q1055 (na := 1) rfl (by decide +kernel) (Nat.le_of_ble_eq_true rfl) (by decide) (by decide) (by decide) rfl dJ1_fixAfterDeletion_331 (fun _ _ _ hx => hx.elim) (fun v461 h462 hp => ?_)
                        obtain ⟨rfl, rfl⟩ := hp
                        show V g A κ _ _ 0 0 (tmO E tm ka va lf_ rt_ pa_ (va_up (va_up (va_up co_ s0 (co_ p)) p true) nb true) vl root_ n md h0) 334 [(2, .ref s0), (0, .ref tm), (1, .ref x_)] [va_rf (pa_ x_), .ref tm]
                        refine V.toq (o' := (some p)) (by rw [hxp_]) ?_
                        show V g A κ _ _ 0 0 (tmO E tm ka va lf_ rt_ pa_ (va_up (va_up (va_up co_ s0 (co_ p)) p true) nb true) vl root_ n md h0) 334 [(2, .ref s0), (0, .ref tm), (1, .ref x_)] [.ref p, .ref tm]
                        refine V.callV (As := [.ref p]) (rest := []) (C := "java/util/TreeMap") cx (m_rotR l hl g A E tm ka va lf_ rt_ pa_ (va_up (va_up (va_up co_ s0 (co_ p)) p true) nb true) vl root_ n md h0 ix lo_ hi_ hI_ ht p s0 hpE hs0) rfl q1073 q1075 qs10 (Rv.of kJ1 (tm_t ht)) (na := 1) rfl (by decide +kernel) (Nat.le_of_ble_eq_true rfl) (by decide) (by decide) (by decide) rfl dJ1_fixAfterDeletion_334 (fun _ _ _ hx => hx.elim) (fun v463 h464 hp => ?_)
                        obtain ⟨rfl, rfl⟩ := hp
                        show V g A κ _ _ 0 0 (tmO E tm ka va (rrt rt_ lf_ pa_ p s0) (rlf rt_ pa_ p s0) (rpa rt_ pa_ p s0) (va_up (va_up (va_up co_ s0 (co_ p)) p true) nb true) vl (if pa_ p = none then some s0 else root_) n md h0) 337 [(2, .ref s0), (0, .ref tm), (1, .ref x_)] []
                        obtain ⟨rt4, lf4, pa4, root4, lo4, hi4, hI4, e14, e24, e34, e44, e54, e64⟩ : ∃ (rt4 lf4 pa4 : Nat → Option Nat) (root4 : Option Nat) (lo4 hi4 : Nat → Nat), Inv E ix lo4 hi4 lf4 rt4 pa4 root4 ∧ (rlf rt_ pa_ p s0) = rt4 ∧ (rrt rt_ lf_ pa_ p s0) = lf4 ∧ (rpa rt_ pa_ p s0) = pa4 ∧ (if pa_ p = none then some s0 else root_) = root4 ∧ (va_up lo_ p (ix s0 + 1)) = lo4 ∧ (va_up hi_ s0 (hi_ p)) = hi4 := ⟨_, _, _, _, _, _, Inv.rotR hI_ hpE hs0, rfl, rfl, rfl, rfl, rfl, rfl⟩
                        refine V.hto (h' := (tmO E tm ka va lf4 rt4 pa4 (va_up (va_up (va_up co_ s0 (co_ p)) p true) nb true) vl root4 n md h0)) (by rw [e14, e24, e34, e44]) ?_
                        show V g A κ _ _ 0 0 (tmO E tm ka va lf4 rt4 pa4 (va_up (va_up (va_up co_ s0 (co_ p)) p true) nb true) vl root4 n md h0) 337 [(2, .ref s0), (0, .ref tm), (1, .ref x_)] []
                        rcases opt_c root4 with hr4 | ⟨rr, hr4⟩
                        · exact absurd (Inv.root_some hI4 hx_) (fun e => absurd (hr4.symm.trans e.choose_spec) (by intro e; cases e))
                        · refine V.aload_n cx dJ1_fixAfterDeletion_337 rfl 1 rfl ?_
                          refine V.get cx kJ1 (tm_t ht) 3 (by decide) q158 rfl rfl dJ1_fixAfterDeletion_338 ?_
                          refine V.toq (o' := (some rr)) (by rw [hr4]) ?_
                          show V g A κ _ _ 0 0 (tmO E tm ka va lf4 rt4 pa4 (va_up (va_up (va_up co_ s0 (co_ p)) p true) nb true) vl root4 n md h0) 341 [(2, .ref s0), (0, .ref tm), (1, .ref x_)] [.ref rr]
                          refine V.astore_n (lv' := [(1, .ref rr), (2, .ref s0), (0, .ref tm)]) cx dJ1_fixAfterDeletion_341 rfl (by decide) rfl ?_
                          refine V.goto (tgt := 0) cx dJ1_fixAfterDeletion_342 (by decide) ?_
                          have k4 := hI4.2.2.2.2.2.2 rr hr4
                          refine V.sub [2, 0] rfl ?_
                          exact ih_ (rr, lo4, hi4, lf4, rt4, pa4, (va_up (va_up (va_up co_ s0 (co_ p)) p true) nb true), root4) (by dsimp only; exact (by have h1 := mz_; rw [k4.2.2.1, k4.2.2.2]; omega)) (by dsimp only; exact ⟨hI4, k4.1, fun r hr => Or.inr (Option.some.inj (hr4.symm.trans hr)), fun p0 hp0 => by have h1 := G_ p0 hp0; have h2 := hI4.2.1 p0 (hzE p0 hp0); have g := leaf_rot (fun q hq => (nt_ q hq).symm) hs0 h1.2.1 h1.1 (fun e => by have h3 := h1.1; rw [e, hnb] at h3; cases h3); rw [e14, e24] at g; exact ⟨g.2, g.1, by omega, by omega⟩⟩)
                      · exact absurd cz (by decide)
                    · exact absurd cz (by decide)
                  · refine V.aload_n cx dJ1_fixAfterDeletion_230 rfl 0 rfl ?_
                    refine V.callS (As := [.ref s0]) (rest := []) cx (m_rightOfS l hl g A E tm ka va lf_ rt_ pa_ co_ vl root_ n md h0 s0 hsE) q1060 q1061 (na := 1) rfl (by decide +kernel) (Nat.le_of_ble_eq_true rfl) (by decide) (by decide) (by decide) rfl dJ1_fixAfterDeletion_231 (fun _ _ _ hx => hx.elim) (fun v465 h466 hp => ?_)
                    obtain ⟨rfl, rfl⟩ := hp
                    show V g A κ _ _ 0 0 (tmO E tm ka va lf_ rt_ pa_ co_ vl root_ n md h0) 234 [(2, .ref s0), (0, .ref tm), (1, .ref x_)] [va_rf (rt_ s0)]
                    refine V.toq (o' := (some na)) (by rw [hna]) ?_
                    show V g A κ _ _ 0 0 (tmO E tm ka va lf_ rt_ pa_ co_ vl root_ n md h0) 234 [(2, .ref s0), (0, .ref tm), (1, .ref x_)] [.ref na]
                    refine V.callS (As := [.ref na]) (rest := []) cx (m_colorOfS l hl g A E tm ka va lf_ rt_ pa_ co_ vl root_ n md h0 na hnE) q1063 q1064 (na := 1) rfl (by decide +kernel) (Nat.le_of_ble_eq_true rfl) (by decide) (by decide) (by decide) rfl dJ1_fixAfterDeletion_234 (fun _ _ _ hx => hx.elim) (fun v467 h468 hp => ?_)
                    obtain ⟨rfl, rfl⟩ := hp
                    show V g A κ _ _ 0 0 (tmO E tm ka va lf_ rt_ pa_ co_ vl root_ n md h0) 237 [(2, .ref s0), (0, .ref tm), (1, .ref x_)] [.int (b2 (co_ na))]
                    refine V.tob (b := false) (by rw [hcn]) ?_
                    show V g A κ _ _ 0 0 (tmO E tm ka va lf_ rt_ pa_ co_ vl root_ n md h0) 237 [(2, .ref s0), (0, .ref tm), (1, .ref x_)] [.int (b2 false)]
                    refine V.iconst (v := (nI 1)) cx dJ1_fixAfterDeletion_237 (by decide) ?_
                    refine V.icmp_ne (tgt := 265) cx dJ1_fixAfterDeletion_238 (by decide) (fun cz => ?_) (fun cz => ?_)
                    · refine V.aload_n cx dJ1_fixAfterDeletion_265 rfl 0 rfl ?_
                      refine V.callS (As := [.ref s0]) (rest := []) cx (m_leftOfS l hl g A E tm ka va lf_ rt_ pa_ co_ vl root_ n md h0 s0 hsE) q1057 q1058 (na := 1) rfl (by decide +kernel) (Nat.le_of_ble_eq_true rfl) (by decide) (by decide) (by decide) rfl dJ1_fixAfterDeletion_266 (fun _ _ _ hx => hx.elim) (fun v469 h470 hp => ?_)
                      obtain ⟨rfl, rfl⟩ := hp
                      show V g A κ _ _ 0 0 (tmO E tm ka va lf_ rt_ pa_ co_ vl root_ n md h0) 269 [(2, .ref s0), (0, .ref tm), (1, .ref x_)] [va_rf (lf_ s0)]
                      show V g A κ _ _ 0 0 (tmO E tm ka va lf_ rt_ pa_ co_ vl root_ n md h0) 269 [(2, .ref s0), (0, .ref tm), (1, .ref x_)] [va_rf (lf_ s0)]
                      refine V.callS (As := [va_rf (lf_ s0)]) (rest := []) cx (m_colorOf l hl g A E tm ka va lf_ rt_ pa_ co_ vl root_ n md h0 (lf_ s0) (fun e he => ((hI_.2.2.1 s0 hsE).2 e he).1)) q1063 q1064 (na := 1) rfl (by decide +kernel) (Nat.le_of_ble_eq_true rfl) (by decide) (by decide) (by decide) rfl dJ1_fixAfterDeletion_269 (fun _ _ _ hx => hx.elim) (fun v471 h472 hp => ?_)
                      obtain ⟨rfl, rfl⟩ := hp
                      show V g A κ _ _ 0 0 (tmO E tm ka va lf_ rt_ pa_ co_ vl root_ n md h0) 272 [(2, .ref s0), (0, .ref tm), (1, .ref x_)] [.int (b2 (Option.elim (lf_ s0) true co_))]
                      refine V.tob (b := true) hcf ?_
                      refine V.iconst (v := (nI 1)) cx dJ1_fixAfterDeletion_272 (by decide) ?_
                      refine V.icmp_ne (tgt := 302) cx dJ1_fixAfterDeletion_273 (by decide) (fun cz => ?_) (fun cz => ?_)
                      · exact absurd rfl cz
                      · have nns : na ≠ s0 := fun e => by have h1 := (hI_.2.2.2.1 s0 hsE).2 na hna; have h2 := hI_.2.1 na hnE; rw [e] at h1 h2; omega
                        refine V.aload_n cx dJ1_fixAfterDeletion_276 rfl 0 rfl ?_
                        refine V.callS (As := [.ref s0]) (rest := []) cx (m_rightOfS l hl g A E tm ka va lf_ rt_ pa_ co_ vl root_ n md h0 s0 hsE) q1060 q1061 (na := 1) rfl (by decide +kernel) (Nat.le_of_ble_eq_true rfl) (by decide) (by decide) (by decide) rfl dJ1_fixAfterDeletion_277 (fun _ _ _ hx => hx.elim) (fun v473 h474 hp => ?_)
                        obtain ⟨rfl, rfl⟩ := hp
                        show V g A κ _ _ 0 0 (tmO E tm ka va lf_ rt_ pa_ co_ vl root_ n md h0) 280 [(2, .ref s0), (0, .ref tm), (1, .ref x_)] [va_rf (rt_ s0)]
                        refine V.toq (o' := (some na)) (by rw [hna]) ?_
                        show V g A κ _ _ 0 0 (tmO E tm ka va lf_ rt_ pa_ co_ vl root_ n md h0) 280 [(2, .ref s0), (0, .ref tm), (1, .ref x_)] [.ref na]
                        refine V.iconst (v := (nI 1)) cx dJ1_fixAfterDeletion_280 (by decide) ?_
                        refine V.toi (y := b2 true) (by decide) ?_
                        refine V.callS (As := [.ref na, .int (b2 true)]) (rest := []) cx (m_setColorS l hl g A E tm ka va lf_ rt_ pa_ co_ vl root_ n md h0 na hnE true) q1066 q1067 (na := 2) rfl (by decide +kernel) (Nat.le_of_ble_eq_true rfl) (by decide) (by decide) (by decide) rfl dJ1_fixAfterDeletion_281 (fun _ _ _ hx => hx.elim) (fun v475 h476 hp => ?_)
                        obtain ⟨rfl, rfl⟩ := hp
                        show V g A κ _ _ 0 0 (tmO E tm ka va lf_ rt_ pa_ (va_up co_ na true) vl root_ n md h0) 284 [(2, .ref s0), (0, .ref tm), (1, .ref x_)] []
                        refine V.aload_n cx dJ1_fixAfterDeletion_284 rfl 0 rfl ?_
                        refine V.iconst (v := (nI 0)) cx dJ1_fixAfterDeletion_285 (by decide) ?_
                        refine V.toi (y := b2 false) (by decide) ?_
                        refine V.callS (As := [.ref s0, .int (b2 false)]) (rest := []) cx (m_setColorS l hl g A E tm ka va lf_ rt_ pa_ (va_up co_ na true) vl root_ n md h0 s0 hsE false) q1066 q1067 (na := 2) rfl (by decide +kernel) (Nat.le_of_ble_eq_true rfl) (by decide) (by decide) (by decide) rfl dJ1_fixAfterDeletion_286 (fun _ _ _ hx => hx.elim) (fun v477 h478 hp => ?_)
                        obtain ⟨rfl, rfl⟩ := hp
                        show V g A κ _ _ 0 0 (tmO E tm ka va lf_ rt_ pa_ (va_up (va_up co_ na true) s0 false) vl root_ n md h0) 289 [(2, .ref s0), (0, .ref tm), (1, .ref x_)] []
                        refine V.aload_n cx dJ1_fixAfterDeletion_289 rfl 1 rfl ?_
                        refine V.aload_n cx dJ1_fixAfterDeletion_290 rfl 0 rfl ?_
                        refine V.callV (As := [.ref s0]) (rest := []) (C := "java/util/TreeMap") cx (m_rotL l hl g A E tm ka va lf_ rt_ pa_ (va_up (va_up co_ na true) s0 false) vl root_ n md h0 ix lo_ hi_ hI_ ht s0 na hsE hna) rfl q1069 q1071 qs9 (Rv.of kJ1 (tm_t ht)) (na := 1) rfl (by decide +kernel) (Nat.le_of_ble_eq_true rfl) (by decide) (by decide) (by decide) rfl dJ1_fixAfterDeletion_291 (fun _ _ _ hx => hx.elim) (fun v479 h480 hp => ?_)
                        obtain ⟨rfl, rfl⟩ := hp
                        show V g A κ _ _ 0 0 (tmO E tm ka va (rlf lf_ pa_ s0 na) (rrt lf_ rt_ pa_ s0 na) (rpa lf_ pa_ s0 na) (va_up (va_up co_ na true) s0 false) vl (if pa_ s0 = none then some na else root_) n md h0) 294 [(2, .ref s0), (0, .ref tm), (1, .ref x_)] []
                        obtain ⟨lf3, rt3, pa3, root3, lo3, hi3, hI3, e13, e23, e33, e43, e53, e63⟩ : ∃ (lf3 rt3 pa3 : Nat → Option Nat) (root3 : Option Nat) (lo3 hi3 : Nat → Nat), Inv E ix lo3 hi3 lf3 rt3 pa3 root3 ∧ (rlf lf_ pa_ s0 na) = lf3 ∧ (rrt lf_ rt_ pa_ s0 na) = rt3 ∧ (rpa lf_ pa_ s0 na) = pa3 ∧ (if pa_ s0 = none then some na else root_) = root3 ∧ (va_up lo_ na (lo_ s0)) = lo3 ∧ (va_up hi_ s0 (ix na)) = hi3 := ⟨_, _, _, _, _, _, Inv.rotL hI_ hsE hna, rfl, rfl, rfl, rfl, rfl, rfl⟩
                        refine V.hto (h' := (tmO E tm ka va lf3 rt3 pa3 (va_up (va_up co_ na true) s0 false) vl root3 n md h0)) (by rw [e13, e23, e33, e43]) ?_
                        show V g A κ _ _ 0 0 (tmO E tm ka va lf3 rt3 pa3 (va_up (va_up co_ na true) s0 false) vl root3 n md h0) 294 [(2, .ref s0), (0, .ref tm), (1, .ref x_)] []
                        obtain ⟨co3, hco3⟩ : ∃ z : Nat → Bool, (va_up (va_up co_ na true) s0 false) = z := ⟨_, rfl⟩
                        refine V.hto (h' := (tmO E tm ka va lf3 rt3 pa3 co3 vl root3 n md h0)) (by rw [hco3]) ?_
                        show V g A κ _ _ 0 0 (tmO E tm ka va lf3 rt3 pa3 co3 vl root3 n md h0) 294 [(2, .ref s0), (0, .ref tm), (1, .ref x_)] []
                        have q1 := (hI_.2.2.2.1 p hpE).2 x_ hlx_
                        have q2 := (hI_.2.2.1 p hpE).2 s0 hs0
                        have q3 := (hI_.2.2.2.1 s0 hsE).2 na hna
                        have q4 := hI_.2.1 na hnE
                        have q5 := hI_.2.1 x_ hx_
                        have q6 := hI_.2.1 p hpE
                        have q7 := hI_.2.1 s0 hsE
                        have nnp : na ≠ p := fun e => by subst e; omega
                        have nxn : x_ ≠ na := fun e => by subst e; omega
                        have nxs : x_ ≠ s0 := fun e => by subst e; omega
                        have hxp3 : pa3 x_ = some p := by rw [← e33]; unfold rpa; rw [if_neg nxs, if_neg nxn, if_neg (fun e => by have h1 := ((hI_.2.2.1 na hnE).2 x_ e).2.1; rw [hxp_] at h1; exact nnp (Option.some.inj h1).symm)]; exact hxp_
                        have hs3 : lf3 p = some na := by rw [← e13]; unfold rlf; rw [if_neg (Ne.symm nnp), if_pos ⟨hsp, hs0⟩]
                        have hf3 : lf3 na = some s0 := by rw [← e13]; unfold rlf; rw [if_pos rfl]
                        have hlx3 : rt3 p = some x_ := by rw [← e23]; unfold rrt; rw [if_neg (Ne.symm nsp), if_neg (fun e => e.2 hs0)]; exact hlx_
                        have rg3 : lo3 x_ = lo_ x_ ∧ hi3 x_ = hi_ x_ := by rw [← e53, ← e63]; unfold va_up; rw [if_neg nxn, if_neg nxs]; exact rg_
                        have hB3 : ∀ r, root3 = some r → co3 r = true := fun r hr => by
                          rw [← e43, hsp, if_neg (by simp)] at hr
                          have h1 := hB_ r hr
                          have h2 := (hI_.2.2.2.2.2.2 r hr).2.1
                          rw [← hco3]; unfold va_up
                          rw [if_neg (fun e => by rw [e, hsp] at h2; cases h2)]
                          by_cases hrn : r = na
                          · rw [if_pos hrn]
                          · rw [if_neg hrn]; exact h1
                        have G3 : ∀ p0, z = some p0 → lf3 p0 = none ∧ rt3 p0 = none ∧ lo3 x_ ≤ ix p0 ∧ ix p0 < hi3 x_ := fun p0 hp0 => by
                          have g := G_ p0 hp0
                          have gg := leaf_rot (fun q hq => id ((hI_.2.2.2.2.1 s0 hsE).2 q hq).2) hna g.1 g.2.1 (fun e => by subst e; have := rg_; omega)
                          rw [e13, e23] at gg
                          exact ⟨gg.1, gg.2, by have := rg3; have := rg_; omega, by have := rg3; have := rg_; omega⟩
                        refine V.aload_n cx dJ1_fixAfterDeletion_294 rfl 2 rfl ?_
                        refine V.callS (As := [.ref x_]) (rest := []) cx (m_parentOfS l hl g A E tm ka va lf3 rt3 pa3 co3 vl root3 n md h0 x_ hx_) q1054 q1055 (na := 1) rfl (by decide +kernel) (Nat.le_of_ble_eq_true rfl) (by decide) (by decide) (by decide) rfl dJ1_fixAfterDeletion_295 (fun _ _ _ hx => hx.elim) (fun v481 h482 hp => ?_)
                        obtain ⟨rfl, rfl⟩ := hp
                        show V g A κ _ _ 0 0 (tmO E tm ka va lf3 rt3 pa3 co3 vl root3 n md h0) 298 [(2, .ref s0), (0, .ref tm), (1, .ref x_)] [va_rf (pa3 x_)]
                        refine V.toq (o' := (some p)) (by rw [hxp3]) ?_
                        show V g A κ _ _ 0 0 (tmO E tm ka va lf3 rt3 pa3 co3 vl root3 n md h0) 298 [(2, .ref s0), (0, .ref tm), (1, .ref x_)] [.ref p]
                        refine V.callS (As := [.ref p]) (rest := []) cx (m_leftOfS l hl g A E tm ka va lf3 rt3 pa3 co3 vl root3 n md h0 p hpE) q1057 q1058 (na := 1) rfl (by decide +kernel) (Nat.le_of_ble_eq_true rfl) (by decide) (by decide) (by decide) rfl dJ1_fixAfterDeletion_298 (fun _ _ _ hx => hx.elim) (fun v483 h484 hp => ?_)
                        obtain ⟨rfl, rfl⟩ := hp
                        show V g A κ _ _ 0 0 (tmO E tm ka va lf3 rt3 pa3 co3 vl root3 n md h0) 301 [(2, .ref s0), (0, .ref tm), (1, .ref x_)] [va_rf (lf3 p)]
                        refine V.toq (o' := (some na)) (by rw [hs3]) ?_
                        show V g A κ _ _ 0 0 (tmO E tm ka va lf3 rt3 pa3 co3 vl root3 n md h0) 301 [(2, .ref s0), (0, .ref tm), (1, .ref x_)] [.ref na]
                        refine V.astore_n (lv' := [(2, .ref na), (0, .ref tm), (1, .ref x_)]) cx dJ1_fixAfterDeletion_301 rfl (by decide) rfl ?_
                        refine V.aload_n cx dJ1_fixAfterDeletion_302 rfl 0 rfl ?_
                        refine V.aload_n cx dJ1_fixAfterDeletion_303 rfl 2 rfl ?_
                        have mz3 : lo3 p ≤ lo3 x_ ∧ hi3 x_ ≤ hi3 p ∧ hi3 p - lo3 p > hi_ x_ - lo_ x_ ∧ lo3 x_ = lo_ x_ ∧ hi3 x_ = hi_ x_ ∧ hi3 p ≤ E.length ∧ lo3 p ≤ hi3 p := by
                          have h1 := hI3.2.1 p hpE
                          have h2 := hI3.2.1 x_ hx_
                          have h3 := (hI3.2.2.2.1 p hpE).2 x_ hlx3
                          have h4 := rg3
                          omega
                        have nt3 : ∀ q, pa3 p = some q → lf3 q = some p ∨ rt3 q = some p := fun q hq => ((hI3.2.2.2.2.1 p hpE).2 q hq).2
                        refine V.callS (As := [.ref x_]) (rest := [.ref na]) cx (m_parentOfS l hl g A E tm ka va lf3 rt3 pa3 co3 vl root3 n md h0 x_ hx_) q1054 q1055 (na := 1) rfl (by decide +kernel) (Nat.le_of_ble_eq_true rfl) (by decide) (by decide) (by decide) rfl dJ1_fixAfterDeletion_304 (fun _ _ _ hx => hx.elim) (fun v485 h486 hp => ?_)
                        obtain ⟨rfl, rfl⟩ := hp
                        show V g A κ _ _ 0 0 (tmO E tm ka va lf3 rt3 pa3 co3 vl root3 n md h0) 307 [(2, .ref na), (0, .ref tm), (1, .ref x_)] [va_rf (pa3 x_), .ref na]
                        refine V.toq (o' := (some p)) (by rw [hxp3]) ?_
                        show V g A κ _ _ 0 0 (tmO E tm ka va lf3 rt3 pa3 co3 vl root3 n md h0) 307 [(2, .ref na), (0, .ref tm), (1, .ref x_)] [.ref p, .ref na]
                        refine V.callS (As := [.ref p]) (rest := [.ref na]) cx (m_colorOfS l hl g A E tm ka va lf3 rt3 pa3 co3 vl root3 n md h0 p hpE) q1063 q1064 (na := 1) rfl (by decide +kernel) (Nat.le_of_ble_eq_true rfl) (by decide) (by decide) (by decide) rfl dJ1_fixAfterDeletion_307 (fun _ _ _ hx => hx.elim) (fun v487 h488 hp => ?_)
                        obtain ⟨rfl, rfl⟩ := hp
                        show V g A κ _ _ 0 0 (tmO E tm ka va lf3 rt3 pa3 co3 vl root3 n md h0) 310 [(2, .ref na), (0, .ref tm), (1, .ref x_)] [.int (b2 (co3 p)), .ref na]
                        show V g A κ _ _ 0 0 (tmO E tm ka va lf3 rt3 pa3 co3 vl root3 n md h0) 310 [(2, .ref na), (0, .ref tm), (1, .ref x_)] [.int (b2 (co3 p)), .ref na]
                        refine V.callS (As := [.ref na, .int (b2 (co3 p))]) (rest := []) cx (m_setColorS l hl g A E tm ka va lf3 rt3 pa3 co3 vl root3 n md h0 na hnE (co3 p)) q1066 q1067 (na := 2) rfl (by decide +kernel) (Nat.le_of_ble_eq_true rfl) (by decide) (by decide) (by decide) rfl dJ1_fixAfterDeletion_310 (fun _ _ _ hx => hx.elim) (fun v489 h490 hp => ?_)
                        obtain ⟨rfl, rfl⟩ := hp
                        show V g A κ _ _ 0 0 (tmO E tm ka va lf3 rt3 pa3 (va_up co3 na (co3 p)) vl root3 n md h0) 313 [(2, .ref na), (0, .ref tm), (1, .ref x_)] []
                        refine V.aload_n cx dJ1_fixAfterDeletion_313 rfl 2 rfl ?_
                        refine V.callS (As := [.ref x_]) (rest := []) cx (m_parentOfS l hl g A E tm ka va lf3 rt3 pa3 (va_up co3 na (co3 p)) vl root3 n md h0 x_ hx_) q1054 q1055 (na := 1) rfl (by decide +kernel) (Nat.le_of_ble_eq_true rfl) (by decide) (by decide) (by decide) rfl dJ1_fixAfterDeletion_314 (fun _ _ _ hx => hx.elim) (fun v491 h492 hp => ?_)
                        obtain ⟨rfl, rfl⟩ := hp
                        show V g A κ _ _ 0 0 (tmO E tm ka va lf3 rt3 pa3 (va_up co3 na (co3 p)) vl root3 n md h0) 317 [(2, .ref na), (0, .ref tm), (1, .ref x_)] [va_rf (pa3 x_)]
                        refine V.toq (o' := (some p)) (by rw [hxp3]) ?_
                        show V g A κ _ _ 0 0 (tmO E tm ka va lf3 rt3 pa3 (va_up co3 na (co3 p)) vl root3 n md h0) 317 [(2, .ref na), (0, .ref tm), (1, .ref x_)] [.ref p]
                        refine V.iconst (v := (nI 1)) cx dJ1_fixAfterDeletion_317 (by decide) ?_
                        refine V.toi (y := b2 true) (by decide) ?_
                        refine V.callS (As := [.ref p, .int (b2 true)]) (rest := []) cx (m_setColorS l hl g A E tm ka va lf3 rt3 pa3 (va_up co3 na (co3 p)) vl root3 n md h0 p hpE true) q1066 q1067 (na := 2) rfl (by decide +kernel) (Nat.le_of_ble_eq_true rfl) (by decide) (by decide) (by decide) rfl dJ1_fixAfterDeletion_318 (fun _ _ _ hx => hx.elim) (fun v493 h494 hp => ?_)
                        obtain ⟨rfl, rfl⟩ := hp
                        show V g A κ _ _ 0 0 (tmO E tm ka va lf3 rt3 pa3 (va_up (va_up co3 na (co3 p)) p true) vl root3 n md h0) 321 [(2, .ref na), (0, .ref tm), (1, .ref x_)] []
                        refine V.aload_n cx dJ1_fixAfterDeletion_321 rfl 0 rfl ?_
                        refine V.callS (As := [.ref na]) (rest := []) cx (m_leftOfS l hl g A E tm ka va lf3 rt3 pa3 (va_up (va_up co3 na (co3 p)) p true) vl root3 n md h0 na hnE) q1057 q1058 (na := 1) rfl (by decide +kernel) (Nat.le_of_ble_eq_true rfl) (by decide) (by decide) (by decide) rfl dJ1_fixAfterDeletion_322 (fun _ _ _ hx => hx.elim) (fun v495 h496 hp => ?_)
                        obtain ⟨rfl, rfl⟩ := hp
                        show V g A κ _ _ 0 0 (tmO E tm ka va lf3 rt3 pa3 (va_up (va_up co3 na (co3 p)) p true) vl root3 n md h0) 325 [(2, .ref na), (0, .ref tm), (1, .ref x_)] [va_rf (lf3 na)]
                        refine V.toq (o' := (some s0)) (by rw [hf3]) ?_
                        show V g A κ _ _ 0 0 (tmO E tm ka va lf3 rt3 pa3 (va_up (va_up co3 na (co3 p)) p true) vl root3 n md h0) 325 [(2, .ref na), (0, .ref tm), (1, .ref x_)] [.ref s0]
                        refine V.iconst (v := (nI 1)) cx dJ1_fixAfterDeletion_325 (by decide) ?_
                        refine V.toi (y := b2 true) (by decide) ?_
                        refine V.callS (As := [.ref s0, .int (b2 true)]) (rest := []) cx (m_setColorS l hl g A E tm ka va lf3 rt3 pa3 (va_up (va_up co3 na (co3 p)) p true) vl root3 n md h0 s0 hsE true) q1066 q1067 (na := 2) rfl (by decide +kernel) (Nat.le_of_ble_eq_true rfl) (by decide) (by decide) (by decide) rfl dJ1_fixAfterDeletion_326 (fun _ _ _ hx => hx.elim) (fun v497 h498 hp => ?_)
                        obtain ⟨rfl, rfl⟩ := hp
                        show V g A κ _ _ 0 0 (tmO E tm ka va lf3 rt3 pa3 (va_up (va_up (va_up co3 na (co3 p)) p true) s0 true) vl root3 n md h0) 329 [(2, .ref na), (0, .ref tm), (1, .ref x_)] []
                        refine V.aload_n cx dJ1_fixAfterDeletion_329 rfl 1 rfl ?_
                        refine V.aload_n cx dJ1_fixAfterDeletion_330 rfl 2 rfl ?_
                        refine V.callS (As := [.ref x_]) (rest := [.ref tm]) cx (m_parentOfS l hl g A E tm ka va lf3 rt3 pa3 (va_up (va_up (va_up co3 na (co3 p)) p true) s0 true) vl root3 n md h0 x_ hx_) q1054 q1055 (na := 1) rfl (by decide +kernel) (Nat.le_of_ble_eq_true rfl) (by decide) (by decide) (by decide) rfl dJ1_fixAfterDeletion_331 (fun _ _ _ hx => hx.elim) (fun v499 h500 hp => ?_)
                        obtain ⟨rfl, rfl⟩ := hp
                        show V g A κ _ _ 0 0 (tmO E tm ka va lf3 rt3 pa3 (va_up (va_up (va_up co3 na (co3 p)) p true) s0 true) vl root3 n md h0) 334 [(2, .ref na), (0, .ref tm), (1, .ref x_)] [va_rf (pa3 x_), .ref tm]
                        refine V.toq (o' := (some p)) (by rw [hxp3]) ?_
                        show V g A κ _ _ 0 0 (tmO E tm ka va lf3 rt3 pa3 (va_up (va_up (va_up co3 na (co3 p)) p true) s0 true) vl root3 n md h0) 334 [(2, .ref na), (0, .ref tm), (1, .ref x_)] [.ref p, .ref tm]
                        refine V.callV (As := [.ref p]) (rest := []) (C := "java/util/TreeMap") cx (m_rotR l hl g A E tm ka va lf3 rt3 pa3 (va_up (va_up (va_up co3 na (co3 p)) p true) s0 true) vl root3 n md h0 ix lo3 hi3 hI3 ht p na hpE hs3) rfl q1073 q1075 qs10 (Rv.of kJ1 (tm_t ht)) (na := 1) rfl (by decide +kernel) (Nat.le_of_ble_eq_true rfl) (by decide) (by decide) (by decide) rfl dJ1_fixAfterDeletion_334 (fun _ _ _ hx => hx.elim) (fun v501 h502 hp => ?_)
                        obtain ⟨rfl, rfl⟩ := hp
                        show V g A κ _ _ 0 0 (tmO E tm ka va (rrt rt3 lf3 pa3 p na) (rlf rt3 pa3 p na) (rpa rt3 pa3 p na) (va_up (va_up (va_up co3 na (co3 p)) p true) s0 true) vl (if pa3 p = none then some na else root3) n md h0) 337 [(2, .ref na), (0, .ref tm), (1, .ref x_)] []
                        obtain ⟨rt4, lf4, pa4, root4, lo4, hi4, hI4, e14, e24, e34, e44, e54, e64⟩ : ∃ (rt4 lf4 pa4 : Nat → Option Nat) (root4 : Option Nat) (lo4 hi4 : Nat → Nat), Inv E ix lo4 hi4 lf4 rt4 pa4 root4 ∧ (rlf rt3 pa3 p na) = rt4 ∧ (rrt rt3 lf3 pa3 p na) = lf4 ∧ (rpa rt3 pa3 p na) = pa4 ∧ (if pa3 p = none then some na else root3) = root4 ∧ (va_up lo3 p (ix na + 1)) = lo4 ∧ (va_up hi3 na (hi3 p)) = hi4 := ⟨_, _, _, _, _, _, Inv.rotR hI3 hpE hs3, rfl, rfl, rfl, rfl, rfl, rfl⟩
                        refine V.hto (h' := (tmO E tm ka va lf4 rt4 pa4 (va_up (va_up (va_up co3 na (co3 p)) p true) s0 true) vl root4 n md h0)) (by rw [e14, e24, e34, e44]) ?_
                        show V g A κ _ _ 0 0 (tmO E tm ka va lf4 rt4 pa4 (va_up (va_up (va_up co3 na (co3 p)) p true) s0 true) vl root4 n md h0) 337 [(2, .ref na), (0, .ref tm), (1, .ref x_)] []
                        rcases opt_c root4 with hr4 | ⟨rr, hr4⟩
                        · exact absurd (Inv.root_some hI4 hx_) (fun e => absurd (hr4.symm.trans e.choose_spec) (by intro e; cases e))
                        · refine V.aload_n cx dJ1_fixAfterDeletion_337 rfl 1 rfl ?_
                          refine V.get cx kJ1 (tm_t ht) 3 (by decide) q158 rfl rfl dJ1_fixAfterDeletion_338 ?_
                          refine V.toq (o' := (some rr)) (by rw [hr4]) ?_
                          show V g A κ _ _ 0 0 (tmO E tm ka va lf4 rt4 pa4 (va_up (va_up (va_up co3 na (co3 p)) p true) s0 true) vl root4 n md h0) 341 [(2, .ref na), (0, .ref tm), (1, .ref x_)] [.ref rr]
                          refine V.astore_n (lv' := [(1, .ref rr), (2, .ref na), (0, .ref tm)]) cx dJ1_fixAfterDeletion_341 rfl (by decide) rfl ?_
                          refine V.goto (tgt := 0) cx dJ1_fixAfterDeletion_342 (by decide) ?_
                          have k4 := hI4.2.2.2.2.2.2 rr hr4
                          refine V.sub [2, 0] rfl ?_
                          exact ih_ (rr, lo4, hi4, lf4, rt4, pa4, (va_up (va_up (va_up co3 na (co3 p)) p true) s0 true), root4) (by dsimp only; exact (by have h1 := mz3; rw [k4.2.2.1, k4.2.2.2]; omega)) (by dsimp only; exact ⟨hI4, k4.1, fun r hr => Or.inr (Option.some.inj (hr4.symm.trans hr)), fun p0 hp0 => by have h1 := G3 p0 hp0; have h2 := hI4.2.1 p0 (hzE p0 hp0); have g := leaf_rot (fun q hq => (nt3 q hq).symm) hs3 h1.2.1 h1.1 (fun e => by have h3 := h1.1; rw [e, hf3] at h3; cases h3); rw [e14, e24] at g; exact ⟨g.2, g.1, by omega, by omega⟩⟩)
                    · exact absurd cz (by decide)
                · rcases unc (lf_ s0) co_ with ⟨nb, hnb, hcf⟩ | hcf
                  · have hfE : nb ∈ E := (fun e he => ((hI_.2.2.1 s0 hsE).2 e he).1) nb hnb
                    refine V.aload_n cx dJ1_fixAfterDeletion_230 rfl 0 rfl ?_
                    refine V.callS (As := [.ref s0]) (rest := []) cx (m_rightOfS l hl g A E tm ka va lf_ rt_ pa_ co_ vl root_ n md h0 s0 hsE) q1060 q1061 (na := 1) rfl (by decide +kernel) (Nat.le_of_ble_eq_true rfl) (by decide) (by decide) (by decide) rfl dJ1_fixAfterDeletion_231 (fun _ _ _ hx => hx.elim) (fun v503 h504 hp => ?_)
                    obtain ⟨rfl, rfl⟩ := hp
                    show V g A κ _ _ 0 0 (tmO E tm ka va lf_ rt_ pa_ co_ vl root_ n md h0) 234 [(2, .ref s0), (0, .ref tm), (1, .ref x_)] [va_rf (rt_ s0)]
                    show V g A κ _ _ 0 0 (tmO E tm ka va lf_ rt_ pa_ co_ vl root_ n md h0) 234 [(2, .ref s0), (0, .ref tm), (1, .ref x_)] [va_rf (rt_ s0)]
                    refine V.callS (As := [va_rf (rt_ s0)]) (rest := []) cx (m_colorOf l hl g A E tm ka va lf_ rt_ pa_ co_ vl root_ n md h0 (rt_ s0) (fun e he => ((hI_.2.2.2.1 s0 hsE).2 e he).1)) q1063 q1064 (na := 1) rfl (by decide +kernel) (Nat.le_of_ble_eq_true rfl) (by decide) (by decide) (by decide) rfl dJ1_fixAfterDeletion_234 (fun _ _ _ hx => hx.elim) (fun v505 h506 hp => ?_)
                    obtain ⟨rfl, rfl⟩ := hp
                    show V g A κ _ _ 0 0 (tmO E tm ka va lf_ rt_ pa_ co_ vl root_ n md h0) 237 [(2, .ref s0), (0, .ref tm), (1, .ref x_)] [.int (b2 (Option.elim (rt_ s0) true co_))]
                    refine V.tob (b := true) hcn ?_
                    refine V.iconst (v := (nI 1)) cx dJ1_fixAfterDeletion_237 (by decide) ?_
                    refine V.icmp_ne (tgt := 265) cx dJ1_fixAfterDeletion_238 (by decide) (fun cz => ?_) (fun cz => ?_)
                    · exact absurd rfl cz
                    · refine V.aload_n cx dJ1_fixAfterDeletion_241 rfl 0 rfl ?_
                      refine V.callS (As := [.ref s0]) (rest := []) cx (m_leftOfS l hl g A E tm ka va lf_ rt_ pa_ co_ vl root_ n md h0 s0 hsE) q1057 q1058 (na := 1) rfl (by decide +kernel) (Nat.le_of_ble_eq_true rfl) (by decide) (by decide) (by decide) rfl dJ1_fixAfterDeletion_242 (fun _ _ _ hx => hx.elim) (fun v507 h508 hp => ?_)
                      obtain ⟨rfl, rfl⟩ := hp
                      show V g A κ _ _ 0 0 (tmO E tm ka va lf_ rt_ pa_ co_ vl root_ n md h0) 245 [(2, .ref s0), (0, .ref tm), (1, .ref x_)] [va_rf (lf_ s0)]
                      refine V.toq (o' := (some nb)) (by rw [hnb]) ?_
                      show V g A κ _ _ 0 0 (tmO E tm ka va lf_ rt_ pa_ co_ vl root_ n md h0) 245 [(2, .ref s0), (0, .ref tm), (1, .ref x_)] [.ref nb]
                      refine V.callS (As := [.ref nb]) (rest := []) cx (m_colorOfS l hl g A E tm ka va lf_ rt_ pa_ co_ vl root_ n md h0 nb hfE) q1063 q1064 (na := 1) rfl (by decide +kernel) (Nat.le_of_ble_eq_true rfl) (by decide) (by decide) (by decide) rfl dJ1_fixAfterDeletion_245 (fun _ _ _ hx => hx.elim) (fun v509 h510 hp => ?_)
                      obtain ⟨rfl, rfl⟩ := hp
                      show V g A κ _ _ 0 0 (tmO E tm ka va lf_ rt_ pa_ co_ vl root_ n md h0) 248 [(2, .ref s0), (0, .ref tm), (1, .ref x_)] [.int (b2 (co_ nb))]
                      refine V.tob (b := false) (by rw [hcf]) ?_
                      show V g A κ _ _ 0 0 (tmO E tm ka va lf_ rt_ pa_ co_ vl root_ n md h0) 248 [(2, .ref s0), (0, .ref tm), (1, .ref x_)] [.int (b2 false)]
                      refine V.iconst (v := (nI 1)) cx dJ1_fixAfterDeletion_248 (by decide) ?_
                      refine V.icmp_ne (tgt := 265) cx dJ1_fixAfterDeletion_249 (by decide) (fun cz => ?_) (fun cz => ?_)
                      · refine V.aload_n cx dJ1_fixAfterDeletion_265 rfl 0 rfl ?_
                        refine V.callS (As := [.ref s0]) (rest := []) cx (m_leftOfS l hl g A E tm ka va lf_ rt_ pa_ co_ vl root_ n md h0 s0 hsE) q1057 q1058 (na := 1) rfl (by decide +kernel) (Nat.le_of_ble_eq_true rfl) (by decide) (by decide) (by decide) rfl dJ1_fixAfterDeletion_266 (fun _ _ _ hx => hx.elim) (fun v511 h512 hp => ?_)
                        obtain ⟨rfl, rfl⟩ := hp
                        show V g A κ _ _ 0 0 (tmO E tm ka va lf_ rt_ pa_ co_ vl root_ n md h0) 269 [(2, .ref s0), (0, .ref tm), (1, .ref x_)] [va_rf (lf_ s0)]
                        refine V.toq (o' := (some nb)) (by rw [hnb]) ?_
                        show V g A κ _ _ 0 0 (tmO E tm ka va lf_ rt_ pa_ co_ vl root_ n md h0) 269 [(2, .ref s0), (0, .ref tm), (1, .ref x_)] [.ref nb]
                        refine V.callS (As := [.ref nb]) (rest := []) cx (m_colorOfS l hl g A E tm ka va lf_ rt_ pa_ co_ vl root_ n md h0 nb hfE) q1063 q1064 (na := 1) rfl (by decide +kernel) (Nat.le_of_ble_eq_true rfl) (by decide) (by decide) (by decide) rfl dJ1_fixAfterDeletion_269 (fun _ _ _ hx => hx.elim) (fun v513 h514 hp => ?_)
                        obtain ⟨rfl, rfl⟩ := hp
                        show V g A κ _ _ 0 0 (tmO E tm ka va lf_ rt_ pa_ co_ vl root_ n md h0) 272 [(2, .ref s0), (0, .ref tm), (1, .ref x_)] [.int (b2 (co_ nb))]
                        refine V.tob (b := false) (by rw [hcf]) ?_
                        show V g A κ _ _ 0 0 (tmO E tm ka va lf_ rt_ pa_ co_ vl root_ n md h0) 272 [(2, .ref s0), (0, .ref tm), (1, .ref x_)] [.int (b2 false)]
                        refine V.iconst (v := (nI 1)) cx dJ1_fixAfterDeletion_272 (by decide) ?_
                        refine V.icmp_ne (tgt := 302) cx dJ1_fixAfterDeletion_273 (by decide) (fun cz => ?_) (fun cz => ?_)
                        · refine V.aload_n cx dJ1_fixAfterDeletion_302 rfl 0 rfl ?_
                          refine V.aload_n cx dJ1_fixAfterDeletion_303 rfl 2 rfl ?_
                          refine V.callS (As := [.ref x_]) (rest := [.ref s0]) cx (m_parentOfS l hl g A E tm ka va lf_ rt_ pa_ co_ vl root_ n md h0 x_ hx_) q1054 q1055 (na := 1) rfl (by decide +kernel) (Nat.le_of_ble_eq_true rfl) (by decide) (by decide) (by decide) rfl dJ1_fixAfterDeletion_304 (fun _ _ _ hx => hx.elim) (fun v515 h516 hp => ?_)
                          obtain ⟨rfl, rfl⟩ := hp
                          show V g A κ _ _ 0 0 (tmO E tm ka va lf_ rt_ pa_ co_ vl root_ n md h0) 307 [(2, .ref s0), (0, .ref tm), (1, .ref x_)] [va_rf (pa_ x_), .ref s0]
                          refine V.toq (o' := (some p)) (by rw [hxp_]) ?_
                          show V g A κ _ _ 0 0 (tmO E tm ka va lf_ rt_ pa_ co_ vl root_ n md h0) 307 [(2, .ref s0), (0, .ref tm), (1, .ref x_)] [.ref p, .ref s0]
                          refine V.callS (As := [.ref p]) (rest := [.ref s0]) cx (m_colorOfS l hl g A E tm ka va lf_ rt_ pa_ co_ vl root_ n md h0 p hpE) q1063 q1064 (na := 1) rfl (by decide +kernel) (Nat.le_of_ble_eq_true rfl) (by decide) (by decide) (by decide) rfl dJ1_fixAfterDeletion_307 (fun _ _ _ hx => hx.elim) (fun v517 h518 hp => ?_)
                          obtain ⟨rfl, rfl⟩ := hp
                          show V g A κ _ _ 0 0 (tmO E tm ka va lf_ rt_ pa_ co_ vl root_ n md h0) 310 [(2, .ref s0), (0, .ref tm), (1, .ref x_)] [.int (b2 (co_ p)), .ref s0]
                          show V g A κ _ _ 0 0 (tmO E tm ka va lf_ rt_ pa_ co_ vl root_ n md h0) 310 [(2, .ref s0), (0, .ref tm), (1, .ref x_)] [.int (b2 (co_ p)), .ref s0]
                          refine V.callS (As := [.ref s0, .int (b2 (co_ p))]) (rest := []) cx (m_setColorS l hl g A E tm ka va lf_ rt_ pa_ co_ vl root_ n md h0 s0 hsE (co_ p)) q1066 q1067 (na := 2) rfl (by decide +kernel) (Nat.le_of_ble_eq_true rfl) (by decide) (by decide) (by decide) rfl dJ1_fixAfterDeletion_310 (fun _ _ _ hx => hx.elim) (fun v519 h520 hp => ?_)
                          obtain ⟨rfl, rfl⟩ := hp
                          show V g A κ _ _ 0 0 (tmO E tm ka va lf_ rt_ pa_ (va_up co_ s0 (co_ p)) vl root_ n md h0) 313 [(2, .ref s0), (0, .ref tm), (1, .ref x_)] []
                          refine V.aload_n cx dJ1_fixAfterDeletion_313 rfl 2 rfl ?_
                          refine V.callS (As := [.ref x_]) (rest := []) cx (m_parentOfS l hl g A E tm ka va lf_ rt_ pa_ (va_up co_ s0 (co_ p)) vl root_ n md h0 x_ hx_) q1054 q1055 (na := 1) rfl (by decide +kernel) (Nat.le_of_ble_eq_true rfl) (by decide) (by decide) (by decide) rfl dJ1_fixAfterDeletion_314 (fun _ _ _ hx => hx.elim) (fun v521 h522 hp => ?_)
                          obtain ⟨rfl, rfl⟩ := hp
                          show V g A κ _ _ 0 0 (tmO E tm ka va lf_ rt_ pa_ (va_up co_ s0 (co_ p)) vl root_ n md h0) 317 [(2, .ref s0), (0, .ref tm), (1, .ref x_)] [va_rf (pa_ x_)]
                          refine V.toq (o' := (some p)) (by rw [hxp_]) ?_
                          show V g A κ _ _ 0 0 (tmO E tm ka va lf_ rt_ pa_ (va_up co_ s0 (co_ p)) vl root_ n md h0) 317 [(2, .ref s0), (0, .ref tm), (1, .ref x_)] [.ref p]
                          refine V.iconst (v := (nI 1)) cx dJ1_fixAfterDeletion_317 (by decide) ?_
                          refine V.toi (y := b2 true) (by decide) ?_
                          refine V.callS (As := [.ref p, .int (b2 true)]) (rest := []) cx (m_setColorS l hl g A E tm ka va lf_ rt_ pa_ (va_up co_ s0 (co_ p)) vl root_ n md h0 p hpE true) q1066 q1067 (na := 2) rfl (by decide +kernel) (Nat.le_of_ble_eq_true rfl) (by decide) (by decide) (by decide) rfl dJ1_fixAfterDeletion_318 (fun _ _ _ hx => hx.elim) (fun v523 h524 hp => ?_)
                          obtain ⟨rfl, rfl⟩ := hp
                          show V g A κ _ _ 0 0 (tmO E tm ka va lf_ rt_ pa_ (va_up (va_up co_ s0 (co_ p)) p true) vl root_ n md h0) 321 [(2, .ref s0), (0, .ref tm), (1, .ref x_)] []
                          refine V.aload_n cx dJ1_fixAfterDeletion_321 rfl 0 rfl ?_
                          refine V.callS (As := [.ref s0]) (rest := []) cx (m_leftOfS l hl g A E tm ka va lf_ rt_ pa_ (va_up (va_up co_ s0 (co_ p)) p true) vl root_ n md h0 s0 hsE) q1057 q1058 (na := 1) rfl (by decide +kernel) (Nat.le_of_ble_eq_true rfl) (by decide) (by decide) (by decide) rfl dJ1_fixAfterDeletion_322 (fun _ _ _ hx => hx.elim) (fun v525 h526 hp => ?_)
                          obtain ⟨rfl, rfl⟩ := hp
                          show V g A κ _ _ 0 0 (tmO E tm ka va lf_ rt_ pa_ (va_up (va_up co_ s0 (co_ p)) p true) vl root_ n md h0) 325 [(2, .ref s0), (0, .ref tm), (1, .ref x_)] [va_rf (lf_ s0)]
                          refine V.toq (o' := (some nb)) (by rw [hnb]) ?_
                          show V g A κ _ _ 0 0 (tmO E tm ka va lf_ rt_ pa_ (va_up (va_up co_ s0 (co_ p)) p true) vl root_ n md h0) 325 [(2, .ref s0), (0, .ref tm), (1, .ref x_)] [.ref nb]
                          refine V.iconst (v := (nI 1)) cx dJ1_fixAfterDeletion_325 (by decide) ?_
                          refine V.toi (y := b2 true) (by decide) ?_
                          refine V.callS (As := [.ref nb, .int (b2 true)]) (rest := []) cx (m_setColorS l hl g A E tm ka va lf_ rt_ pa_ (va_up (va_up co_ s0 (co_ p)) p true) vl root_ n md h0 nb hfE true) q1066 q1067 (na := 2) rfl (by decide +kernel) (Nat.le_of_ble_eq_true rfl) (by decide) (by decide) (by decide) rfl dJ1_fixAfterDeletion_326 (fun _ _ _ hx => hx.elim) (fun v527 h528 hp => ?_)
                          obtain ⟨rfl, rfl⟩ := hp
                          show V g A κ _ _ 0 0 (tmO E tm ka va lf_ rt_ pa_ (va_up (va_up (va_up co_ s0 (co_ p)) p true) nb true) vl root_ n md h0) 329 [(2, .ref s0), (0, .ref tm), (1, .ref x_)] []
                          refine V.aload_n cx dJ1_fixAfterDeletion_329 rfl 1 rfl ?_
                          refine V.aload_n cx dJ1_fixAfterDeletion_330 rfl 2 rfl ?_
                          refine V.callS (As := [.ref x_]) (rest := [.ref tm]) cx (m_parentOfS l hl g A E tm ka va lf_ rt_ pa_ (va_up (va_up (va_up co_ s0 (co_ p)) p true) nb true) vl root_ n md h0 x_ hx_) q1054 q1055 (na := 1) rfl (by decide +kernel) (Nat.le_of_ble_eq_true rfl) (by decide) (by decide) (by decide) rfl dJ1_fixAfterDeletion_331 (fun _ _ _ hx => hx.elim) (fun v529 h530 hp => ?_)
                          obtain ⟨rfl, rfl⟩ := hp
                          show V g A κ _ _ 0 0 (tmO E tm ka va lf_ rt_ pa_ (va_up (va_up (va_up co_ s0 (co_ p)) p true) nb true) vl root_ n md h0) 334 [(2, .ref s0), (0, .ref tm), (1, .ref x_)] [va_rf (pa_ x_), .ref tm]
                          refine V.toq (o' := (some p)) (by rw [hxp_]) ?_
                          show V g A κ _ _ 0 0 (tmO E tm ka va lf_ rt_ pa_ (va_up (va_up (va_up co_ s0 (co_ p)) p true) nb true) vl root_ n md h0) 334 [(2, .ref s0), (0, .ref tm), (1, .ref x_)] [.ref p, .ref tm]
                          refine V.callV (As := [.ref p]) (rest := []) (C := "java/util/TreeMap") cx (m_rotR l hl g A E tm ka va lf_ rt_ pa_ (va_up (va_up (va_up co_ s0 (co_ p)) p true) nb true) vl root_ n md h0 ix lo_ hi_ hI_ ht p s0 hpE hs0) rfl q1073 q1075 qs10 (Rv.of kJ1 (tm_t ht)) (na := 1) rfl (by decide +kernel) (Nat.le_of_ble_eq_true rfl) (by decide) (by decide) (by decide) rfl dJ1_fixAfterDeletion_334 (fun _ _ _ hx => hx.elim) (fun v531 h532 hp => ?_)
                          obtain ⟨rfl, rfl⟩ := hp
                          show V g A κ _ _ 0 0 (tmO E tm ka va (rrt rt_ lf_ pa_ p s0) (rlf rt_ pa_ p s0) (rpa rt_ pa_ p s0) (va_up (va_up (va_up co_ s0 (co_ p)) p true) nb true) vl (if pa_ p = none then some s0 else root_) n md h0) 337 [(2, .ref s0), (0, .ref tm), (1, .ref x_)] []
                          obtain ⟨rt4, lf4, pa4, root4, lo4, hi4, hI4, e14, e24, e34, e44, e54, e64⟩ : ∃ (rt4 lf4 pa4 : Nat → Option Nat) (root4 : Option Nat) (lo4 hi4 : Nat → Nat), Inv E ix lo4 hi4 lf4 rt4 pa4 root4 ∧ (rlf rt_ pa_ p s0) = rt4 ∧ (rrt rt_ lf_ pa_ p s0) = lf4 ∧ (rpa rt_ pa_ p s0) = pa4 ∧ (if pa_ p = none then some s0 else root_) = root4 ∧ (va_up lo_ p (ix s0 + 1)) = lo4 ∧ (va_up hi_ s0 (hi_ p)) = hi4 := ⟨_, _, _, _, _, _, Inv.rotR hI_ hpE hs0, rfl, rfl, rfl, rfl, rfl, rfl⟩
                          refine V.hto (h' := (tmO E tm ka va lf4 rt4 pa4 (va_up (va_up (va_up co_ s0 (co_ p)) p true) nb true) vl root4 n md h0)) (by rw [e14, e24, e34, e44]) ?_
                          show V g A κ _ _ 0 0 (tmO E tm ka va lf4 rt4 pa4 (va_up (va_up (va_up co_ s0 (co_ p)) p true) nb true) vl root4 n md h0) 337 [(2, .ref s0), (0, .ref tm), (1, .ref x_)] []
                          rcases opt_c root4 with hr4 | ⟨rr, hr4⟩
                          · exact absurd (Inv.root_some hI4 hx_) (fun e => absurd (hr4.symm.trans e.choose_spec) (by intro e; cases e))
                          · refine V.aload_n cx dJ1_fixAfterDeletion_337 rfl 1 rfl ?_
                            refine V.get cx kJ1 (tm_t ht) 3 (by decide) q158 rfl rfl dJ1_fixAfterDeletion_338 ?_
                            refine V.toq (o' := (some rr)) (by rw [hr4]) ?_
                            show V g A κ _ _ 0 0 (tmO E tm ka va lf4 rt4 pa4 (va_up (va_up (va_up co_ s0 (co_ p)) p true) nb true) vl root4 n md h0) 341 [(2, .ref s0), (0, .ref tm), (1, .ref x_)] [.ref rr]
                            refine V.astore_n (lv' := [(1, .ref rr), (2, .ref s0), (0, .ref tm)]) cx dJ1_fixAfterDeletion_341 rfl (by decide) rfl ?_
                            refine V.goto (tgt := 0) cx dJ1_fixAfterDeletion_342 (by decide) ?_
                            have k4 := hI4.2.2.2.2.2.2 rr hr4
                            refine V.sub [2, 0] rfl ?_
                            exact ih_ (rr, lo4, hi4, lf4, rt4, pa4, (va_up (va_up (va_up co_ s0 (co_ p)) p true) nb true), root4) (by dsimp only; exact (by have h1 := mz_; rw [k4.2.2.1, k4.2.2.2]; omega)) (by dsimp only; exact ⟨hI4, k4.1, fun r hr => Or.inr (Option.some.inj (hr4.symm.trans hr)), fun p0 hp0 => by have h1 := G_ p0 hp0; have h2 := hI4.2.1 p0 (hzE p0 hp0); have g := leaf_rot (fun q hq => (nt_ q hq).symm) hs0 h1.2.1 h1.1 (fun e => by have h3 := h1.1; rw [e, hnb] at h3; cases h3); rw [e14, e24] at g; exact ⟨g.2, g.1, by omega, by omega⟩⟩)
                        · exact absurd cz (by decide)
                      · exact absurd cz (by decide)
                  · refine V.aload_n cx dJ1_fixAfterDeletion_230 rfl 0 rfl ?_
                    refine V.callS (As := [.ref s0]) (rest := []) cx (m_rightOfS l hl g A E tm ka va lf_ rt_ pa_ co_ vl root_ n md h0 s0 hsE) q1060 q1061 (na := 1) rfl (by decide +kernel) (Nat.le_of_ble_eq_true rfl) (by decide) (by decide) (by decide) rfl dJ1_fixAfterDeletion_231 (fun _ _ _ hx => hx.elim) (fun v533 h534 hp => ?_)
                    obtain ⟨rfl, rfl⟩ := hp
                    show V g A κ _ _ 0 0 (tmO E tm ka va lf_ rt_ pa_ co_ vl root_ n md h0) 234 [(2, .ref s0), (0, .ref tm), (1, .ref x_)] [va_rf (rt_ s0)]
                    show V g A κ _ _ 0 0 (tmO E tm ka va lf_ rt_ pa_ co_ vl root_ n md h0) 234 [(2, .ref s0), (0, .ref tm), (1, .ref x_)] [va_rf (rt_ s0)]
                    refine V.callS (As := [va_rf (rt_ s0)]) (rest := []) cx (m_colorOf l hl g A E tm ka va lf_ rt_ pa_ co_ vl root_ n md h0 (rt_ s0) (fun e he => ((hI_.2.2.2.1 s0 hsE).2 e he).1)) q1063 q1064 (na := 1) rfl (by decide +kernel) (Nat.le_of_ble_eq_true rfl) (by decide) (by decide) (by decide) rfl dJ1_fixAfterDeletion_234 (fun _ _ _ hx => hx.elim) (fun v535 h536 hp => ?_)
                    obtain ⟨rfl, rfl⟩ := hp
                    show V g A κ _ _ 0 0 (tmO E tm ka va lf_ rt_ pa_ co_ vl root_ n md h0) 237 [(2, .ref s0), (0, .ref tm), (1, .ref x_)] [.int (b2 (Option.elim (rt_ s0) true co_))]
                    refine V.tob (b := true) hcn ?_
                    refine V.iconst (v := (nI 1)) cx dJ1_fixAfterDeletion_237 (by decide) ?_
                    refine V.icmp_ne (tgt := 265) cx dJ1_fixAfterDeletion_238 (by decide) (fun cz => ?_) (fun cz => ?_)
                    · exact absurd rfl cz
                    · refine V.aload_n cx dJ1_fixAfterDeletion_241 rfl 0 rfl ?_
                      refine V.callS (As := [.ref s0]) (rest := []) cx (m_leftOfS l hl g A E tm ka va lf_ rt_ pa_ co_ vl root_ n md h0 s0 hsE) q1057 q1058 (na := 1) rfl (by decide +kernel) (Nat.le_of_ble_eq_true rfl) (by decide) (by decide) (by decide) rfl dJ1_fixAfterDeletion_242 (fun _ _ _ hx => hx.elim) (fun v537 h538 hp => ?_)
                      obtain ⟨rfl, rfl⟩ := hp
                      show V g A κ _ _ 0 0 (tmO E tm ka va lf_ rt_ pa_ co_ vl root_ n md h0) 245 [(2, .ref s0), (0, .ref tm), (1, .ref x_)] [va_rf (lf_ s0)]
                      show V g A κ _ _ 0 0 (tmO E tm ka va lf_ rt_ pa_ co_ vl root_ n md h0) 245 [(2, .ref s0), (0, .ref tm), (1, .ref x_)] [va_rf (lf_ s0)]
                      refine V.callS (As := [va_rf (lf_ s0)]) (rest := []) cx (m_colorOf l hl g A E tm ka va lf_ rt_ pa_ co_ vl root_ n md h0 (lf_ s0) (fun e he => ((hI_.2.2.1 s0 hsE).2 e he).1)) q1063 q1064 (na := 1) rfl (by decide +kernel) (Nat.le_of_ble_eq_true rfl) (by decide) (by decide) (by decide) rfl dJ1_fixAfterDeletion_245 (fun _ _ _ hx => hx.elim) (fun v539 h540 hp => ?_)
                      obtain ⟨rfl, rfl⟩ := hp
                      show V g A κ _ _ 0 0 (tmO E tm ka va lf_ rt_ pa_ co_ vl root_ n md h0) 248 [(2, .ref s0), (0, .ref tm), (1, .ref x_)] [.int (b2 (Option.elim (lf_ s0) true co_))]
                      refine V.tob (b := true) hcf ?_
                      refine V.iconst (v := (nI 1)) cx dJ1_fixAfterDeletion_248 (by decide) ?_
                      refine V.icmp_ne (tgt := 265) cx dJ1_fixAfterDeletion_249 (by decide) (fun cz => ?_) (fun cz => ?_)
                      · exact absurd rfl cz
                      · refine V.aload_n cx dJ1_fixAfterDeletion_252 rfl 0 rfl ?_
                        refine V.iconst (v := (nI 0)) cx dJ1_fixAfterDeletion_253 (by decide) ?_
                        refine V.toi (y := b2 false) (by decide) ?_
                        refine V.callS (As := [.ref s0, .int (b2 false)]) (rest := []) cx (m_setColorS l hl g A E tm ka va lf_ rt_ pa_ co_ vl root_ n md h0 s0 hsE false) q1066 q1067 (na := 2) rfl (by decide +kernel) (Nat.le_of_ble_eq_true rfl) (by decide) (by decide) (by decide) rfl dJ1_fixAfterDeletion_254 (fun _ _ _ hx => hx.elim) (fun v541 h542 hp => ?_)
                        obtain ⟨rfl, rfl⟩ := hp
                        show V g A κ _ _ 0 0 (tmO E tm ka va lf_ rt_ pa_ (va_up co_ s0 false) vl root_ n md h0) 257 [(2, .ref s0), (0, .ref tm), (1, .ref x_)] []
                        refine V.aload_n cx dJ1_fixAfterDeletion_257 rfl 2 rfl ?_
                        refine V.callS (As := [.ref x_]) (rest := []) cx (m_parentOfS l hl g A E tm ka va lf_ rt_ pa_ (va_up co_ s0 false) vl root_ n md h0 x_ hx_) q1054 q1055 (na := 1) rfl (by decide +kernel) (Nat.le_of_ble_eq_true rfl) (by decide) (by decide) (by decide) rfl dJ1_fixAfterDeletion_258 (fun _ _ _ hx => hx.elim) (fun v543 h544 hp => ?_)
                        obtain ⟨rfl, rfl⟩ := hp
                        show V g A κ _ _ 0 0 (tmO E tm ka va lf_ rt_ pa_ (va_up co_ s0 false) vl root_ n md h0) 261 [(2, .ref s0), (0, .ref tm), (1, .ref x_)] [va_rf (pa_ x_)]
                        refine V.toq (o' := (some p)) (by rw [hxp_]) ?_
                        show V g A κ _ _ 0 0 (tmO E tm ka va lf_ rt_ pa_ (va_up co_ s0 false) vl root_ n md h0) 261 [(2, .ref s0), (0, .ref tm), (1, .ref x_)] [.ref p]
                        refine V.astore_n (lv' := [(1, .ref p), (2, .ref s0), (0, .ref tm)]) cx dJ1_fixAfterDeletion_261 rfl (by decide) rfl ?_
                        refine V.goto (tgt := 342) cx dJ1_fixAfterDeletion_262 (by decide) ?_
                        refine V.goto (tgt := 0) cx dJ1_fixAfterDeletion_342 (by decide) ?_
                        refine V.sub [2, 0] rfl ?_
                        exact ih_ (p, lo_, hi_, lf_, rt_, pa_, (va_up co_ s0 false), root_) (by dsimp only; exact (by have h1 := mz_; clear ih_; omega)) (by dsimp only; exact ⟨hI_, hpE, fun r hr => Or.inl ((va_up_ne _ _ (fun e => by have h2 := (hI_.2.2.2.2.2.2 r hr).2.1; rw [e, hsp] at h2; cases h2)).trans (hB_ r hr)), fun p0 hp0 => by have h1 := G_ p0 hp0; have h2 := mz_; exact ⟨h1.1, h1.2.1, by omega, by omega⟩⟩)
              · exact absurd cb (by decide)
        · have hlx_ : lf_ p = some x_ := cs.symm
          have rg_ : lo_ x_ = lo_ x_ ∧ hi_ x_ = hi_ x_ := ⟨rfl, rfl⟩
          have mz_ : lo_ p ≤ lo_ x_ ∧ hi_ x_ ≤ hi_ p ∧ hi_ p - lo_ p > hi_ x_ - lo_ x_ ∧ lo_ x_ = lo_ x_ ∧ hi_ x_ = hi_ x_ ∧ hi_ p ≤ E.length ∧ lo_ p ≤ hi_ p := by
            have h1 := hI_.2.1 p hpE
            have h2 := hI_.2.1 x_ hx_
            have h3 := (hI_.2.2.1 p hpE).2 x_ hlx_
            have h4 := rg_
            omega
          have nt_ : ∀ q, pa_ p = some q → lf_ q = some p ∨ rt_ q = some p := fun q hq => ((hI_.2.2.2.2.1 p hpE).2 q hq).2
          refine V.aload_n cx dJ1_fixAfterDeletion_27 rfl 1 rfl ?_
          refine V.callS (As := [.ref x_]) (rest := []) cx (m_parentOfS l hl g A E tm ka va lf_ rt_ pa_ co_ vl root_ n md h0 x_ hx_) q1054 q1055 (na := 1) rfl (by decide +kernel) (Nat.le_of_ble_eq_true rfl) (by decide) (by decide) (by decide) rfl dJ1_fixAfterDeletion_28 (fun _ _ _ hx => hx.elim) (fun v13 h14 hp => ?_)
          obtain ⟨rfl, rfl⟩ := hp
          show V g A κ _ _ 0 0 (tmO E tm ka va lf_ rt_ pa_ co_ vl root_ n md h0) 31 [(0, .ref tm), (1, .ref x_)] [va_rf (pa_ x_)]
          refine V.toq (o' := (some p)) (by rw [hxp_]) ?_
          show V g A κ _ _ 0 0 (tmO E tm ka va lf_ rt_ pa_ co_ vl root_ n md h0) 31 [(0, .ref tm), (1, .ref x_)] [.ref p]
          rcases unc (rt_ p) co_ with ⟨u, hu, hcu⟩ | hcu
          · have huE : u ∈ E := ((hI_.2.2.2.1 p hpE).2 u hu).1
            have nup : u ≠ p := fun e => by have h1 := (hI_.2.2.2.1 p hpE).2 u hu; have h2 := hI_.2.1 u huE; rw [e] at h1 h2; omega
            refine V.callS (As := [.ref p]) (rest := []) cx (m_rightOfS l hl g A E tm ka va lf_ rt_ pa_ co_ vl root_ n md h0 p hpE) q1060 q1061 (na := 1) rfl (by decide +kernel) (Nat.le_of_ble_eq_true rfl) (by decide) (by decide) (by decide) rfl dJ1_fixAfterDeletion_31 (fun _ _ _ hx => hx.elim) (fun v15 h16 hp => ?_)
            obtain ⟨rfl, rfl⟩ := hp
            show V g A κ _ _ 0 0 (tmO E tm ka va lf_ rt_ pa_ co_ vl root_ n md h0) 34 [(0, .ref tm), (1, .ref x_)] [va_rf (rt_ p)]
            refine V.toq (o' := (some u)) (by rw [hu]) ?_
            show V g A κ _ _ 0 0 (tmO E tm ka va lf_ rt_ pa_ co_ vl root_ n md h0) 34 [(0, .ref tm), (1, .ref x_)] [.ref u]
            refine V.astore_n (lv' := [(2, .ref u), (0, .ref tm), (1, .ref x_)]) cx dJ1_fixAfterDeletion_34 rfl (by decide) rfl ?_
            refine V.aload_n cx dJ1_fixAfterDeletion_35 rfl 0 rfl ?_
            refine V.callS (As := [.ref u]) (rest := []) cx (m_colorOfS l hl g A E tm ka va lf_ rt_ pa_ co_ vl root_ n md h0 u huE) q1063 q1064 (na := 1) rfl (by decide +kernel) (Nat.le_of_ble_eq_true rfl) (by decide) (by decide) (by decide) rfl dJ1_fixAfterDeletion_36 (fun _ _ _ hx => hx.elim) (fun v17 h18 hp => ?_)
            obtain ⟨rfl, rfl⟩ := hp
            show V g A κ _ _ 0 0 (tmO E tm ka va lf_ rt_ pa_ co_ vl root_ n md h0) 39 [(2, .ref u), (0, .ref tm), (1, .ref x_)] [.int (b2 (co_ u))]
            refine V.tob (b := false) (by rw [hcu]) ?_
            show V g A κ _ _ 0 0 (tmO E tm ka va lf_ rt_ pa_ co_ vl root_ n md h0) 39 [(2, .ref u), (0, .ref tm), (1, .ref x_)] [.int (b2 false)]
            refine V.bif_ne (tgt := 71) cx dJ1_fixAfterDeletion_39 (by decide) (fun cb => ?_) (fun cb => ?_)
            · exact absurd cb (by decide)
            · refine V.aload_n cx dJ1_fixAfterDeletion_42 rfl 0 rfl ?_
              refine V.iconst (v := (nI 1)) cx dJ1_fixAfterDeletion_43 (by decide) ?_
              refine V.toi (y := b2 true) (by decide) ?_
              refine V.callS (As := [.ref u, .int (b2 true)]) (rest := []) cx (m_setColorS l hl g A E tm ka va lf_ rt_ pa_ co_ vl root_ n md h0 u huE true) q1066 q1067 (na := 2) rfl (by decide +kernel) (Nat.le_of_ble_eq_true rfl) (by decide) (by decide) (by decide) rfl dJ1_fixAfterDeletion_44 (fun _ _ _ hx => hx.elim) (fun v19 h20 hp => ?_)
              obtain ⟨rfl, rfl⟩ := hp
              show V g A κ _ _ 0 0 (tmO E tm ka va lf_ rt_ pa_ (va_up co_ u true) vl root_ n md h0) 47 [(2, .ref u), (0, .ref tm), (1, .ref x_)] []
              refine V.aload_n cx dJ1_fixAfterDeletion_47 rfl 2 rfl ?_
              refine V.callS (As := [.ref x_]) (rest := []) cx (m_parentOfS l hl g A E tm ka va lf_ rt_ pa_ (va_up co_ u true) vl root_ n md h0 x_ hx_) q1054 q1055 (na := 1) rfl (by decide +kernel) (Nat.le_of_ble_eq_true rfl) (by decide) (by decide) (by decide) rfl dJ1_fixAfterDeletion_48 (fun _ _ _ hx => hx.elim) (fun v21 h22 hp => ?_)
              obtain ⟨rfl, rfl⟩ := hp
              show V g A κ _ _ 0 0 (tmO E tm ka va lf_ rt_ pa_ (va_up co_ u true) vl root_ n md h0) 51 [(2, .ref u), (0, .ref tm), (1, .ref x_)] [va_rf (pa_ x_)]
              refine V.toq (o' := (some p)) (by rw [hxp_]) ?_
              show V g A κ _ _ 0 0 (tmO E tm ka va lf_ rt_ pa_ (va_up co_ u true) vl root_ n md h0) 51 [(2, .ref u), (0, .ref tm), (1, .ref x_)] [.ref p]
              refine V.iconst (v := (nI 0)) cx dJ1_fixAfterDeletion_51 (by decide) ?_
              refine V.toi (y := b2 false) (by decide) ?_
              refine V.callS (As := [.ref p, .int (b2 false)]) (rest := []) cx (m_setColorS l hl g A E tm ka va lf_ rt_ pa_ (va_up co_ u true) vl root_ n md h0 p hpE false) q1066 q1067 (na := 2) rfl (by decide +kernel) (Nat.le_of_ble_eq_true rfl) (by decide) (by decide) (by decide) rfl dJ1_fixAfterDeletion_52 (fun _ _ _ hx => hx.elim) (fun v23 h24 hp => ?_)
              obtain ⟨rfl, rfl⟩ := hp
              show V g A κ _ _ 0 0 (tmO E tm ka va lf_ rt_ pa_ (va_up (va_up co_ u true) p false) vl root_ n md h0) 55 [(2, .ref u), (0, .ref tm), (1, .ref x_)] []
              refine V.aload_n cx dJ1_fixAfterDeletion_55 rfl 1 rfl ?_
              refine V.aload_n cx dJ1_fixAfterDeletion_56 rfl 2 rfl ?_
              refine V.callS (As := [.ref x_]) (rest := [.ref tm]) cx (m_parentOfS l hl g A E tm ka va lf_ rt_ pa_ (va_up (va_up co_ u true) p false) vl root_ n md h0 x_ hx_) q1054 q1055 (na := 1) rfl (by decide +kernel) (Nat.le_of_ble_eq_true rfl) (by decide) (by decide) (by decide) rfl dJ1_fixAfterDeletion_57 (fun _ _ _ hx => hx.elim) (fun v25 h26 hp => ?_)
              obtain ⟨rfl, rfl⟩ := hp
              show V g A κ _ _ 0 0 (tmO E tm ka va lf_ rt_ pa_ (va_up (va_up co_ u true) p false) vl root_ n md h0) 60 [(2, .ref u), (0, .ref tm), (1, .ref x_)] [va_rf (pa_ x_), .ref tm]
              refine V.toq (o' := (some p)) (by rw [hxp_]) ?_
              show V g A κ _ _ 0 0 (tmO E tm ka va lf_ rt_ pa_ (va_up (va_up co_ u true) p false) vl root_ n md h0) 60 [(2, .ref u), (0, .ref tm), (1, .ref x_)] [.ref p, .ref tm]
              refine V.callV (As := [.ref p]) (rest := []) (C := "java/util/TreeMap") cx (m_rotL l hl g A E tm ka va lf_ rt_ pa_ (va_up (va_up co_ u true) p false) vl root_ n md h0 ix lo_ hi_ hI_ ht p u hpE hu) rfl q1069 q1071 qs9 (Rv.of kJ1 (tm_t ht)) (na := 1) rfl (by decide +kernel) (Nat.le_of_ble_eq_true rfl) (by decide) (by decide) (by decide) rfl dJ1_fixAfterDeletion_60 (fun _ _ _ hx => hx.elim) (fun v27 h28 hp => ?_)
              obtain ⟨rfl, rfl⟩ := hp
              show V g A κ _ _ 0 0 (tmO E tm ka va (rlf lf_ pa_ p u) (rrt lf_ rt_ pa_ p u) (rpa lf_ pa_ p u) (va_up (va_up co_ u true) p false) vl (if pa_ p = none then some u else root_) n md h0) 63 [(2, .ref u), (0, .ref tm), (1, .ref x_)] []
              obtain ⟨lf1, rt1, pa1, root1, lo1, hi1, hI1, e11, e21, e31, e41, e51, e61⟩ : ∃ (lf1 rt1 pa1 : Nat → Option Nat) (root1 : Option Nat) (lo1 hi1 : Nat → Nat), Inv E ix lo1 hi1 lf1 rt1 pa1 root1 ∧ (rlf lf_ pa_ p u) = lf1 ∧ (rrt lf_ rt_ pa_ p u) = rt1 ∧ (rpa lf_ pa_ p u) = pa1 ∧ (if pa_ p = none then some u else root_) = root1 ∧ (va_up lo_ u (lo_ p)) = lo1 ∧ (va_up hi_ p (ix u)) = hi1 := ⟨_, _, _, _, _, _, Inv.rotL hI_ hpE hu, rfl, rfl, rfl, rfl, rfl, rfl⟩
              refine V.hto (h' := (tmO E tm ka va lf1 rt1 pa1 (va_up (va_up co_ u true) p false) vl root1 n md h0)) (by rw [e11, e21, e31, e41]) ?_
              show V g A κ _ _ 0 0 (tmO E tm ka va lf1 rt1 pa1 (va_up (va_up co_ u true) p false) vl root1 n md h0) 63 [(2, .ref u), (0, .ref tm), (1, .ref x_)] []
              obtain ⟨co1, hco1⟩ : ∃ z : Nat → Bool, (va_up (va_up co_ u true) p false) = z := ⟨_, rfl⟩
              refine V.hto (h' := (tmO E tm ka va lf1 rt1 pa1 co1 vl root1 n md h0)) (by rw [hco1]) ?_
              show V g A κ _ _ 0 0 (tmO E tm ka va lf1 rt1 pa1 co1 vl root1 n md h0) 63 [(2, .ref u), (0, .ref tm), (1, .ref x_)] []
              have q1 := (hI_.2.2.1 p hpE).2 x_ hlx_
              have q2 := (hI_.2.2.2.1 p hpE).2 u hu
              have q4 := hI_.2.1 u huE
              have q5 := hI_.2.1 x_ hx_
              have q6 := hI_.2.1 p hpE
              have nxu : x_ ≠ u := fun e => by subst e; omega
              have hxp1 : pa1 x_ = some p := by rw [← e31]; unfold rpa; rw [if_neg nxp, if_neg nxu, if_neg (fun e => by have h1 := ((hI_.2.2.1 u huE).2 x_ e).2.1; rw [hxp_] at h1; exact nup (Option.some.inj h1).symm)]; exact hxp_
              have hlx1 : lf1 p = some x_ := by rw [← e11]; unfold rlf; rw [if_neg (Ne.symm nup), if_neg (fun e => by have h1 := (hI_.2.2.2.2.1 p hpE).2 p e.1; rw [hlx_, hu] at h1; rcases h1.2 with h2 | h2 <;> have h3 := Option.some.inj h2 <;> subst h3 <;> omega)]; exact hlx_
              have rg1 : lo1 x_ = lo_ x_ ∧ hi1 x_ = hi_ x_ := by rw [← e51, ← e61]; unfold va_up; rw [if_neg nxu, if_neg nxp]; exact ⟨rfl, rfl⟩
              have hB1 : ∀ r, root1 = some r → co1 r = true := fun r hr => by
                rw [← hco1]; unfold va_up
                by_cases hpp : pa_ p = none
                · rw [← e41, if_pos hpp] at hr
                  have h1 := Option.some.inj hr
                  subst h1
                  rw [if_neg nup, if_pos rfl]
                · rw [← e41, if_neg hpp] at hr
                  have h1 := hB_ r hr
                  have h2 := (hI_.2.2.2.2.2.2 r hr).2.1
                  have nrp : r ≠ p := fun e => hpp (e ▸ h2)
                  rw [if_neg nrp]
                  by_cases hrn : r = u
                  · rw [if_pos hrn]
                  · rw [if_neg hrn]; exact h1
              have G1 : ∀ p0, z = some p0 → lf1 p0 = none ∧ rt1 p0 = none ∧ lo1 x_ ≤ ix p0 ∧ ix p0 < hi1 x_ := fun p0 hp0 => by
                have g := G_ p0 hp0
                have gg := leaf_rot (fun q hq => id ((hI_.2.2.2.2.1 p hpE).2 q hq).2) hu g.1 g.2.1 (fun e => by subst e; omega)
                rw [e11, e21] at gg
                exact ⟨gg.1, gg.2, by have := rg1; omega, by have := rg1; omega⟩
              have mz1 : lo1 p ≤ lo1 x_ ∧ hi1 x_ ≤ hi1 p ∧ hi1 p - lo1 p > hi_ x_ - lo_ x_ ∧ lo1 x_ = lo_ x_ ∧ hi1 x_ = hi_ x_ ∧ hi1 p ≤ E.length ∧ lo1 p ≤ hi1 p := by
                have h1 := hI1.2.1 p hpE
                have h2 := hI1.2.1 x_ hx_
                have h3 := (hI1.2.2.1 p hpE).2 x_ hlx1
                have h4 := rg1
                omega
              have nt1 : ∀ q, pa1 p = some q → lf1 q = some p ∨ rt1 q = some p := fun q hq => ((hI1.2.2.2.2.1 p hpE).2 q hq).2
              refine V.aload_n cx dJ1_fixAfterDeletion_63 rfl 2 rfl ?_
              refine V.callS (As := [.ref x_]) (rest := []) cx (m_parentOfS l hl g A E tm ka va lf1 rt1 pa1 co1 vl root1 n md h0 x_ hx_) q1054 q1055 (na := 1) rfl (by decide +kernel) (Nat.le_of_ble_eq_true rfl) (by decide) (by decide) (by decide) rfl dJ1_fixAfterDeletion_64 (fun _ _ _ hx => hx.elim) (fun v29 h30 hp => ?_)
              obtain ⟨rfl, rfl⟩ := hp
              show V g A κ _ _ 0 0 (tmO E tm ka va lf1 rt1 pa1 co1 vl root1 n md h0) 67 [(2, .ref u), (0, .ref tm), (1, .ref x_)] [va_rf (pa1 x_)]
              refine V.toq (o' := (some p)) (by rw [hxp1]) ?_
              show V g A κ _ _ 0 0 (tmO E tm ka va lf1 rt1 pa1 co1 vl root1 n md h0) 67 [(2, .ref u), (0, .ref tm), (1, .ref x_)] [.ref p]
              rcases opt_c (rt1 p) with hs1 | ⟨s1, hs1⟩
              · refine V.callS (As := [.ref p]) (rest := []) cx (m_rightOfS l hl g A E tm ka va lf1 rt1 pa1 co1 vl root1 n md h0 p hpE) q1060 q1061 (na := 1) rfl (by decide +kernel) (Nat.le_of_ble_eq_true rfl) (by decide) (by decide) (by decide) rfl dJ1_fixAfterDeletion_67 (fun _ _ _ hx => hx.elim) (fun v31 h32 hp => ?_)
                obtain ⟨rfl, rfl⟩ := hp
                show V g A κ _ _ 0 0 (tmO E tm ka va lf1 rt1 pa1 co1 vl root1 n md h0) 70 [(2, .ref u), (0, .ref tm), (1, .ref x_)] [va_rf (rt1 p)]
                refine V.toq (o' := none) (by rw [hs1]) ?_
                show V g A κ _ _ 0 0 (tmO E tm ka va lf1 rt1 pa1 co1 vl root1 n md h0) 70 [(2, .ref u), (0, .ref tm), (1, .ref x_)] [.null]
                refine V.astore_nN (lv' := [(2, .null), (0, .ref tm), (1, .ref x_)]) cx dJ1_fixAfterDeletion_70 rfl (by decide) rfl ?_
                refine V.aload_nN cx dJ1_fixAfterDeletion_71 rfl 0 rfl ?_
                refine V.callS (As := [.null]) (rest := []) cx (m_leftOfN l hl g A E tm ka va lf1 rt1 pa1 co1 vl root1 n md h0) q1057 q1058 (na := 1) rfl (by decide +kernel) (Nat.le_of_ble_eq_true rfl) (by decide) (by decide) (by decide) rfl dJ1_fixAfterDeletion_72 (fun _ _ _ hx => hx.elim) (fun v33 h34 hp => ?_)
                obtain ⟨rfl, rfl⟩ := hp
                show V g A κ _ _ 0 0 (tmO E tm ka va lf1 rt1 pa1 co1 vl root1 n md h0) 75 [(2, .null), (0, .ref tm), (1, .ref x_)] [.null]
                refine V.callS (As := [.null]) (rest := []) cx (m_colorOfN l hl g A E tm ka va lf1 rt1 pa1 co1 vl root1 n md h0) q1063 q1064 (na := 1) rfl (by decide +kernel) (Nat.le_of_ble_eq_true rfl) (by decide) (by decide) (by decide) rfl dJ1_fixAfterDeletion_75 (fun _ _ _ hx => hx.elim) (fun v35 h36 hp => ?_)
                obtain ⟨rfl, rfl⟩ := hp
                show V g A κ _ _ 0 0 (tmO E tm ka va lf1 rt1 pa1 co1 vl root1 n md h0) 78 [(2, .null), (0, .ref tm), (1, .ref x_)] [.int (b2 true)]
                refine V.iconst (v := (nI 1)) cx dJ1_fixAfterDeletion_78 (by decide) ?_
                refine V.icmp_ne (tgt := 106) cx dJ1_fixAfterDeletion_79 (by decide) (fun cz => ?_) (fun cz => ?_)
                · exact absurd rfl cz
                · refine V.aload_nN cx dJ1_fixAfterDeletion_82 rfl 0 rfl ?_
                  refine V.callS (As := [.null]) (rest := []) cx (m_rightOfN l hl g A E tm ka va lf1 rt1 pa1 co1 vl root1 n md h0) q1060 q1061 (na := 1) rfl (by decide +kernel) (Nat.le_of_ble_eq_true rfl) (by decide) (by decide) (by decide) rfl dJ1_fixAfterDeletion_83 (fun _ _ _ hx => hx.elim) (fun v37 h38 hp => ?_)
                  obtain ⟨rfl, rfl⟩ := hp
                  show V g A κ _ _ 0 0 (tmO E tm ka va lf1 rt1 pa1 co1 vl root1 n md h0) 86 [(2, .null), (0, .ref tm), (1, .ref x_)] [.null]
                  refine V.callS (As := [.null]) (rest := []) cx (m_colorOfN l hl g A E tm ka va lf1 rt1 pa1 co1 vl root1 n md h0) q1063 q1064 (na := 1) rfl (by decide +kernel) (Nat.le_of_ble_eq_true rfl) (by decide) (by decide) (by decide) rfl dJ1_fixAfterDeletion_86 (fun _ _ _ hx => hx.elim) (fun v39 h40 hp => ?_)
                  obtain ⟨rfl, rfl⟩ := hp
                  show V g A κ _ _ 0 0 (tmO E tm ka va lf1 rt1 pa1 co1 vl root1 n md h0) 89 [(2, .null), (0, .ref tm), (1, .ref x_)] [.int (b2 true)]
                  refine V.iconst (v := (nI 1)) cx dJ1_fixAfterDeletion_89 (by decide) ?_
                  refine V.icmp_ne (tgt := 106) cx dJ1_fixAfterDeletion_90 (by decide) (fun cz => ?_) (fun cz => ?_)
                  · exact absurd rfl cz
                  · refine V.aload_nN cx dJ1_fixAfterDeletion_93 rfl 0 rfl ?_
                    refine V.iconst (v := (nI 0)) cx dJ1_fixAfterDeletion_94 (by decide) ?_
                    refine V.toi (y := b2 false) (by decide) ?_
                    refine V.callS (As := [.null, .int (b2 false)]) (rest := []) cx (m_setColorN l hl g A E tm ka va lf1 rt1 pa1 co1 vl root1 n md h0 false) q1066 q1067 (na := 2) rfl (by decide +kernel) (Nat.le_of_ble_eq_true rfl) (by decide) (by decide) (by decide) rfl dJ1_fixAfterDeletion_95 (fun _ _ _ hx => hx.elim) (fun v41 h42 hp => ?_)
                    obtain ⟨rfl, rfl⟩ := hp
                    show V g A κ _ _ 0 0 (tmO E tm ka va lf1 rt1 pa1 co1 vl root1 n md h0) 98 [(2, .null), (0, .ref tm), (1, .ref x_)] []
                    refine V.aload_n cx dJ1_fixAfterDeletion_98 rfl 2 rfl ?_
                    refine V.callS (As := [.ref x_]) (rest := []) cx (m_parentOfS l hl g A E tm ka va lf1 rt1 pa1 co1 vl root1 n md h0 x_ hx_) q1054 q1055 (na := 1) rfl (by decide +kernel) (Nat.le_of_ble_eq_true rfl) (by decide) (by decide) (by decide) rfl dJ1_fixAfterDeletion_99 (fun _ _ _ hx => hx.elim) (fun v43 h44 hp => ?_)
                    obtain ⟨rfl, rfl⟩ := hp
                    show V g A κ _ _ 0 0 (tmO E tm ka va lf1 rt1 pa1 co1 vl root1 n md h0) 102 [(2, .null), (0, .ref tm), (1, .ref x_)] [va_rf (pa1 x_)]
                    refine V.toq (o' := (some p)) (by rw [hxp1]) ?_
                    show V g A κ _ _ 0 0 (tmO E tm ka va lf1 rt1 pa1 co1 vl root1 n md h0) 102 [(2, .null), (0, .ref tm), (1, .ref x_)] [.ref p]
                    refine V.astore_n (lv' := [(1, .ref p), (2, .null), (0, .ref tm)]) cx dJ1_fixAfterDeletion_102 rfl (by decide) rfl ?_
                    refine V.goto (tgt := 183) cx dJ1_fixAfterDeletion_103 (by decide) ?_
                    refine V.goto (tgt := 0) cx dJ1_fixAfterDeletion_183 (by decide) ?_
                    refine V.sub [2, 0] rfl ?_
                    exact ih_ (p, lo1, hi1, lf1, rt1, pa1, co1, root1) (by dsimp only; exact (by have h1 := mz1; clear ih_; omega)) (by dsimp only; exact ⟨hI1, hpE, fun r hr => Or.inl (hB1 r hr), fun p0 hp0 => by have h1 := G1 p0 hp0; have h2 := mz1; exact ⟨h1.1, h1.2.1, by omega, by omega⟩⟩)
              · refine V.callS (As := [.ref p]) (rest := []) cx (m_rightOfS l hl g A E tm ka va lf1 rt1 pa1 co1 vl root1 n md h0 p hpE) q1060 q1061 (na := 1) rfl (by decide +kernel) (Nat.le_of_ble_eq_true rfl) (by decide) (by decide) (by decide) rfl dJ1_fixAfterDeletion_67 (fun _ _ _ hx => hx.elim) (fun v45 h46 hp => ?_)
                obtain ⟨rfl, rfl⟩ := hp
                show V g A κ _ _ 0 0 (tmO E tm ka va lf1 rt1 pa1 co1 vl root1 n md h0) 70 [(2, .ref u), (0, .ref tm), (1, .ref x_)] [va_rf (rt1 p)]
                refine V.toq (o' := (some s1)) (by rw [hs1]) ?_
                show V g A κ _ _ 0 0 (tmO E tm ka va lf1 rt1 pa1 co1 vl root1 n md h0) 70 [(2, .ref u), (0, .ref tm), (1, .ref x_)] [.ref s1]
                refine V.astore_n (lv' := [(2, .ref s1), (0, .ref tm), (1, .ref x_)]) cx dJ1_fixAfterDeletion_70 rfl (by decide) rfl ?_
                have hsE : s1 ∈ E := ((hI1.2.2.2.1 p hpE).2 s1 hs1).1
                have hsp : pa1 s1 = some p := ((hI1.2.2.2.1 p hpE).2 s1 hs1).2.1
                have nsp : s1 ≠ p := fun e => by have h1 := (hI1.2.2.2.1 p hpE).2 s1 hs1; have h2 := hI1.2.1 s1 hsE; rw [e] at h1 h2; omega
                rcases unc (lf1 s1) co1 with ⟨na, hna, hcn⟩ | hcn
                · have hnE : na ∈ E := (fun e he => ((hI1.2.2.1 s1 hsE).2 e he).1) na hna
                  rcases unc (rt1 s1) co1 with ⟨nb, hnb, hcf⟩ | hcf
                  · have hfE : nb ∈ E := (fun e he => ((hI1.2.2.2.1 s1 hsE).2 e he).1) nb hnb
                    refine V.aload_n cx dJ1_fixAfterDeletion_71 rfl 0 rfl ?_
                    refine V.callS (As := [.ref s1]) (rest := []) cx (m_leftOfS l hl g A E tm ka va lf1 rt1 pa1 co1 vl root1 n md h0 s1 hsE) q1057 q1058 (na := 1) rfl (by decide +kernel) (Nat.le_of_ble_eq_true rfl) (by decide) (by decide) (by decide) rfl dJ1_fixAfterDeletion_72 (fun _ _ _ hx => hx.elim) (fun v47 h48 hp => ?_)
                    obtain ⟨rfl, rfl⟩ := hp
                    show V g A κ _ _ 0 0 (tmO E tm ka va lf1 rt1 pa1 co1 vl root1 n md h0) 75 [(2, .ref s1), (0, .ref tm), (1, .ref x_)] [va_rf (lf1 s1)]
                    refine V.toq (o' := (some na)) (by rw [hna]) ?_
                    show V g A κ _ _ 0 0 (tmO E tm ka va lf1 rt1 pa1 co1 vl root1 n md h0) 75 [(2, .ref s1), (0, .ref tm), (1, .ref x_)] [.ref na]
                    refine V.callS (As := [.ref na]) (rest := []) cx (m_colorOfS l hl g A E tm ka va lf1 rt1 pa1 co1 vl root1 n md h0 na hnE) q1063 q1064 (na := 1) rfl (by decide +kernel) (Nat.le_of_ble_eq_true rfl) (by decide) (by decide) (by decide) rfl dJ1_fixAfterDeletion_75 (fun _ _ _ hx => hx.elim) (fun v49 h50 hp => ?_)
                    obtain ⟨rfl, rfl⟩ := hp
                    show V g A κ _ _ 0 0 (tmO E tm ka va lf1 rt1 pa1 co1 vl root1 n md h0) 78 [(2, .ref s1), (0, .ref tm), (1, .ref x_)] [.int (b2 (co1 na))]
                    refine V.tob (b := false) (by rw [hcn]) ?_
                    show V g A κ _ _ 0 0 (tmO E tm ka va lf1 rt1 pa1 co1 vl root1 n md h0) 78 [(2, .ref s1), (0, .ref tm), (1, .ref x_)] [.int (b2 false)]
                    refine V.iconst (v := (nI 1)) cx dJ1_fixAfterDeletion_78 (by decide) ?_
                    refine V.icmp_ne (tgt := 106) cx dJ1_fixAfterDeletion_79 (by decide) (fun cz => ?_) (fun cz => ?_)
                    · refine V.aload_n cx dJ1_fixAfterDeletion_106 rfl 0 rfl ?_
                      refine V.callS (As := [.ref s1]) (rest := []) cx (m_rightOfS l hl g A E tm ka va lf1 rt1 pa1 co1 vl root1 n md h0 s1 hsE) q1060 q1061 (na := 1) rfl (by decide +kernel) (Nat.le_of_ble_eq_true rfl) (by decide) (by decide) (by decide) rfl dJ1_fixAfterDeletion_107 (fun _ _ _ hx => hx.elim) (fun v51 h52 hp => ?_)
                      obtain ⟨rfl, rfl⟩ := hp
                      show V g A κ _ _ 0 0 (tmO E tm ka va lf1 rt1 pa1 co1 vl root1 n md h0) 110 [(2, .ref s1), (0, .ref tm), (1, .ref x_)] [va_rf (rt1 s1)]
                      refine V.toq (o' := (some nb)) (by rw [hnb]) ?_
                      show V g A κ _ _ 0 0 (tmO E tm ka va lf1 rt1 pa1 co1 vl root1 n md h0) 110 [(2, .ref s1), (0, .ref tm), (1, .ref x_)] [.ref nb]
                      refine V.callS (As := [.ref nb]) (rest := []) cx (m_colorOfS l hl g A E tm ka va lf1 rt1 pa1 co1 vl root1 n md h0 nb hfE) q1063 q1064 (na := 1) rfl (by decide +kernel) (Nat.le_of_ble_eq_true rfl) (by decide) (by decide) (by decide) rfl dJ1_fixAfterDeletion_110 (fun _ _ _ hx => hx.elim) (fun v53 h54 hp => ?_)
                      obtain ⟨rfl, rfl⟩ := hp
                      show V g A κ _ _ 0 0 (tmO E tm ka va lf1 rt1 pa1 co1 vl root1 n md h0) 113 [(2, .ref s1), (0, .ref tm), (1, .ref x_)] [.int (b2 (co1 nb))]
                      refine V.tob (b := false) (by rw [hcf]) ?_
                      show V g A κ _ _ 0 0 (tmO E tm ka va lf1 rt1 pa1 co1 vl root1 n md h0) 113 [(2, .ref s1), (0, .ref tm), (1, .ref x_)] [.int (b2 false)]
                      refine V.iconst (v := (nI 1)) cx dJ1_fixAfterDeletion_113 (by decide) ?_
                      refine V.icmp_ne (tgt := 143) cx dJ1_fixAfterDeletion_114 (by decide) (fun cz => ?_) (fun cz => ?_)
                      · refine V.aload_n cx dJ1_fixAfterDeletion_143 rfl 0 rfl ?_
                        refine V.aload_n cx dJ1_fixAfterDeletion_144 rfl 2 rfl ?_
                        refine V.callS (As := [.ref x_]) (rest := [.ref s1]) cx (m_parentOfS l hl g A E tm ka va lf1 rt1 pa1 co1 vl root1 n md h0 x_ hx_) q1054 q1055 (na := 1) rfl (by decide +kernel) (Nat.le_of_ble_eq_true rfl) (by decide) (by decide) (by decide) rfl dJ1_fixAfterDeletion_145 (fun _ _ _ hx => hx.elim) (fun v55 h56 hp => ?_)
                        obtain ⟨rfl, rfl⟩ := hp
                        show V g A κ _ _ 0 0 (tmO E tm ka va lf1 rt1 pa1 co1 vl root1 n md h0) 148 [(2, .ref s1), (0, .ref tm), (1, .ref x_)] [va_rf (pa1 x_), .ref s1]
                        refine V.toq (o' := (some p)) (by rw [hxp1]) ?_
                        show V g A κ _ _ 0 0 (tmO E tm ka va lf1 rt1 pa1 co1 vl root1 n md h0) 148 [(2, .ref s1), (0, .ref tm), (1, .ref x_)] [.ref p, .ref s1]
                        refine V.callS (As := [.ref p]) (rest := [.ref s1]) cx (m_colorOfS l hl g A E tm ka va lf1 rt1 pa1 co1 vl root1 n md h0 p hpE) q1063 q1064 (na := 1) rfl (by decide +kernel) (Nat.le_of_ble_eq_true rfl) (by decide) (by decide) (by decide) rfl dJ1_fixAfterDeletion_148 (fun _ _ _ hx => hx.elim) (fun v57 h58 hp => ?_)
                        obtain ⟨rfl, rfl⟩ := hp
                        show V g A κ _ _ 0 0 (tmO E tm ka va lf1 rt1 pa1 co1 vl root1 n md h0) 151 [(2, .ref s1), (0, .ref tm), (1, .ref x_)] [.int (b2 (co1 p)), .ref s1]
                        show V g A κ _ _ 0 0 (tmO E tm ka va lf1 rt1 pa1 co1 vl root1 n md h0) 151 [(2, .ref s1), (0, .ref tm), (1, .ref x_)] [.int (b2 (co1 p)), .ref s1]
                        refine V.callS (As := [.ref s1, .int (b2 (co1 p))]) (rest := []) cx (m_setColorS l hl g A E tm ka va lf1 rt1 pa1 co1 vl root1 n md h0 s1 hsE (co1 p)) q1066 q1067 (na := 2) rfl (by decide +kernel) (Nat.le_of_ble_eq_true rfl) (by decide) (by decide) (by decide) rfl dJ1_fixAfterDeletion_151 (fun _ _ _ hx => hx.elim) (fun v59 h60 hp => ?_)
                        obtain ⟨rfl, rfl⟩ := hp
                        show V g A κ _ _ 0 0 (tmO E tm ka va lf1 rt1 pa1 (va_up co1 s1 (co1 p)) vl root1 n md h0) 154 [(2, .ref s1), (0, .ref tm), (1, .ref x_)] []
                        refine V.aload_n cx dJ1_fixAfterDeletion_154 rfl 2 rfl ?_
                        refine V.callS (As := [.ref x_]) (rest := []) cx (m_parentOfS l hl g A E tm ka va lf1 rt1 pa1 (va_up co1 s1 (co1 p)) vl root1 n md h0 x_ hx_) q1054 q1055 (na := 1) rfl (by decide +kernel) (Nat.le_of_ble_eq_true rfl) (by decide) (by decide) (by decide) rfl dJ1_fixAfterDeletion_155 (fun _ _ _ hx => hx.elim) (fun v61 h62 hp => ?_)
                        obtain ⟨rfl, rfl⟩ := hp
                        show V g A κ _ _ 0 0 (tmO E tm ka va lf1 rt1 pa1 (va_up co1 s1 (co1 p)) vl root1 n md h0) 158 [(2, .ref s1), (0, .ref tm), (1, .ref x_)] [va_rf (pa1 x_)]
                        refine V.toq (o' := (some p)) (by rw [hxp1]) ?_
                        show V g A κ _ _ 0 0 (tmO E tm ka va lf1 rt1 pa1 (va_up co1 s1 (co1 p)) vl root1 n md h0) 158 [(2, .ref s1), (0, .ref tm), (1, .ref x_)] [.ref p]
                        refine V.iconst (v := (nI 1)) cx dJ1_fixAfterDeletion_158 (by decide) ?_
                        refine V.toi (y := b2 true) (by decide) ?_
                        refine V.callS (As := [.ref p, .int (b2 true)]) (rest := []) cx (m_setColorS l hl g A E tm ka va lf1 rt1 pa1 (va_up co1 s1 (co1 p)) vl root1 n md h0 p hpE true) q1066 q1067 (na := 2) rfl (by decide +kernel) (Nat.le_of_ble_eq_true rfl) (by decide) (by decide) (by decide) rfl dJ1_fixAfterDeletion_159 (fun _ _ _ hx => hx.elim) (fun v63 h64 hp => ?_)
                        obtain ⟨rfl, rfl⟩ := hp
                        show V g A κ _ _ 0 0 (tmO E tm ka va lf1 rt1 pa1 (va_up (va_up co1 s1 (co1 p)) p true) vl root1 n md h0) 162 [(2, .ref s1), (0, .ref tm), (1, .ref x_)] []
                        refine V.aload_n cx dJ1_fixAfterDeletion_162 rfl 0 rfl ?_
                        refine V.callS (As := [.ref s1]) (rest := []) cx (m_rightOfS l hl g A E tm ka va lf1 rt1 pa1 (va_up (va_up co1 s1 (co1 p)) p true) vl root1 n md h0 s1 hsE) q1060 q1061 (na := 1) rfl (by decide +kernel) (Nat.le_of_ble_eq_true rfl) (by decide) (by decide) (by decide) rfl dJ1_fixAfterDeletion_163 (fun _ _ _ hx => hx.elim) (fun v65 h66 hp => ?_)
                        obtain ⟨rfl, rfl⟩ := hp
                        show V g A κ _ _ 0 0 (tmO E tm ka va lf1 rt1 pa1 (va_up (va_up co1 s1 (co1 p)) p true) vl root1 n md h0) 166 [(2, .ref s1), (0, .ref tm), (1, .ref x_)] [va_rf (rt1 s1)]
                        refine V.toq (o' := (some nb)) (by rw [hnb]) ?_
                        show V g A κ _ _ 0 0 (tmO E tm ka va lf1 rt1 pa1 (va_up (va_up co1 s1 (co1 p)) p true) vl root1 n md h0) 166 [(2, .ref s1), (0, .ref tm), (1, .ref x_)] [.ref nb]
                        refine V.iconst (v := (nI 1)) cx dJ1_fixAfterDeletion_166 (by decide) ?_
                        refine V.toi (y := b2 true) (by decide) ?_
                        refine V.callS (As := [.ref nb, .int (b2 true)]) (rest := []) cx (m_setColorS l hl g A E tm ka va lf1 rt1 pa1 (va_up (va_up co1 s1 (co1 p)) p true) vl root1 n md h0 nb hfE true) q1066 q1067 (na := 2) rfl (by decide +kernel) (Nat.le_of_ble_eq_true rfl) (by decide) (by decide) (by decide) rfl dJ1_fixAfterDeletion_167 (fun _ _ _ hx => hx.elim) (fun v67 h68 hp => ?_)
                        obtain ⟨rfl, rfl⟩ := hp
                        show V g A κ _ _ 0 0 (tmO E tm ka va lf1 rt1 pa1 (va_up (va_up (va_up co1 s1 (co1 p)) p true) nb true) vl root1 n md h0) 170 [(2, .ref s1), (0, .ref tm), (1, .ref x_)] []
                        refine V.aload_n cx dJ1_fixAfterDeletion_170 rfl 1 rfl ?_
                        refine V.aload_n cx dJ1_fixAfterDeletion_171 rfl 2 rfl ?_
                        refine V.callS (As := [.ref x_]) (rest := [.ref tm]) cx (m_parentOfS l hl g A E tm ka va lf1 rt1 pa1 (va_up (va_up (va_up co1 s1 (co1 p)) p true) nb true) vl root1 n md h0 x_ hx_) q1054 q1055 (na := 1) rfl (by decide +kernel) (Nat.le_of_ble_eq_true rfl) (by decide) (by decide) (by decide) rfl dJ1_fixAfterDeletion_172 (fun _ _ _ hx => hx.elim) (fun v69 h70 hp => ?_)
                        obtain ⟨rfl, rfl⟩ := hp
                        show V g A κ _ _ 0 0 (tmO E tm ka va lf1 rt1 pa1 (va_up (va_up (va_up co1 s1 (co1 p)) p true) nb true) vl root1 n md h0) 175 [(2, .ref s1), (0, .ref tm), (1, .ref x_)] [va_rf (pa1 x_), .ref tm]
                        refine V.toq (o' := (some p)) (by rw [hxp1]) ?_
                        show V g A κ _ _ 0 0 (tmO E tm ka va lf1 rt1 pa1 (va_up (va_up (va_up co1 s1 (co1 p)) p true) nb true) vl root1 n md h0) 175 [(2, .ref s1), (0, .ref tm), (1, .ref x_)] [.ref p, .ref tm]
                        refine V.callV (As := [.ref p]) (rest := []) (C := "java/util/TreeMap") cx (m_rotL l hl g A E tm ka va lf1 rt1 pa1 (va_up (va_up (va_up co1 s1 (co1 p)) p true) nb true) vl root1 n md h0 ix lo1 hi1 hI1 ht p s1 hpE hs1) rfl q1069 q1071 qs9 (Rv.of kJ1 (tm_t ht)) (na := 1) rfl (by decide +kernel) (Nat.le_of_ble_eq_true rfl) (by decide) (by decide) (by decide) rfl dJ1_fixAfterDeletion_175 (fun _ _ _ hx => hx.elim) (fun v71 h72 hp => ?_)
                        obtain ⟨rfl, rfl⟩ := hp
                        show V g A κ _ _ 0 0 (tmO E tm ka va (rlf lf1 pa1 p s1) (rrt lf1 rt1 pa1 p s1) (rpa lf1 pa1 p s1) (va_up (va_up (va_up co1 s1 (co1 p)) p true) nb true) vl (if pa1 p = none then some s1 else root1) n md h0) 178 [(2, .ref s1), (0, .ref tm), (1, .ref x_)] []
                        obtain ⟨lf4, rt4, pa4, root4, lo4, hi4, hI4, e14, e24, e34, e44, e54, e64⟩ : ∃ (lf4 rt4 pa4 : Nat → Option Nat) (root4 : Option Nat) (lo4 hi4 : Nat → Nat), Inv E ix lo4 hi4 lf4 rt4 pa4 root4 ∧ (rlf lf1 pa1 p s1) = lf4 ∧ (rrt lf1 rt1 pa1 p s1) = rt4 ∧ (rpa lf1 pa1 p s1) = pa4 ∧ (if pa1 p = none then some s1 else root1) = root4 ∧ (va_up lo1 s1 (lo1 p)) = lo4 ∧ (va_up hi1 p (ix s1)) = hi4 := ⟨_, _, _, _, _, _, Inv.rotL hI1 hpE hs1, rfl, rfl, rfl, rfl, rfl, rfl⟩
                        refine V.hto (h' := (tmO E tm ka va lf4 rt4 pa4 (va_up (va_up (va_up co1 s1 (co1 p)) p true) nb true) vl root4 n md h0)) (by rw [e14, e24, e34, e44]) ?_
                        show V g A κ _ _ 0 0 (tmO E tm ka va lf4 rt4 pa4 (va_up (va_up (va_up co1 s1 (co1 p)) p true) nb true) vl root4 n md h0) 178 [(2, .ref s1), (0, .ref tm), (1, .ref x_)] []
                        rcases opt_c root4 with hr4 | ⟨rr, hr4⟩
                        · exact absurd (Inv.root_some hI4 hx_) (fun e => absurd (hr4.symm.trans e.choose_spec) (by intro e; cases e))
                        · refine V.aload_n cx dJ1_fixAfterDeletion_178 rfl 1 rfl ?_
                          refine V.get cx kJ1 (tm_t ht) 3 (by decide) q158 rfl rfl dJ1_fixAfterDeletion_179 ?_
                          refine V.toq (o' := (some rr)) (by rw [hr4]) ?_
                          show V g A κ _ _ 0 0 (tmO E tm ka va lf4 rt4 pa4 (va_up (va_up (va_up co1 s1 (co1 p)) p true) nb true) vl root4 n md h0) 182 [(2, .ref s1), (0, .ref tm), (1, .ref x_)] [.ref rr]
                          refine V.astore_n (lv' := [(1, .ref rr), (2, .ref s1), (0, .ref tm)]) cx dJ1_fixAfterDeletion_182 rfl (by decide) rfl ?_
                          refine V.goto (tgt := 0) cx dJ1_fixAfterDeletion_183 (by decide) ?_
                          have k4 := hI4.2.2.2.2.2.2 rr hr4
                          refine V.sub [2, 0] rfl ?_
                          exact ih_ (rr, lo4, hi4, lf4, rt4, pa4, (va_up (va_up (va_up co1 s1 (co1 p)) p true) nb true), root4) (by dsimp only; exact (by have h1 := mz1; rw [k4.2.2.1, k4.2.2.2]; omega)) (by dsimp only; exact ⟨hI4, k4.1, fun r hr => Or.inr (Option.some.inj (hr4.symm.trans hr)), fun p0 hp0 => by have h1 := G1 p0 hp0; have h2 := hI4.2.1 p0 (hzE p0 hp0); have g := leaf_rot nt1 hs1 h1.1 h1.2.1 (fun e => by have h3 := h1.2.1; rw [e, hnb] at h3; cases h3); rw [e14, e24] at g; exact ⟨g.1, g.2, by omega, by omega⟩⟩)
                      · exact absurd cz (by decide)
                    · exact absurd cz (by decide)
                  · refine V.aload_n cx dJ1_fixAfterDeletion_71 rfl 0 rfl ?_
                    refine V.callS (As := [.ref s1]) (rest := []) cx (m_leftOfS l hl g A E tm ka va lf1 rt1 pa1 co1 vl root1 n md h0 s1 hsE) q1057 q1058 (na := 1) rfl (by decide +kernel) (Nat.le_of_ble_eq_true rfl) (by decide) (by decide) (by decide) rfl dJ1_fixAfterDeletion_72 (fun _ _ _ hx => hx.elim) (fun v73 h74 hp => ?_)
                    obtain ⟨rfl, rfl⟩ := hp
                    show V g A κ _ _ 0 0 (tmO E tm ka va lf1 rt1 pa1 co1 vl root1 n md h0) 75 [(2, .ref s1), (0, .ref tm), (1, .ref x_)] [va_rf (lf1 s1)]
                    refine V.toq (o' := (some na)) (by rw [hna]) ?_
                    show V g A κ _ _ 0 0 (tmO E tm ka va lf1 rt1 pa1 co1 vl root1 n md h0) 75 [(2, .ref s1), (0, .ref tm), (1, .ref x_)] [.ref na]
                    refine V.callS (As := [.ref na]) (rest := []) cx (m_colorOfS l hl g A E tm ka va lf1 rt1 pa1 co1 vl root1 n md h0 na hnE) q1063 q1064 (na := 1) rfl (by decide +kernel) (Nat.le_of_ble_eq_true rfl) (by decide) (by decide) (by decide) rfl dJ1_fixAfterDeletion_75 (fun _ _ _ hx => hx.elim) (fun v75 h76 hp => ?_)
                    obtain ⟨rfl, rfl⟩ := hp
                    show V g A κ _ _ 0 0 (tmO E tm ka va lf1 rt1 pa1 co1 vl root1 n md h0) 78 [(2, .ref s1), (0, .ref tm), (1, .ref x_)] [.int (b2 (co1 na))]
                    refine V.tob (b := false) (by rw [hcn]) ?_
                    show V g A κ _ _ 0 0 (tmO E tm ka va lf1 rt1 pa1 co1 vl root1 n md h0) 78 [(2, .ref s1), (0, .ref tm), (1, .ref x_)] [.int (b2 false)]
                    refine V.iconst (v := (nI 1)) cx dJ1_fixAfterDeletion_78 (by decide) ?_
                    refine V.icmp_ne (tgt := 106) cx dJ1_fixAfterDeletion_79 (by decide) (fun cz => ?_) (fun cz => ?_)
                    · refine V.aload_n cx dJ1_fixAfterDeletion_106 rfl 0 rfl ?_
                      refine V.callS (As := [.ref s1]) (rest := []) cx (m_rightOfS l hl g A E tm ka va lf1 rt1 pa1 co1 vl root1 n md h0 s1 hsE) q1060 q1061 (na := 1) rfl (by decide +kernel) (Nat.le_of_ble_eq_true rfl) (by decide) (by decide) (by decide) rfl dJ1_fixAfterDeletion_107 (fun _ _ _ hx => hx.elim) (fun v77 h78 hp => ?_)
                      obtain ⟨rfl, rfl⟩ := hp
                      show V g A κ _ _ 0 0 (tmO E tm ka va lf1 rt1 pa1 co1 vl root1 n md h0) 110 [(2, .ref s1), (0, .ref tm), (1, .ref x_)] [va_rf (rt1 s1)]
                      show V g A κ _ _ 0 0 (tmO E tm ka va lf1 rt1 pa1 co1 vl root1 n md h0) 110 [(2, .ref s1), (0, .ref tm), (1, .ref x_)] [va_rf (rt1 s1)]
                      refine V.callS (As := [va_rf (rt1 s1)]) (rest := []) cx (m_colorOf l hl g A E tm ka va lf1 rt1 pa1 co1 vl root1 n md h0 (rt1 s1) (fun e he => ((hI1.2.2.2.1 s1 hsE).2 e he).1)) q1063 q1064 (na := 1) rfl (by decide +kernel) (Nat.le_of_ble_eq_true rfl) (by decide) (by decide) (by decide) rfl dJ1_fixAfterDeletion_110 (fun _ _ _ hx => hx.elim) (fun v79 h80 hp => ?_)
                      obtain ⟨rfl, rfl⟩ := hp
                      show V g A κ _ _ 0 0 (tmO E tm ka va lf1 rt1 pa1 co1 vl root1 n md h0) 113 [(2, .ref s1), (0, .ref tm), (1, .ref x_)] [.int (b2 (Option.elim (rt1 s1) true co1))]
                      refine V.tob (b := true) hcf ?_
                      refine V.iconst (v := (nI 1)) cx dJ1_fixAfterDeletion_113 (by decide) ?_
                      refine V.icmp_ne (tgt := 143) cx dJ1_fixAfterDeletion_114 (by decide) (fun cz => ?_) (fun cz => ?_)
                      · exact absurd rfl cz
                      · have nns : na ≠ s1 := fun e => by have h1 := (hI1.2.2.1 s1 hsE).2 na hna; have h2 := hI1.2.1 na hnE; rw [e] at h1 h2; omega
                        refine V.aload_n cx dJ1_fixAfterDeletion_117 rfl 0 rfl ?_
                        refine V.callS (As := [.ref s1]) (rest := []) cx (m_leftOfS l hl g A E tm ka va lf1 rt1 pa1 co1 vl root1 n md h0 s1 hsE) q1057 q1058 (na := 1) rfl (by decide +kernel) (Nat.le_of_ble_eq_true rfl) (by decide) (by decide) (by decide) rfl dJ1_fixAfterDeletion_118 (fun _ _ _ hx => hx.elim) (fun v81 h82 hp => ?_)
                        obtain ⟨rfl, rfl⟩ := hp
                        show V g A κ _ _ 0 0 (tmO E tm ka va lf1 rt1 pa1 co1 vl root1 n md h0) 121 [(2, .ref s1), (0, .ref tm), (1, .ref x_)] [va_rf (lf1 s1)]
                        refine V.toq (o' := (some na)) (by rw [hna]) ?_
                        show V g A κ _ _ 0 0 (tmO E tm ka va lf1 rt1 pa1 co1 vl root1 n md h0) 121 [(2, .ref s1), (0, .ref tm), (1, .ref x_)] [.ref na]
                        refine V.iconst (v := (nI 1)) cx dJ1_fixAfterDeletion_121 (by decide) ?_
                        refine V.toi (y := b2 true) (by decide) ?_
                        refine V.callS (As := [.ref na, .int (b2 true)]) (rest := []) cx (m_setColorS l hl g A E tm ka va lf1 rt1 pa1 co1 vl root1 n md h0 na hnE true) q1066 q1067 (na := 2) rfl (by decide +kernel) (Nat.le_of_ble_eq_true rfl) (by decide) (by decide) (by decide) rfl dJ1_fixAfterDeletion_122 (fun _ _ _ hx => hx.elim) (fun v83 h84 hp => ?_)
                        obtain ⟨rfl, rfl⟩ := hp
                        show V g A κ _ _ 0 0 (tmO E tm ka va lf1 rt1 pa1 (va_up co1 na true) vl root1 n md h0) 125 [(2, .ref s1), (0, .ref tm), (1, .ref x_)] []
                        refine V.aload_n cx dJ1_fixAfterDeletion_125 rfl 0 rfl ?_
                        refine V.iconst (v := (nI 0)) cx dJ1_fixAfterDeletion_126 (by decide) ?_
                        refine V.toi (y := b2 false) (by decide) ?_
                        refine V.callS (As := [.ref s1, .int (b2 false)]) (rest := []) cx (m_setColorS l hl g A E tm ka va lf1 rt1 pa1 (va_up co1 na true) vl root1 n md h0 s1 hsE false) q1066 q1067 (na := 2) rfl (by decide +kernel) (Nat.le_of_ble_eq_true rfl) (by decide) (by decide) (by decide) rfl dJ1_fixAfterDeletion_127 (fun _ _ _ hx => hx.elim) (fun v85 h86 hp => ?_)
                        obtain ⟨rfl, rfl⟩ := hp
                        show V g A κ _ _ 0 0 (tmO E tm ka va lf1 rt1 pa1 (va_up (va_up co1 na true) s1 false) vl root1 n md h0) 130 [(2, .ref s1), (0, .ref tm), (1, .ref x_)] []
                        refine V.aload_n cx dJ1_fixAfterDeletion_130 rfl 1 rfl ?_
                        refine V.aload_n cx dJ1_fixAfterDeletion_131 rfl 0 rfl ?_
                        refine V.callV (As := [.ref s1]) (rest := []) (C := "java/util/TreeMap") cx (m_rotR l hl g A E tm ka va lf1 rt1 pa1 (va_up (va_up co1 na true) s1 false) vl root1 n md h0 ix lo1 hi1 hI1 ht s1 na hsE hna) rfl q1073 q1075 qs10 (Rv.of kJ1 (tm_t ht)) (na := 1) rfl (by decide +kernel) (Nat.le_of_ble_eq_true rfl) (by decide) (by decide) (by decide) rfl dJ1_fixAfterDeletion_132 (fun _ _ _ hx => hx.elim) (fun v87 h88 hp => ?_)
                        obtain ⟨rfl, rfl⟩ := hp
                        show V g A κ _ _ 0 0 (tmO E tm ka va (rrt rt1 lf1 pa1 s1 na) (rlf rt1 pa1 s1 na) (rpa rt1 pa1 s1 na) (va_up (va_up co1 na true) s1 false) vl (if pa1 s1 = none then some na else root1) n md h0) 135 [(2, .ref s1), (0, .ref tm), (1, .ref x_)] []
                        obtain ⟨rt3, lf3, pa3, root3, lo3, hi3, hI3, e13, e23, e33, e43, e53, e63⟩ : ∃ (rt3 lf3 pa3 : Nat → Option Nat) (root3 : Option Nat) (lo3 hi3 : Nat → Nat), Inv E ix lo3 hi3 lf3 rt3 pa3 root3 ∧ (rlf rt1 pa1 s1 na) = rt3 ∧ (rrt rt1 lf1 pa1 s1 na) = lf3 ∧ (rpa rt1 pa1 s1 na) = pa3 ∧ (if pa1 s1 = none then some na else root1) = root3 ∧ (va_up lo1 s1 (ix na + 1)) = lo3 ∧ (va_up hi1 na (hi1 s1)) = hi3 := ⟨_, _, _, _, _, _, Inv.rotR hI1 hsE hna, rfl, rfl, rfl, rfl, rfl, rfl⟩
                        refine V.hto (h' := (tmO E tm ka va lf3 rt3 pa3 (va_up (va_up co1 na true) s1 false) vl root3 n md h0)) (by rw [e13, e23, e33, e43]) ?_
                        show V g A κ _ _ 0 0 (tmO E tm ka va lf3 rt3 pa3 (va_up (va_up co1 na true) s1 false) vl root3 n md h0) 135 [(2, .ref s1), (0, .ref tm), (1, .ref x_)] []
                        obtain ⟨co3, hco3⟩ : ∃ z : Nat → Bool, (va_up (va_up co1 na true) s1 false) = z := ⟨_, rfl⟩
                        refine V.hto (h' := (tmO E tm ka va lf3 rt3 pa3 co3 vl root3 n md h0)) (by rw [hco3]) ?_
                        show V g A κ _ _ 0 0 (tmO E tm ka va lf3 rt3 pa3 co3 vl root3 n md h0) 135 [(2, .ref s1), (0, .ref tm), (1, .ref x_)] []
                        have q1 := (hI1.2.2.1 p hpE).2 x_ hlx1
                        have q2 := (hI1.2.2.2.1 p hpE).2 s1 hs1
                        have q3 := (hI1.2.2.1 s1 hsE).2 na hna
                        have q4 := hI1.2.1 na hnE
                        have q5 := hI1.2.1 x_ hx_
                        have q6 := hI1.2.1 p hpE
                        have q7 := hI1.2.1 s1 hsE
                        have nnp : na ≠ p := fun e => by subst e; omega
                        have nxn : x_ ≠ na := fun e => by subst e; omega
                        have nxs : x_ ≠ s1 := fun e => by subst e; omega
                        have hxp3 : pa3 x_ = some p := by rw [← e33]; unfold rpa; rw [if_neg nxs, if_neg nxn, if_neg (fun e => by have h1 := ((hI1.2.2.2.1 na hnE).2 x_ e).2.1; rw [hxp1] at h1; exact nnp (Option.some.inj h1).symm)]; exact hxp1
                        have hs3 : rt3 p = some na := by rw [← e13]; unfold rlf; rw [if_neg (Ne.symm nnp), if_pos ⟨hsp, hs1⟩]
                        have hf3 : rt3 na = some s1 := by rw [← e13]; unfold rlf; rw [if_pos rfl]
                        have hlx3 : lf3 p = some x_ := by rw [← e23]; unfold rrt; rw [if_neg (Ne.symm nsp), if_neg (fun e => e.2 hs1)]; exact hlx1
                        have rg3 : lo3 x_ = lo_ x_ ∧ hi3 x_ = hi_ x_ := by rw [← e53, ← e63]; unfold va_up; rw [if_neg nxs, if_neg nxn]; exact rg1
                        have hB3 : ∀ r, root3 = some r → co3 r = true := fun r hr => by
                          rw [← e43, hsp, if_neg (by simp)] at hr
                          have h1 := hB1 r hr
                          have h2 := (hI1.2.2.2.2.2.2 r hr).2.1
                          rw [← hco3]; unfold va_up
                          rw [if_neg (fun e => by rw [e, hsp] at h2; cases h2)]
                          by_cases hrn : r = na
                          · rw [if_pos hrn]
                          · rw [if_neg hrn]; exact h1
                        have G3 : ∀ p0, z = some p0 → lf3 p0 = none ∧ rt3 p0 = none ∧ lo3 x_ ≤ ix p0 ∧ ix p0 < hi3 x_ := fun p0 hp0 => by
                          have g := G1 p0 hp0
                          have gg := leaf_rot (fun q hq => Or.symm ((hI1.2.2.2.2.1 s1 hsE).2 q hq).2) hna g.2.1 g.1 (fun e => by subst e; have := rg1; omega)
                          rw [e13, e23] at gg
                          exact ⟨gg.2, gg.1, by have := rg3; have := rg1; omega, by have := rg3; have := rg1; omega⟩
                        refine V.aload_n cx dJ1_fixAfterDeletion_135 rfl 2 rfl ?_
                        refine V.callS (As := [.ref x_]) (rest := []) cx (m_parentOfS l hl g A E tm ka va lf3 rt3 pa3 co3 vl root3 n md h0 x_ hx_) q1054 q1055 (na := 1) rfl (by decide +kernel) (Nat.le_of_ble_eq_true rfl) (by decide) (by decide) (by decide) rfl dJ1_fixAfterDeletion_136 (fun _ _ _ hx => hx.elim) (fun v89 h90 hp => ?_)
                        obtain ⟨rfl, rfl⟩ := hp
                        show V g A κ _ _ 0 0 (tmO E tm ka va lf3 rt3 pa3 co3 vl root3 n md h0) 139 [(2, .ref s1), (0, .ref tm), (1, .ref x_)] [va_rf (pa3 x_)]
                        refine V.toq (o' := (some p)) (by rw [hxp3]) ?_
                        show V g A κ _ _ 0 0 (tmO E tm ka va lf3 rt3 pa3 co3 vl root3 n md h0) 139 [(2, .ref s1), (0, .ref tm), (1, .ref x_)] [.ref p]
                        refine V.callS (As := [.ref p]) (rest := []) cx (m_rightOfS l hl g A E tm ka va lf3 rt3 pa3 co3 vl root3 n md h0 p hpE) q1060 q1061 (na := 1) rfl (by decide +kernel) (Nat.le_of_ble_eq_true rfl) (by decide) (by decide) (by decide) rfl dJ1_fixAfterDeletion_139 (fun _ _ _ hx => hx.elim) (fun v91 h92 hp => ?_)
                        obtain ⟨rfl, rfl⟩ := hp
                        show V g A κ _ _ 0 0 (tmO E tm ka va lf3 rt3 pa3 co3 vl root3 n md h0) 142 [(2, .ref s1), (0, .ref tm), (1, .ref x_)] [va_rf (rt3 p)]
                        refine V.toq (o' := (some na)) (by rw [hs3]) ?_
                        show V g A κ _ _ 0 0 (tmO E tm ka va lf3 rt3 pa3 co3 vl root3 n md h0) 142 [(2, .ref s1), (0, .ref tm), (1, .ref x_)] [.ref na]
                        refine V.astore_n (lv' := [(2, .ref na), (0, .ref tm), (1, .ref x_)]) cx dJ1_fixAfterDeletion_142 rfl (by decide) rfl ?_
                        refine V.aload_n cx dJ1_fixAfterDeletion_143 rfl 0 rfl ?_
                        refine V.aload_n cx dJ1_fixAfterDeletion_144 rfl 2 rfl ?_
                        have mz3 : lo3 p ≤ lo3 x_ ∧ hi3 x_ ≤ hi3 p ∧ hi3 p - lo3 p > hi_ x_ - lo_ x_ ∧ lo3 x_ = lo_ x_ ∧ hi3 x_ = hi_ x_ ∧ hi3 p ≤ E.length ∧ lo3 p ≤ hi3 p := by
                          have h1 := hI3.2.1 p hpE
                          have h2 := hI3.2.1 x_ hx_
                          have h3 := (hI3.2.2.1 p hpE).2 x_ hlx3
                          have h4 := rg3
                          omega
                        have nt3 : ∀ q, pa3 p = some q → lf3 q = some p ∨ rt3 q = some p := fun q hq => ((hI3.2.2.2.2.1 p hpE).2 q hq).2
                        refine V.callS (As := [.ref x_]) (rest := [.ref na]) cx (m_parentOfS l hl g A E tm ka va lf3 rt3 pa3 co3 vl root3 n md h0 x_ hx_) q1054 q1055 (na := 1) rfl (by decide +kernel) (Nat.le_of_ble_eq_true rfl) (by decide) (by decide) (by decide) rfl dJ1_fixAfterDeletion_145 (fun _ _ _ hx => hx.elim) (fun v93 h94 hp => ?_)
                        obtain ⟨rfl, rfl⟩ := hp
                        show V g A κ _ _ 0 0 (tmO E tm ka va lf3 rt3 pa3 co3 vl root3 n md h0) 148 [(2, .ref na), (0, .ref tm), (1, .ref x_)] [va_rf (pa3 x_), .ref na]
                        refine V.toq (o' := (some p)) (by rw [hxp3]) ?_
                        show V g A κ _ _ 0 0 (tmO E tm ka va lf3 rt3 pa3 co3 vl root3 n md h0) 148 [(2, .ref na), (0, .ref tm), (1, .ref x_)] [.ref p, .ref na]
                        refine V.callS (As := [.ref p]) (rest := [.ref na]) cx (m_colorOfS l hl g A E tm ka va lf3 rt3 pa3 co3 vl root3 n md h0 p hpE) q1063 q1064 (na := 1) rfl (by decide +kernel) (Nat.le_of_ble_eq_true rfl) (by decide) (by decide) (by decide) rfl dJ1_fixAfterDeletion_148 (fun _ _ _ hx => hx.elim) (fun v95 h96 hp => ?_)
                        obtain ⟨rfl, rfl⟩ := hp
                        show V g A κ _ _ 0 0 (tmO E tm ka va lf3 rt3 pa3 co3 vl root3 n md h0) 151 [(2, .ref na), (0, .ref tm), (1, .ref x_)] [.int (b2 (co3 p)), .ref na]
                        show V g A κ _ _ 0 0 (tmO E tm ka va lf3 rt3 pa3 co3 vl root3 n md h0) 151 [(2, .ref na), (0, .ref tm), (1, .ref x_)] [.int (b2 (co3 p)), .ref na]
                        refine V.callS (As := [.ref na, .int (b2 (co3 p))]) (rest := []) cx (m_setColorS l hl g A E tm ka va lf3 rt3 pa3 co3 vl root3 n md h0 na hnE (co3 p)) q1066 q1067 (na := 2) rfl (by decide +kernel) (Nat.le_of_ble_eq_true rfl) (by decide) (by decide) (by decide) rfl dJ1_fixAfterDeletion_151 (fun _ _ _ hx => hx.elim) (fun v97 h98 hp => ?_)
                        obtain ⟨rfl, rfl⟩ := hp
                        show V g A κ _ _ 0 0 (tmO E tm ka va lf3 rt3 pa3 (va_up co3 na (co3 p)) vl root3 n md h0) 154 [(2, .ref na), (0, .ref tm), (1, .ref x_)] []
                        refine V.aload_n cx dJ1_fixAfterDeletion_154 rfl 2 rfl ?_
                        refine V.callS (As := [.ref x_]) (rest := []) cx (m_parentOfS l hl g A E tm ka va lf3 rt3 pa3 (va_up co3 na (co3 p)) vl root3 n md h0 x_ hx_) q1054 q1055 (na := 1) rfl (by decide +kernel) (Nat.le_of_ble_eq_true rfl) (by decide) (by decide) (by decide) rfl dJ1_fixAfterDeletion_155 (fun _ _ _ hx => hx.elim) (fun v99 h100 hp => ?_)
                        obtain ⟨rfl, rfl⟩ := hp
                        show V g A κ _ _ 0 0 (tmO E tm ka va lf3 rt3 pa3 (va_up co3 na (co3 p)) vl root3 n md h0) 158 [(2, .ref na), (0, .ref tm), (1, .ref x_)] [va_rf (pa3 x_)]
                        refine V.toq (o' := (some p)) (by rw [hxp3]) ?_
                        show V g A κ _ _ 0 0 (tmO E tm ka va lf3 rt3 pa3 (va_up co3 na (co3 p)) vl root3 n md h0) 158 [(2, .ref na), (0, .ref tm), (1, .ref x_)] [.ref p]
                        refine V.iconst (v := (nI 1)) cx dJ1_fixAfterDeletion_158 (by decide) ?_
                        refine V.toi (y := b2 true) (by decide) ?_
                        refine V.callS (As := [.ref p, .int (b2 true)]) (rest := []) cx (m_setColorS l hl g A E tm ka va lf3 rt3 pa3 (va_up co3 na (co3 p)) vl root3 n md h0 p hpE true) q1066 q1067 (na := 2) rfl (by decide +kernel) (Nat.le_of_ble_eq_true rfl) (by decide) (by decide) (by decide) rfl dJ1_fixAfterDeletion_159 (fun _ _ _ hx => hx.elim) (fun v101 h102 hp => ?_)
                        obtain ⟨rfl, rfl⟩ := hp
                        show V g A κ _ _ 0 0 (tmO E tm ka va lf3 rt3 pa3 (va_up (va_up co3 na (co3 p)) p true) vl root3 n md h0) 162 [(2, .ref na), (0, .ref tm), (1, .ref x_)] []
                        refine V.aload_n cx dJ1_fixAfterDeletion_162 rfl 0 rfl ?_
                        refine V.callS (As := [.ref na]) (rest := []) cx (m_rightOfS l hl g A E tm ka va lf3 rt3 pa3 (va_up (va_up co3 na (co3 p)) p true) vl root3 n md h0 na hnE) q1060 q1061 (na := 1) rfl (by decide +kernel) (Nat.le_of_ble_eq_true rfl) (by decide) (by decide) (by decide) rfl dJ1_fixAfterDeletion_163 (fun _ _ _ hx => hx.elim) (fun v103 h104 hp => ?_)
                        obtain ⟨rfl, rfl⟩ := hp
                        show V g A κ _ _ 0 0 (tmO E tm ka va lf3 rt3 pa3 (va_up (va_up co3 na (co3 p)) p true) vl root3 n md h0) 166 [(2, .ref na), (0, .ref tm), (1, .ref x_)] [va_rf (rt3 na)]
                        refine V.toq (o' := (some s1)) (by rw [hf3]) ?_
                        show V g A κ _ _ 0 0 (tmO E tm ka va lf3 rt3 pa3 (va_up (va_up co3 na (co3 p)) p true) vl root3 n md h0) 166 [(2, .ref na), (0, .ref tm), (1, .ref x_)] [.ref s1]
                        refine V.iconst (v := (nI 1)) cx dJ1_fixAfterDeletion_166 (by decide) ?_
                        refine V.toi (y := b2 true) (by decide) ?_
                        refine V.callS (As := [.ref s1, .int (b2 true)]) (rest := []) cx (m_setColorS l hl g A E tm ka va lf3 rt3 pa3 (va_up (va_up co3 na (co3 p)) p true) vl root3 n md h0 s1 hsE true) q1066 q1067 (na := 2) rfl (by decide +kernel) (Nat.le_of_ble_eq_true rfl) (by decide) (by decide) (by decide) rfl dJ1_fixAfterDeletion_167 (fun _ _ _ hx => hx.elim) (fun v105 h106 hp => ?_)
                        obtain ⟨rfl, rfl⟩ := hp
                        show V g A κ _ _ 0 0 (tmO E tm ka va lf3 rt3 pa3 (va_up (va_up (va_up co3 na (co3 p)) p true) s1 true) vl root3 n md h0) 170 [(2, .ref na), (0, .ref tm), (1, .ref x_)] []
                        refine V.aload_n cx dJ1_fixAfterDeletion_170 rfl 1 rfl ?_
                        refine V.aload_n cx dJ1_fixAfterDeletion_171 rfl 2 rfl ?_
                        refine V.callS (As := [.ref x_]) (rest := [.ref tm]) cx (m_parentOfS l hl g A E tm ka va lf3 rt3 pa3 (va_up (va_up (va_up co3 na (co3 p)) p true) s1 true) vl root3 n md h0 x_ hx_) q1054 q1055 (na := 1) rfl (by decide +kernel) (Nat.le_of_ble_eq_true rfl) (by decide) (by decide) (by decide) rfl dJ1_fixAfterDeletion_172 (fun _ _ _ hx => hx.elim) (fun v107 h108 hp => ?_)
                        obtain ⟨rfl, rfl⟩ := hp
                        show V g A κ _ _ 0 0 (tmO E tm ka va lf3 rt3 pa3 (va_up (va_up (va_up co3 na (co3 p)) p true) s1 true) vl root3 n md h0) 175 [(2, .ref na), (0, .ref tm), (1, .ref x_)] [va_rf (pa3 x_), .ref tm]
                        refine V.toq (o' := (some p)) (by rw [hxp3]) ?_
                        show V g A κ _ _ 0 0 (tmO E tm ka va lf3 rt3 pa3 (va_up (va_up (va_up co3 na (co3 p)) p true) s1 true) vl root3 n md h0) 175 [(2, .ref na), (0, .ref tm), (1, .ref x_)] [.ref p, .ref tm]
                        refine V.callV (As := [.ref p]) (rest := []) (C := "java/util/TreeMap") cx (m_rotL l hl g A E tm ka va lf3 rt3 pa3 (va_up (va_up (va_up co3 na (co3 p)) p true) s1 true) vl root3 n md h0 ix lo3 hi3 hI3 ht p na hpE hs3) rfl q1069 q1071 qs9 (Rv.of kJ1 (tm_t ht)) (na := 1) rfl (by decide +kernel) (Nat.le_of_ble_eq_true rfl) (by decide) (by decide) (by decide) rfl dJ1_fixAfterDeletion_175 (fun _ _ _ hx => hx.elim) (fun v109 h110 hp => ?_)
                        obtain ⟨rfl, rfl⟩ := hp
                        show V g A κ _ _ 0 0 (tmO E tm ka va (rlf lf3 pa3 p na) (rrt lf3 rt3 pa3 p na) (rpa lf3 pa3 p na) (va_up (va_up (va_up co3 na (co3 p)) p true) s1 true) vl (if pa3 p = none then some na else root3) n md h0) 178 [(2, .ref na), (0, .ref tm), (1, .ref x_)] []
                        obtain ⟨lf4, rt4, pa4, root4, lo4, hi4, hI4, e14, e24, e34, e44, e54, e64⟩ : ∃ (lf4 rt4 pa4 : Nat → Option Nat) (root4 : Option Nat) (lo4 hi4 : Nat → Nat), Inv E ix lo4 hi4 lf4 rt4 pa4 root4 ∧ (rlf lf3 pa3 p na) = lf4 ∧ (rrt lf3 rt3 pa3 p na) = rt4 ∧ (rpa lf3 pa3 p na) = pa4 ∧ (if pa3 p = none then some na else root3) = root4 ∧ (va_up lo3 na (lo3 p)) = lo4 ∧ (va_up hi3 p (ix na)) = hi4 := ⟨_, _, _, _, _, _, Inv.rotL hI3 hpE hs3, rfl, rfl, rfl, rfl, rfl, rfl⟩
                        refine V.hto (h' := (tmO E tm ka va lf4 rt4 pa4 (va_up (va_up (va_up co3 na (co3 p)) p true) s1 true) vl root4 n md h0)) (by rw [e14, e24, e34, e44]) ?_
                        show V g A κ _ _ 0 0 (tmO E tm ka va lf4 rt4 pa4 (va_up (va_up (va_up co3 na (co3 p)) p true) s1 true) vl root4 n md h0) 178 [(2, .ref na), (0, .ref tm), (1, .ref x_)] []
                        rcases opt_c root4 with hr4 | ⟨rr, hr4⟩
                        · exact absurd (Inv.root_some hI4 hx_) (fun e => absurd (hr4.symm.trans e.choose_spec) (by intro e; cases e))
                        · refine V.aload_n cx dJ1_fixAfterDeletion_178 rfl 1 rfl ?_
                          refine V.get cx kJ1 (tm_t ht) 3 (by decide) q158 rfl rfl dJ1_fixAfterDeletion_179 ?_
                          refine V.toq (o' := (some rr)) (by rw [hr4]) ?_
                          show V g A κ _ _ 0 0 (tmO E tm ka va lf4 rt4 pa4 (va_up (va_up (va_up co3 na (co3 p)) p true) s1 true) vl root4 n md h0) 182 [(2, .ref na), (0, .ref tm), (1, .ref x_)] [.ref rr]
                          refine V.astore_n (lv' := [(1, .ref rr), (2, .ref na), (0, .ref tm)]) cx dJ1_fixAfterDeletion_182 rfl (by decide) rfl ?_
                          refine V.goto (tgt := 0) cx dJ1_fixAfterDeletion_183 (by decide) ?_
                          have k4 := hI4.2.2.2.2.2.2 rr hr4
                          refine V.sub [2, 0] rfl ?_
                          exact ih_ (rr, lo4, hi4, lf4, rt4, pa4, (va_up (va_up (va_up co3 na (co3 p)) p true) s1 true), root4) (by dsimp only; exact (by have h1 := mz3; rw [k4.2.2.1, k4.2.2.2]; omega)) (by dsimp only; exact ⟨hI4, k4.1, fun r hr => Or.inr (Option.some.inj (hr4.symm.trans hr)), fun p0 hp0 => by have h1 := G3 p0 hp0; have h2 := hI4.2.1 p0 (hzE p0 hp0); have g := leaf_rot nt3 hs3 h1.1 h1.2.1 (fun e => by have h3 := h1.2.1; rw [e, hf3] at h3; cases h3); rw [e14, e24] at g; exact ⟨g.1, g.2, by omega, by omega⟩⟩)
                    · exact absurd cz (by decide)
                · rcases unc (rt1 s1) co1 with ⟨nb, hnb, hcf⟩ | hcf
                  · have hfE : nb ∈ E := (fun e he => ((hI1.2.2.2.1 s1 hsE).2 e he).1) nb hnb
                    refine V.aload_n cx dJ1_fixAfterDeletion_71 rfl 0 rfl ?_
                    refine V.callS (As := [.ref s1]) (rest := []) cx (m_leftOfS l hl g A E tm ka va lf1 rt1 pa1 co1 vl root1 n md h0 s1 hsE) q1057 q1058 (na := 1) rfl (by decide +kernel) (Nat.le_of_ble_eq_true rfl) (by decide) (by decide) (by decide) rfl dJ1_fixAfterDeletion_72 (fun _ _ _ hx => hx.elim) (fun v111 h112 hp => ?_)
                    obtain ⟨rfl, rfl⟩ := hp
                    show V g A κ _ _ 0 0 (tmO E tm ka va lf1 rt1 pa1 co1 vl root1 n md h0) 75 [(2, .ref s1), (0, .ref tm), (1, .ref x_)] [va_rf (lf1 s1)]
                    show V g A κ _ _ 0 0 (tmO E tm ka va lf1 rt1 pa1 co1 vl root1 n md h0) 75 [(2, .ref s1), (0, .ref tm), (1, .ref x_)] [va_rf (lf1 s1)]
                    refine V.callS (As := [va_rf (lf1 s1)]) (rest := []) cx (m_colorOf l hl g A E tm ka va lf1 rt1 pa1 co1 vl root1 n md h0 (lf1 s1) (fun e he => ((hI1.2.2.1 s1 hsE).2 e he).1)) q1063 q1064 (na := 1) rfl (by decide +kernel) (Nat.le_of_ble_eq_true rfl) (by decide) (by decide) (by decide) rfl dJ1_fixAfterDeletion_75 (fun _ _ _ hx => hx.elim) (fun v113 h114 hp => ?_)
                    obtain ⟨rfl, rfl⟩ := hp
                    show V g A κ _ _ 0 0 (tmO E tm ka va lf1 rt1 pa1 co1 vl root1 n md h0) 78 [(2, .ref s1), (0, .ref tm), (1, .ref x_)] [.int (b2 (Option.elim (lf1 s1) true co1))]
                    refine V.tob (b := true) hcn ?_
                    refine V.iconst (v := (nI 1)) cx dJ1_fixAfterDeletion_78 (by decide) ?_
                    refine V.icmp_ne (tgt := 106) cx dJ1_fixAfterDeletion_79 (by decide) (fun cz => ?_) (fun cz => ?_)
                    · exact absurd rfl cz
                    · refine V.aload_n cx dJ1_fixAfterDeletion_82 rfl 0 rfl ?_
                      refine V.callS (As := [.ref s1]) (rest := []) cx (m_rightOfS l hl g A E tm ka va lf1 rt1 pa1 co1 vl root1 n md h0 s1 hsE) q1060 q1061 (na := 1) rfl (by decide +kernel) (Nat.le_of_ble_eq_true rfl) (by decide) (by decide) (by decide) rfl dJ1_fixAfterDeletion_83 (fun _ _ _ hx => hx.elim) (fun v115 h116 hp => ?_)
                      obtain ⟨rfl, rfl⟩ := hp
                      show V g A κ _ _ 0 0 (tmO E tm ka va lf1 rt1 pa1 co1 vl root1 n md h0) 86 [(2, .ref s1), (0, .ref tm), (1, .ref x_)] [va_rf (rt1 s1)]
                      refine V.toq (o' := (some nb)) (by rw [hnb]) ?_
                      show V g A κ _ _ 0 0 (tmO E tm ka va lf1 rt1 pa1 co1 vl root1 n md h0) 86 [(2, .ref s1), (0, .ref tm), (1, .ref x_)] [.ref nb]
                      refine V.callS (As := [.ref nb]) (rest := []) cx (m_colorOfS l hl g A E tm ka va lf1 rt1 pa1 co1 vl root1 n md h0 nb hfE) q1063 q1064 (na := 1) rfl (by decide +kernel) (Nat.le_of_ble_eq_true rfl) (by decide) (by decide) (by decide) rfl dJ1_fixAfterDeletion_86 (fun _ _ _ hx => hx.elim) (fun v117 h118 hp => ?_)
                      obtain ⟨rfl, rfl⟩ := hp
                      show V g A κ _ _ 0 0 (tmO E tm ka va lf1 rt1 pa1 co1 vl root1 n md h0) 89 [(2, .ref s1), (0, .ref tm), (1, .ref x_)] [.int (b2 (co1 nb))]
                      refine V.tob (b := false) (by rw [hcf]) ?_
                      show V g A κ _ _ 0 0 (tmO E tm ka va lf1 rt1 pa1 co1 vl root1 n md h0) 89 [(2, .ref s1), (0, .ref tm), (1, .ref x_)] [.int (b2 false)]
                      refine V.iconst (v := (nI 1)) cx dJ1_fixAfterDeletion_89 (by decide) ?_
                      refine V.icmp_ne (tgt := 106) cx dJ1_fixAfterDeletion_90 (by decide) (fun cz => ?_) (fun cz => ?_)
                      · refine V.aload_n cx dJ1_fixAfterDeletion_106 rfl 0 rfl ?_
                        refine V.callS (As := [.ref s1]) (rest := []) cx (m_rightOfS l hl g A E tm ka va lf1 rt1 pa1 co1 vl root1 n md h0 s1 hsE) q1060 q1061 (na := 1) rfl (by decide +kernel) (Nat.le_of_ble_eq_true rfl) (by decide) (by decide) (by decide) rfl dJ1_fixAfterDeletion_107 (fun _ _ _ hx => hx.elim) (fun v119 h120 hp => ?_)
                        obtain ⟨rfl, rfl⟩ := hp
                        show V g A κ _ _ 0 0 (tmO E tm ka va lf1 rt1 pa1 co1 vl root1 n md h0) 110 [(2, .ref s1), (0, .ref tm), (1, .ref x_)] [va_rf (rt1 s1)]
                        refine V.toq (o' := (some nb)) (by rw [hnb]) ?_
                        show V g A κ _ _ 0 0 (tmO E tm ka va lf1 rt1 pa1 co1 vl root1 n md h0) 110 [(2, .ref s1), (0, .ref tm), (1, .ref x_)] [.ref nb]
                        refine V.callS (As := [.ref nb]) (rest := []) cx (m_colorOfS l hl g A E tm ka va lf1 rt1 pa1 co1 vl root1 n md h0 nb hfE) q1063 q1064 (na := 1) rfl (by decide +kernel) (Nat.le_of_ble_eq_true rfl) (by decide) (by decide) (by decide) rfl dJ1_fixAfterDeletion_110 (fun _ _ _ hx => hx.elim) (fun v121 h122 hp => ?_)
                        obtain ⟨rfl, rfl⟩ := hp
                        show V g A κ _ _ 0 0 (tmO E tm ka va lf1 rt1 pa1 co1 vl root1 n md h0) 113 [(2, .ref s1), (0, .ref tm), (1, .ref x_)] [.int (b2 (co1 nb))]
                        refine V.tob (b := false) (by rw [hcf]) ?_
                        show V g A κ _ _ 0 0 (tmO E tm ka va lf1 rt1 pa1 co1 vl root1 n md h0) 113 [(2, .ref s1), (0, .ref tm), (1, .ref x_)] [.int (b2 false)]
                        refine V.iconst (v := (nI 1)) cx dJ1_fixAfterDeletion_113 (by decide) ?_
                        refine V.icmp_ne (tgt := 143) cx dJ1_fixAfterDeletion_114 (by decide) (fun cz => ?_) (fun cz => ?_)
                        · refine V.aload_n cx dJ1_fixAfterDeletion_143 rfl 0 rfl ?_
                          refine V.aload_n cx dJ1_fixAfterDeletion_144 rfl 2 rfl ?_
                          refine V.callS (As := [.ref x_]) (rest := [.ref s1]) cx (m_parentOfS l hl g A E tm ka va lf1 rt1 pa1 co1 vl root1 n md h0 x_ hx_) q1054 q1055 (na := 1) rfl (by decide +kernel) (Nat.le_of_ble_eq_true rfl) (by decide) (by decide) (by decide) rfl dJ1_fixAfterDeletion_145 (fun _ _ _ hx => hx.elim) (fun v123 h124 hp => ?_)
                          obtain ⟨rfl, rfl⟩ := hp
                          show V g A κ _ _ 0 0 (tmO E tm ka va lf1 rt1 pa1 co1 vl root1 n md h0) 148 [(2, .ref s1), (0, .ref tm), (1, .ref x_)] [va_rf (pa1 x_), .ref s1]
                          refine V.toq (o' := (some p)) (by rw [hxp1]) ?_
                          show V g A κ _ _ 0 0 (tmO E tm ka va lf1 rt1 pa1 co1 vl root1 n md h0) 148 [(2, .ref s1), (0, .ref tm), (1, .ref x_)] [.ref p, .ref s1]
                          refine V.callS (As := [.ref p]) (rest := [.ref s1]) cx (m_colorOfS l hl g A E tm ka va lf1 rt1 pa1 co1 vl root1 n md h0 p hpE) q1063 q1064 (na := 1) rfl (by decide +kernel) (Nat.le_of_ble_eq_true rfl) (by decide) (by decide) (by decide) rfl dJ1_fixAfterDeletion_148 (fun _ _ _ hx => hx.elim) (fun v125 h126 hp => ?_)
                          obtain ⟨rfl, rfl⟩ := hp
                          show V g A κ _ _ 0 0 (tmO E tm ka va lf1 rt1 pa1 co1 vl root1 n md h0) 151 [(2, .ref s1), (0, .ref tm), (1, .ref x_)] [.int (b2 (co1 p)), .ref s1]
                          show V g A κ _ _ 0 0 (tmO E tm ka va lf1 rt1 pa1 co1 vl root1 n md h0) 151 [(2, .ref s1), (0, .ref tm), (1, .ref x_)] [.int (b2 (co1 p)), .ref s1]
                          refine V.callS (As := [.ref s1, .int (b2 (co1 p))]) (rest := []) cx (m_setColorS l hl g A E tm ka va lf1 rt1 pa1 co1 vl root1 n md h0 s1 hsE (co1 p)) q1066 q1067 (na := 2) rfl (by decide +kernel) (Nat.le_of_ble_eq_true rfl) (by decide) (by decide) (by decide) rfl dJ1_fixAfterDeletion_151 (fun _ _ _ hx => hx.elim) (fun v127 h128 hp => ?_)
                          obtain ⟨rfl, rfl⟩ := hp
                          show V g A κ _ _ 0 0 (tmO E tm ka va lf1 rt1 pa1 (va_up co1 s1 (co1 p)) vl root1 n md h0) 154 [(2, .ref s1), (0, .ref tm), (1, .ref x_)] []
                          refine V.aload_n cx dJ1_fixAfterDeletion_154 rfl 2 rfl ?_
                          refine V.callS (As := [.ref x_]) (rest := []) cx (m_parentOfS l hl g A E tm ka va lf1 rt1 pa1 (va_up co1 s1 (co1 p)) vl root1 n md h0 x_ hx_) q1054 q1055 (na := 1) rfl (by decide +kernel) (Nat.le_of_ble_eq_true rfl) (by decide) (by decide) (by decide) rfl dJ1_fixAfterDeletion_155 (fun _ _ _ hx => hx.elim) (fun v129 h130 hp => ?_)
                          obtain ⟨rfl, rfl⟩ := hp
                          show V g A κ _ _ 0 0 (tmO E tm ka va lf1 rt1 pa1 (va_up co1 s1 (co1 p)) vl root1 n md h0) 158 [(2, .ref s1), (0, .ref tm), (1, .ref x_)] [va_rf (pa1 x_)]
                          refine V.toq (o' := (some p)) (by rw [hxp1]) ?_
                          show V g A κ _ _ 0 0 (tmO E tm ka va lf1 rt1 pa1 (va_up co1 s1 (co1 p)) vl root1 n md h0) 158 [(2, .ref s1), (0, .ref tm), (1, .ref x_)] [.ref p]
                          refine V.iconst (v := (nI 1)) cx dJ1_fixAfterDeletion_158 (by decide) ?_
                          refine V.toi (y := b2 true) (by decide) ?_
                          refine V.callS (As := [.ref p, .int (b2 true)]) (rest := []) cx (m_setColorS l hl g A E tm ka va lf1 rt1 pa1 (va_up co1 s1 (co1 p)) vl root1 n md h0 p hpE true) q1066 q1067 (na := 2) rfl (by decide +kernel) (Nat.le_of_ble_eq_true rfl) (by decide) (by decide) (by decide) rfl dJ1_fixAfterDeletion_159 (fun _ _ _ hx => hx.elim) (fun v131 h132 hp => ?_)
                          obtain ⟨rfl, rfl⟩ := hp
                          show V g A κ _ _ 0 0 (tmO E tm ka va lf1 rt1 pa1 (va_up (va_up co1 s1 (co1 p)) p true) vl root1 n md h0) 162 [(2, .ref s1), (0, .ref tm), (1, .ref x_)] []
                          refine V.aload_n cx dJ1_fixAfterDeletion_162 rfl 0 rfl ?_
                          refine V.callS (As := [.ref s1]) (rest := []) cx (m_rightOfS l hl g A E tm ka va lf1 rt1 pa1 (va_up (va_up co1 s1 (co1 p)) p true) vl root1 n md h0 s1 hsE) q1060 q1061 (na := 1) rfl (by decide +kernel) (Nat.le_of_ble_eq_true rfl) (by decide) (by decide) (by decide) rfl dJ1_fixAfterDeletion_163 (fun _ _ _ hx => hx.elim) (fun v133 h134 hp => ?_)
                          obtain ⟨rfl, rfl⟩ := hp
                          show V g A κ _ _ 0 0 (tmO E tm ka va lf1 rt1 pa1 (va_up (va_up co1 s1 (co1 p)) p true) vl root1 n md h0) 166 [(2, .ref s1), (0, .ref tm), (1, .ref x_)] [va_rf (rt1 s1)]
                          refine V.toq (o' := (some nb)) (by rw [hnb]) ?_
                          show V g A κ _ _ 0 0 (tmO E tm ka va lf1 rt1 pa1 (va_up (va_up co1 s1 (co1 p)) p true) vl root1 n md h0) 166 [(2, .ref s1), (0, .ref tm), (1, .ref x_)] [.ref nb]
                          refine V.iconst (v := (nI 1)) cx dJ1_fixAfterDeletion_166 (by decide) ?_
                          refine V.toi (y := b2 true) (by decide) ?_
                          refine V.callS (As := [.ref nb, .int (b2 true)]) (rest := []) cx (m_setColorS l hl g A E tm ka va lf1 rt1 pa1 (va_up (va_up co1 s1 (co1 p)) p true) vl root1 n md h0 nb hfE true) q1066 q1067 (na := 2) rfl (by decide +kernel) (Nat.le_of_ble_eq_true rfl) (by decide) (by decide) (by decide) rfl dJ1_fixAfterDeletion_167 (fun _ _ _ hx => hx.elim) (fun v135 h136 hp => ?_)
                          obtain ⟨rfl, rfl⟩ := hp
                          show V g A κ _ _ 0 0 (tmO E tm ka va lf1 rt1 pa1 (va_up (va_up (va_up co1 s1 (co1 p)) p true) nb true) vl root1 n md h0) 170 [(2, .ref s1), (0, .ref tm), (1, .ref x_)] []
                          refine V.aload_n cx dJ1_fixAfterDeletion_170 rfl 1 rfl ?_
                          refine V.aload_n cx dJ1_fixAfterDeletion_171 rfl 2 rfl ?_
                          refine V.callS (As := [.ref x_]) (rest := [.ref tm]) cx (m_parentOfS l hl g A E tm ka va lf1 rt1 pa1 (va_up (va_up (va_up co1 s1 (co1 p)) p true) nb true) vl root1 n md h0 x_ hx_) q1054 q1055 (na := 1) rfl (by decide +kernel) (Nat.le_of_ble_eq_true rfl) (by decide) (by decide) (by decide) rfl dJ1_fixAfterDeletion_172 (fun _ _ _ hx => hx.elim) (fun v137 h138 hp => ?_)
                          obtain ⟨rfl, rfl⟩ := hp
                          show V g A κ _ _ 0 0 (tmO E tm ka va lf1 rt1 pa1 (va_up (va_up (va_up co1 s1 (co1 p)) p true) nb true) vl root1 n md h0) 175 [(2, .ref s1), (0, .ref tm), (1, .ref x_)] [va_rf (pa1 x_), .ref tm]
                          refine V.toq (o' := (some p)) (by rw [hxp1]) ?_
                          show V g A κ _ _ 0 0 (tmO E tm ka va lf1 rt1 pa1 (va_up (va_up (va_up co1 s1 (co1 p)) p true) nb true) vl root1 n md h0) 175 [(2, .ref s1), (0, .ref tm), (1, .ref x_)] [.ref p, .ref tm]
                          refine V.callV (As := [.ref p]) (rest := []) (C := "java/util/TreeMap") cx (m_rotL l hl g A E tm ka va lf1 rt1 pa1 (va_up (va_up (va_up co1 s1 (co1 p)) p true) nb true) vl root1 n md h0 ix lo1 hi1 hI1 ht p s1 hpE hs1) rfl q1069 q1071 qs9 (Rv.of kJ1 (tm_t ht)) (na := 1) rfl (by decide +kernel) (Nat.le_of_ble_eq_true rfl) (by decide) (by decide) (by decide) rfl dJ1_fixAfterDeletion_175 (fun _ _ _ hx => hx.elim) (fun v139 h140 hp => ?_)
                          obtain ⟨rfl, rfl⟩ := hp
                          show V g A κ _ _ 0 0 (tmO E tm ka va (rlf lf1 pa1 p s1) (rrt lf1 rt1 pa1 p s1) (rpa lf1 pa1 p s1) (va_up (va_up (va_up co1 s1 (co1 p)) p true) nb true) vl (if pa1 p = none then some s1 else root1) n md h0) 178 [(2, .ref s1), (0, .ref tm), (1, .ref x_)] []
                          obtain ⟨lf4, rt4, pa4, root4, lo4, hi4, hI4, e14, e24, e34, e44, e54, e64⟩ : ∃ (lf4 rt4 pa4 : Nat → Option Nat) (root4 : Option Nat) (lo4 hi4 : Nat → Nat), Inv E ix lo4 hi4 lf4 rt4 pa4 root4 ∧ (rlf lf1 pa1 p s1) = lf4 ∧ (rrt lf1 rt1 pa1 p s1) = rt4 ∧ (rpa lf1 pa1 p s1) = pa4 ∧ (if pa1 p = none then some s1 else root1) = root4 ∧ (va_up lo1 s1 (lo1 p)) = lo4 ∧ (va_up hi1 p (ix s1)) = hi4 := ⟨_, _, _, _, _, _, Inv.rotL hI1 hpE hs1, rfl, rfl, rfl, rfl, rfl, rfl⟩
                          refine V.hto (h' := (tmO E tm ka va lf4 rt4 pa4 (va_up (va_up (va_up co1 s1 (co1 p)) p true) nb true) vl root4 n md h0)) (by rw [e14, e24, e34, e44]) ?_
                          show V g A κ _ _ 0 0 (tmO E tm ka va lf4 rt4 pa4 (va_up (va_up (va_up co1 s1 (co1 p)) p true) nb true) vl root4 n md h0) 178 [(2, .ref s1), (0, .ref tm), (1, .ref x_)] []
                          rcases opt_c root4 with hr4 | ⟨rr, hr4⟩
                          · exact absurd (Inv.root_some hI4 hx_) (fun e => absurd (hr4.symm.trans e.choose_spec) (by intro e; cases e))
                          · refine V.aload_n cx dJ1_fixAfterDeletion_178 rfl 1 rfl ?_
                            refine V.get cx kJ1 (tm_t ht) 3 (by decide) q158 rfl rfl dJ1_fixAfterDeletion_179 ?_
                            refine V.toq (o' := (some rr)) (by rw [hr4]) ?_
                            show V g A κ _ _ 0 0 (tmO E tm ka va lf4 rt4 pa4 (va_up (va_up (va_up co1 s1 (co1 p)) p true) nb true) vl root4 n md h0) 182 [(2, .ref s1), (0, .ref tm), (1, .ref x_)] [.ref rr]
                            refine V.astore_n (lv' := [(1, .ref rr), (2, .ref s1), (0, .ref tm)]) cx dJ1_fixAfterDeletion_182 rfl (by decide) rfl ?_
                            refine V.goto (tgt := 0) cx dJ1_fixAfterDeletion_183 (by decide) ?_
                            have k4 := hI4.2.2.2.2.2.2 rr hr4
                            refine V.sub [2, 0] rfl ?_
                            exact ih_ (rr, lo4, hi4, lf4, rt4, pa4, (va_up (va_up (va_up co1 s1 (co1 p)) p true) nb true), root4) (by dsimp only; exact (by have h1 := mz1; rw [k4.2.2.1, k4.2.2.2]; omega)) (by dsimp only; exact ⟨hI4, k4.1, fun r hr => Or.inr (Option.some.inj (hr4.symm.trans hr)), fun p0 hp0 => by have h1 := G1 p0 hp0; have h2 := hI4.2.1 p0 (hzE p0 hp0); have g := leaf_rot nt1 hs1 h1.1 h1.2.1 (fun e => by have h3 := h1.2.1; rw [e, hnb] at h3; cases h3); rw [e14, e24] at g; exact ⟨g.1, g.2, by omega, by omega⟩⟩)
                        · exact absurd cz (by decide)
                      · exact absurd cz (by decide)
                  · refine V.aload_n cx dJ1_fixAfterDeletion_71 rfl 0 rfl ?_
                    refine V.callS (As := [.ref s1]) (rest := []) cx (m_leftOfS l hl g A E tm ka va lf1 rt1 pa1 co1 vl root1 n md h0 s1 hsE) q1057 q1058 (na := 1) rfl (by decide +kernel) (Nat.le_of_ble_eq_true rfl) (by decide) (by decide) (by decide) rfl dJ1_fixAfterDeletion_72 (fun _ _ _ hx => hx.elim) (fun v141 h142 hp => ?_)
                    obtain ⟨rfl, rfl⟩ := hp
                    show V g A κ _ _ 0 0 (tmO E tm ka va lf1 rt1 pa1 co1 vl root1 n md h0) 75 [(2, .ref s1), (0, .ref tm), (1, .ref x_)] [va_rf (lf1 s1)]
                    show V g A κ _ _ 0 0 (tmO E tm ka va lf1 rt1 pa1 co1 vl root1 n md h0) 75 [(2, .ref s1), (0, .ref tm), (1, .ref x_)] [va_rf (lf1 s1)]
                    refine V.callS (As := [va_rf (lf1 s1)]) (rest := []) cx (m_colorOf l hl g A E tm ka va lf1 rt1 pa1 co1 vl root1 n md h0 (lf1 s1) (fun e he => ((hI1.2.2.1 s1 hsE).2 e he).1)) q1063 q1064 (na := 1) rfl (by decide +kernel) (Nat.le_of_ble_eq_true rfl) (by decide) (by decide) (by decide) rfl dJ1_fixAfterDeletion_75 (fun _ _ _ hx => hx.elim) (fun v143 h144 hp => ?_)
                    obtain ⟨rfl, rfl⟩ := hp
                    show V g A κ _ _ 0 0 (tmO E tm ka va lf1 rt1 pa1 co1 vl root1 n md h0) 78 [(2, .ref s1), (0, .ref tm), (1, .ref x_)] [.int (b2 (Option.elim (lf1 s1) true co1))]
                    refine V.tob (b := true) hcn ?_
                    refine V.iconst (v := (nI 1)) cx dJ1_fixAfterDeletion_78 (by decide) ?_
                    refine V.icmp_ne (tgt := 106) cx dJ1_fixAfterDeletion_79 (by decide) (fun cz => ?_) (fun cz => ?_)
                    · exact absurd rfl cz
                    · refine V.aload_n cx dJ1_fixAfterDeletion_82 rfl 0 rfl ?_
                      refine V.callS (As := [.ref s1]) (rest := []) cx (m_rightOfS l hl g A E tm ka va lf1 rt1 pa1 co1 vl root1 n md h0 s1 hsE) q1060 q1061 (na := 1) rfl (by decide +kernel) (Nat.le_of_ble_eq_true rfl) (by decide) (by decide) (by decide) rfl dJ1_fixAfterDeletion_83 (fun _ _ _ hx => hx.elim) (fun v145 h146 hp => ?_)
                      obtain ⟨rfl, rfl⟩ := hp
                      show V g A κ _ _ 0 0 (tmO E tm ka va lf1 rt1 pa1 co1 vl root1 n md h0) 86 [(2, .ref s1), (0, .ref tm), (1, .ref x_)] [va_rf (rt1 s1)]
                      show V g A κ _ _ 0 0 (tmO E tm ka va lf1 rt1 pa1 co1 vl root1 n md h0) 86 [(2, .ref s1), (0, .ref tm), (1, .ref x_)] [va_rf (rt1 s1)]
                      refine V.callS (As := [va_rf (rt1 s1)]) (rest := []) cx (m_colorOf l hl g A E tm ka va lf1 rt1 pa1 co1 vl root1 n md h0 (rt1 s1) (fun e he => ((hI1.2.2.2.1 s1 hsE).2 e he).1)) q1063 q1064 (na := 1) rfl (by decide +kernel) (Nat.le_of_ble_eq_true rfl) (by decide) (by decide) (by decide) rfl dJ1_fixAfterDeletion_86 (fun _ _ _ hx => hx.elim) (fun v147 h148 hp => ?_)
                      obtain ⟨rfl, rfl⟩ := hp
                      show V g A κ _ _ 0 0 (tmO E tm ka va lf1 rt1 pa1 co1 vl root1 n md h0) 89 [(2, .ref s1), (0, .ref tm), (1, .ref x_)] [.int (b2 (Option.elim (rt1 s1) true co1))]
                      refine V.tob (b := true) hcf ?_
                      refine V.iconst (v := (nI 1)) cx dJ1_fixAfterDeletion_89 (by decide) ?_
                      refine V.icmp_ne (tgt := 106) cx dJ1_fixAfterDeletion_90 (by decide) (fun cz => ?_) (fun cz => ?_)
                      · exact absurd rfl cz
                      · refine V.aload_n cx dJ1_fixAfterDeletion_93 rfl 0 rfl ?_
                        refine V.iconst (v := (nI 0)) cx dJ1_fixAfterDeletion_94 (by decide) ?_
                        refine V.toi (y := b2 false) (by decide) ?_
                        refine V.callS (As := [.ref s1, .int (b2 false)]) (rest := []) cx (m_setColorS l hl g A E tm ka va lf1 rt1 pa1 co1 vl root1 n md h0 s1 hsE false) q1066 q1067 (na := 2) rfl (by decide +kernel) (Nat.le_of_ble_eq_true rfl) (by decide) (by decide) (by decide) rfl dJ1_fixAfterDeletion_95 (fun _ _ _ hx => hx.elim) (fun v149 h150 hp => ?_)
                        obtain ⟨rfl, rfl⟩ := hp
                        show V g A κ _ _ 0 0 (tmO E tm ka va lf1 rt1 pa1 (va_up co1 s1 false) vl root1 n md h0) 98 [(2, .ref s1), (0, .ref tm), (1, .ref x_)] []
                        refine V.aload_n cx dJ1_fixAfterDeletion_98 rfl 2 rfl ?_
                        refine V.callS (As := [.ref x_]) (rest := []) cx (m_parentOfS l hl g A E tm ka va lf1 rt1 pa1 (va_up co1 s1 false) vl root1 n md h0 x_ hx_) q1054 q1055 (na := 1) rfl (by decide +kernel) (Nat.le_of_ble_eq_true rfl) (by decide) (by decide) (by decide) rfl dJ1_fixAfterDeletion_99 (fun _ _ _ hx => hx.elim) (fun v151 h152 hp => ?_)
                        obtain ⟨rfl, rfl⟩ := hp
                        show V g A κ _ _ 0 0 (tmO E tm ka va lf1 rt1 pa1 (va_up co1 s1 false) vl root1 n md h0) 102 [(2, .ref s1), (0, .ref tm), (1, .ref x_)] [va_rf (pa1 x_)]
                        refine V.toq (o' := (some p)) (by rw [hxp1]) ?_
                        show V g A κ _ _ 0 0 (tmO E tm ka va lf1 rt1 pa1 (va_up co1 s1 false) vl root1 n md h0) 102 [(2, .ref s1), (0, .ref tm), (1, .ref x_)] [.ref p]
                        refine V.astore_n (lv' := [(1, .ref p), (2, .ref s1), (0, .ref tm)]) cx dJ1_fixAfterDeletion_102 rfl (by decide) rfl ?_
                        refine V.goto (tgt := 183) cx dJ1_fixAfterDeletion_103 (by decide) ?_
                        refine V.goto (tgt := 0) cx dJ1_fixAfterDeletion_183 (by decide) ?_
                        refine V.sub [2, 0] rfl ?_
                        exact ih_ (p, lo1, hi1, lf1, rt1, pa1, (va_up co1 s1 false), root1) (by dsimp only; exact (by have h1 := mz1; clear ih_; omega)) (by dsimp only; exact ⟨hI1, hpE, fun r hr => Or.inl ((va_up_ne _ _ (fun e => by have h2 := (hI1.2.2.2.2.2.2 r hr).2.1; rw [e, hsp] at h2; cases h2)).trans (hB1 r hr)), fun p0 hp0 => by have h1 := G1 p0 hp0; have h2 := mz1; exact ⟨h1.1, h1.2.1, by omega, by omega⟩⟩)
          · rcases opt_c (rt_ p) with hs0 | ⟨s0, hs0⟩
            · refine V.callS (As := [.ref p]) (rest := []) cx (m_rightOfS l hl g A E tm ka va lf_ rt_ pa_ co_ vl root_ n md h0 p hpE) q1060 q1061 (na := 1) rfl (by decide +kernel) (Nat.le_of_ble_eq_true rfl) (by decide) (by decide) (by decide) rfl dJ1_fixAfterDeletion_31 (fun _ _ _ hx => hx.elim) (fun v153 h154 hp => ?_)
              obtain ⟨rfl, rfl⟩ := hp
              show V g A κ _ _ 0 0 (tmO E tm ka va lf_ rt_ pa_ co_ vl root_ n md h0) 34 [(0, .ref tm), (1, .ref x_)] [va_rf (rt_ p)]
              refine V.toq (o' := none) (by rw [hs0]) ?_
              show V g A κ _ _ 0 0 (tmO E tm ka va lf_ rt_ pa_ co_ vl root_ n md h0) 34 [(0, .ref tm), (1, .ref x_)] [.null]
              refine V.astore_nN (lv' := [(2, .null), (0, .ref tm), (1, .ref x_)]) cx dJ1_fixAfterDeletion_34 rfl (by decide) rfl ?_
              refine V.aload_nN cx dJ1_fixAfterDeletion_35 rfl 0 rfl ?_
              refine V.callS (As := [.null]) (rest := []) cx (m_colorOfN l hl g A E tm ka va lf_ rt_ pa_ co_ vl root_ n md h0) q1063 q1064 (na := 1) rfl (by decide +kernel) (Nat.le_of_ble_eq_true rfl) (by decide) (by decide) (by decide) rfl dJ1_fixAfterDeletion_36 (fun _ _ _ hx => hx.elim) (fun v155 h156 hp => ?_)
              obtain ⟨rfl, rfl⟩ := hp
              show V g A κ _ _ 0 0 (tmO E tm ka va lf_ rt_ pa_ co_ vl root_ n md h0) 39 [(2, .null), (0, .ref tm), (1, .ref x_)] [.int (b2 true)]
              refine V.bif_ne (tgt := 71) cx dJ1_fixAfterDeletion_39 (by decide) (fun cb => ?_) (fun cb => ?_)
              · refine V.aload_nN cx dJ1_fixAfterDeletion_71 rfl 0 rfl ?_
                refine V.callS (As := [.null]) (rest := []) cx (m_leftOfN l hl g A E tm ka va lf_ rt_ pa_ co_ vl root_ n md h0) q1057 q1058 (na := 1) rfl (by decide +kernel) (Nat.le_of_ble_eq_true rfl) (by decide) (by decide) (by decide) rfl dJ1_fixAfterDeletion_72 (fun _ _ _ hx => hx.elim) (fun v157 h158 hp => ?_)
                obtain ⟨rfl, rfl⟩ := hp
                show V g A κ _ _ 0 0 (tmO E tm ka va lf_ rt_ pa_ co_ vl root_ n md h0) 75 [(2, .null), (0, .ref tm), (1, .ref x_)] [.null]
                refine V.callS (As := [.null]) (rest := []) cx (m_colorOfN l hl g A E tm ka va lf_ rt_ pa_ co_ vl root_ n md h0) q1063 q1064 (na := 1) rfl (by decide +kernel) (Nat.le_of_ble_eq_true rfl) (by decide) (by decide) (by decide) rfl dJ1_fixAfterDeletion_75 (fun _ _ _ hx => hx.elim) (fun v159 h160 hp => ?_)
                obtain ⟨rfl, rfl⟩ := hp
                show V g A κ _ _ 0 0 (tmO E tm ka va lf_ rt_ pa_ co_ vl root_ n md h0) 78 [(2, .null), (0, .ref tm), (1, .ref x_)] [.int (b2 true)]
                refine V.iconst (v := (nI 1)) cx dJ1_fixAfterDeletion_78 (by decide) ?_
                refine V.icmp_ne (tgt := 106) cx dJ1_fixAfterDeletion_79 (by decide) (fun cz => ?_) (fun cz => ?_)
                · exact absurd rfl cz
                · refine V.aload_nN cx dJ1_fixAfterDeletion_82 rfl 0 rfl ?_
                  refine V.callS (As := [.null]) (rest := []) cx (m_rightOfN l hl g A E tm ka va lf_ rt_ pa_ co_ vl root_ n md h0) q1060 q1061 (na := 1) rfl (by decide +kernel) (Nat.le_of_ble_eq_true rfl) (by decide) (by decide) (by decide) rfl dJ1_fixAfterDeletion_83 (fun _ _ _ hx => hx.elim) (fun v161 h162 hp => ?_)
                  obtain ⟨rfl, rfl⟩ := hp
                  show V g A κ _ _ 0 0 (tmO E tm ka va lf_ rt_ pa_ co_ vl root_ n md h0) 86 [(2, .null), (0, .ref tm), (1, .ref x_)] [.null]
                  refine V.callS (As := [.null]) (rest := []) cx (m_colorOfN l hl g A E tm ka va lf_ rt_ pa_ co_ vl root_ n md h0) q1063 q1064 (na := 1) rfl (by decide +kernel) (Nat.le_of_ble_eq_true rfl) (by decide) (by decide) (by decide) rfl dJ1_fixAfterDeletion_86 (fun _ _ _ hx => hx.elim) (fun v163 h164 hp => ?_)
                  obtain ⟨rfl, rfl⟩ := hp
                  show V g A κ _ _ 0 0 (tmO E tm ka va lf_ rt_ pa_ co_ vl root_ n md h0) 89 [(2, .null), (0, .ref tm), (1, .ref x_)] [.int (b2 true)]
                  refine V.iconst (v := (nI 1)) cx dJ1_fixAfterDeletion_89 (by decide) ?_
                  refine V.icmp_ne (tgt := 106) cx dJ1_fixAfterDeletion_90 (by decide) (fun cz => ?_) (fun cz => ?_)
                  · exact absurd rfl cz
                  · refine V.aload_nN cx dJ1_fixAfterDeletion_93 rfl 0 rfl ?_
                    refine V.iconst (v := (nI 0)) cx dJ1_fixAfterDeletion_94 (by decide) ?_
                    refine V.toi (y := b2 false) (by decide) ?_
                    refine V.callS (As := [.null, .int (b2 false)]) (rest := []) cx (m_setColorN l hl g A E tm ka va lf_ rt_ pa_ co_ vl root_ n md h0 false) q1066 q1067 (na := 2) rfl (by decide +kernel) (Nat.le_of_ble_eq_true rfl) (by decide) (by decide) (by decide) rfl dJ1_fixAfterDeletion_95 (fun _ _ _ hx => hx.elim) (fun v165 h166 hp => ?_)
                    obtain ⟨rfl, rfl⟩ := hp
                    show V g A κ _ _ 0 0 (tmO E tm ka va lf_ rt_ pa_ co_ vl root_ n md h0) 98 [(2, .null), (0, .ref tm), (1, .ref x_)] []
                    refine V.aload_n cx dJ1_fixAfterDeletion_98 rfl 2 rfl ?_
                    refine V.callS (As := [.ref x_]) (rest := []) cx (m_parentOfS l hl g A E tm ka va lf_ rt_ pa_ co_ vl root_ n md h0 x_ hx_) q1054 q1055 (na := 1) rfl (by decide +kernel) (Nat.le_of_ble_eq_true rfl) (by decide) (by decide) (by decide) rfl dJ1_fixAfterDeletion_99 (fun _ _ _ hx => hx.elim) (fun v167 h168 hp => ?_)
                    obtain ⟨rfl, rfl⟩ := hp
                    show V g A κ _ _ 0 0 (tmO E tm ka va lf_ rt_ pa_ co_ vl root_ n md h0) 102 [(2, .null), (0, .ref tm), (1, .ref x_)] [va_rf (pa_ x_)]
                    refine V.toq (o' := (some p)) (by rw [hxp_]) ?_
                    show V g A κ _ _ 0 0 (tmO E tm ka va lf_ rt_ pa_ co_ vl root_ n md h0) 102 [(2, .null), (0, .ref tm), (1, .ref x_)] [.ref p]
                    refine V.astore_n (lv' := [(1, .ref p), (2, .null), (0, .ref tm)]) cx dJ1_fixAfterDeletion_102 rfl (by decide) rfl ?_
                    refine V.goto (tgt := 183) cx dJ1_fixAfterDeletion_103 (by decide) ?_
                    refine V.goto (tgt := 0) cx dJ1_fixAfterDeletion_183 (by decide) ?_
                    refine V.sub [2, 0] rfl ?_
                    exact ih_ (p, lo_, hi_, lf_, rt_, pa_, co_, root_) (by dsimp only; exact (by have h1 := mz_; clear ih_; omega)) (by dsimp only; exact ⟨hI_, hpE, fun r hr => Or.inl (hB_ r hr), fun p0 hp0 => by have h1 := G_ p0 hp0; have h2 := mz_; exact ⟨h1.1, h1.2.1, by omega, by omega⟩⟩)
              · exact absurd cb (by decide)
            · rw [hs0] at hcu
              have hcs : co_ s0 = true := hcu
              have hs0E : s0 ∈ E := ((hI_.2.2.2.1 p hpE).2 s0 hs0).1
              refine V.callS (As := [.ref p]) (rest := []) cx (m_rightOfS l hl g A E tm ka va lf_ rt_ pa_ co_ vl root_ n md h0 p hpE) q1060 q1061 (na := 1) rfl (by decide +kernel) (Nat.le_of_ble_eq_true rfl) (by decide) (by decide) (by decide) rfl dJ1_fixAfterDeletion_31 (fun _ _ _ hx => hx.elim) (fun v169 h170 hp => ?_)
              obtain ⟨rfl, rfl⟩ := hp
              show V g A κ _ _ 0 0 (tmO E tm ka va lf_ rt_ pa_ co_ vl root_ n md h0) 34 [(0, .ref tm), (1, .ref x_)] [va_rf (rt_ p)]
              refine V.toq (o' := (some s0)) (by rw [hs0]) ?_
              show V g A κ _ _ 0 0 (tmO E tm ka va lf_ rt_ pa_ co_ vl root_ n md h0) 34 [(0, .ref tm), (1, .ref x_)] [.ref s0]
              refine V.astore_n (lv' := [(2, .ref s0), (0, .ref tm), (1, .ref x_)]) cx dJ1_fixAfterDeletion_34 rfl (by decide) rfl ?_
              refine V.aload_n cx dJ1_fixAfterDeletion_35 rfl 0 rfl ?_
              refine V.callS (As := [.ref s0]) (rest := []) cx (m_colorOfS l hl g A E tm ka va lf_ rt_ pa_ co_ vl root_ n md h0 s0 hs0E) q1063 q1064 (na := 1) rfl (by decide +kernel) (Nat.le_of_ble_eq_true rfl) (by decide) (by decide) (by decide) rfl dJ1_fixAfterDeletion_36 (fun _ _ _ hx => hx.elim) (fun v171 h172 hp => ?_)
              obtain ⟨rfl, rfl⟩ := hp
              show V g A κ _ _ 0 0 (tmO E tm ka va lf_ rt_ pa_ co_ vl root_ n md h0) 39 [(2, .ref s0), (0, .ref tm), (1, .ref x_)] [.int (b2 (co_ s0))]
              refine V.tob (b := true) (by rw [hcs]) ?_
              show V g A κ _ _ 0 0 (tmO E tm ka va lf_ rt_ pa_ co_ vl root_ n md h0) 39 [(2, .ref s0), (0, .ref tm), (1, .ref x_)] [.int (b2 true)]
              refine V.bif_ne (tgt := 71) cx dJ1_fixAfterDeletion_39 (by decide) (fun cb => ?_) (fun cb => ?_)
              · have hsE : s0 ∈ E := ((hI_.2.2.2.1 p hpE).2 s0 hs0).1
                have hsp : pa_ s0 = some p := ((hI_.2.2.2.1 p hpE).2 s0 hs0).2.1
                have nsp : s0 ≠ p := fun e => by have h1 := (hI_.2.2.2.1 p hpE).2 s0 hs0; have h2 := hI_.2.1 s0 hsE; rw [e] at h1 h2; omega
                rcases unc (lf_ s0) co_ with ⟨na, hna, hcn⟩ | hcn
                · have hnE : na ∈ E := (fun e he => ((hI_.2.2.1 s0 hsE).2 e he).1) na hna
                  rcases unc (rt_ s0) co_ with ⟨nb, hnb, hcf⟩ | hcf
                  · have hfE : nb ∈ E := (fun e he => ((hI_.2.2.2.1 s0 hsE).2 e he).1) nb hnb
                    refine V.aload_n cx dJ1_fixAfterDeletion_71 rfl 0 rfl ?_
                    refine V.callS (As := [.ref s0]) (rest := []) cx (m_leftOfS l hl g A E tm ka va lf_ rt_ pa_ co_ vl root_ n md h0 s0 hsE) q1057 q1058 (na := 1) rfl (by decide +kernel) (Nat.le_of_ble_eq_true rfl) (by decide) (by decide) (by decide) rfl dJ1_fixAfterDeletion_72 (fun _ _ _ hx => hx.elim) (fun v173 h174 hp => ?_)
                    obtain ⟨rfl, rfl⟩ := hp
                    show V g A κ _ _ 0 0 (tmO E tm ka va lf_ rt_ pa_ co_ vl root_ n md h0) 75 [(2, .ref s0), (0, .ref tm), (1, .ref x_)] [va_rf (lf_ s0)]
                    refine V.toq (o' := (some na)) (by rw [hna]) ?_
                    show V g A κ _ _ 0 0 (tmO E tm ka va lf_ rt_ pa_ co_ vl root_ n md h0) 75 [(2, .ref s0), (0, .ref tm), (1, .ref x_)] [.ref na]
                    refine V.callS (As := [.ref na]) (rest := []) cx (m_colorOfS l hl g A E tm ka va lf_ rt_ pa_ co_ vl root_ n md h0 na hnE) q1063 q1064 (na := 1) rfl (by decide +kernel) (Nat.le_of_ble_eq_true rfl) (by decide) (by decide) (by decide) rfl dJ1_fixAfterDeletion_75 (fun _ _ _ hx => hx.elim) (fun v175 h176 hp => ?_)
                    obtain ⟨rfl, rfl⟩ := hp
                    show V g A κ _ _ 0 0 (tmO E tm ka va lf_ rt_ pa_ co_ vl root_ n md h0) 78 [(2, .ref s0), (0, .ref tm), (1, .ref x_)] [.int (b2 (co_ na))]
                    refine V.tob (b := false) (by rw [hcn]) ?_
                    show V g A κ _ _ 0 0 (tmO E tm ka va lf_ rt_ pa_ co_ vl root_ n md h0) 78 [(2, .ref s0), (0, .ref tm), (1, .ref x_)] [.int (b2 false)]
                    refine V.iconst (v := (nI 1)) cx dJ1_fixAfterDeletion_78 (by decide) ?_
                    refine V.icmp_ne (tgt := 106) cx dJ1_fixAfterDeletion_79 (by decide) (fun cz => ?_) (fun cz => ?_)
                    · refine V.aload_n cx dJ1_fixAfterDeletion_106 rfl 0 rfl ?_
                      refine V.callS (As := [.ref s0]) (rest := []) cx (m_rightOfS l hl g A E tm ka va lf_ rt_ pa_ co_ vl root_ n md h0 s0 hsE) q1060 q1061 (na := 1) rfl (by decide +kernel) (Nat.le_of_ble_eq_true rfl) (by decide) (by decide) (by decide) rfl dJ1_fixAfterDeletion_107 (fun _ _ _ hx => hx.elim) (fun v177 h178 hp => ?_)
                      obtain ⟨rfl, rfl⟩ := hp
                      show V g A κ _ _ 0 0 (tmO E tm ka va lf_ rt_ pa_ co_ vl root_ n md h0) 110 [(2, .ref s0), (0, .ref tm), (1, .ref x_)] [va_rf (rt_ s0)]
                      refine V.toq (o' := (some nb)) (by rw [hnb]) ?_
                      show V g A κ _ _ 0 0 (tmO E tm ka va lf_ rt_ pa_ co_ vl root_ n md h0) 110 [(2, .ref s0), (0, .ref tm), (1, .ref x_)] [.ref nb]
                      refine V.callS (As := [.ref nb]) (rest := []) cx (m_colorOfS l hl g A E tm ka va lf_ rt_ pa_ co_ vl root_ n md h0 nb hfE) q1063 q1064 (na := 1) rfl (by decide +kernel) (Nat.le_of_ble_eq_true rfl) (by decide) (by decide) (by decide) rfl dJ1_fixAfterDeletion_110 (fun _ _ _ hx => hx.elim) (fun v179 h180 hp => ?_)
                      obtain ⟨rfl, rfl⟩ := hp
                      show V g A κ _ _ 0 0 (tmO E tm ka va lf_ rt_ pa_ co_ vl root_ n md h0) 113 [(2, .ref s0), (0, .ref tm), (1, .ref x_)] [.int (b2 (co_ nb))]
                      refine V.tob (b := false) (by rw [hcf]) ?_
                      show V g A κ _ _ 0 0 (tmO E tm ka va lf_ rt_ pa_ co_ vl root_ n md h0) 113 [(2, .ref s0), (0, .ref tm), (1, .ref x_)] [.int (b2 false)]
                      refine V.iconst (v := (nI 1)) cx dJ1_fixAfterDeletion_113 (by decide) ?_
                      refine V.icmp_ne (tgt := 143) cx dJ1_fixAfterDeletion_114 (by decide) (fun cz => ?_) (fun cz => ?_)
                      · refine V.aload_n cx dJ1_fixAfterDeletion_143 rfl 0 rfl ?_
                        refine V.aload_n cx dJ1_fixAfterDeletion_144 rfl 2 rfl ?_
                        refine V.callS (As := [.ref x_]) (rest := [.ref s0]) cx (m_parentOfS l hl g A E tm ka va lf_ rt_ pa_ co_ vl root_ n md h0 x_ hx_) q1054 q1055 (na := 1) rfl (by decide +kernel) (Nat.le_of_ble_eq_true rfl) (by decide) (by decide) (by decide) rfl dJ1_fixAfterDeletion_145 (fun _ _ _ hx => hx.elim) (fun v181 h182 hp => ?_)
                        obtain ⟨rfl, rfl⟩ := hp
                        show V g A κ _ _ 0 0 (tmO E tm ka va lf_ rt_ pa_ co_ vl root_ n md h0) 148 [(2, .ref s0), (0, .ref tm), (1, .ref x_)] [va_rf (pa_ x_), .ref s0]
                        refine V.toq (o' := (some p)) (by rw [hxp_]) ?_
                        show V g A κ _ _ 0 0 (tmO E tm ka va lf_ rt_ pa_ co_ vl root_ n md h0) 148 [(2, .ref s0), (0, .ref tm), (1, .ref x_)] [.ref p, .ref s0]
                        refine V.callS (As := [.ref p]) (rest := [.ref s0]) cx (m_colorOfS l hl g A E tm ka va lf_ rt_ pa_ co_ vl root_ n md h0 p hpE) q1063 q1064 (na := 1) rfl (by decide +kernel) (Nat.le_of_ble_eq_true rfl) (by decide) (by decide) (by decide) rfl dJ1_fixAfterDeletion_148 (fun _ _ _ hx => hx.elim) (fun v183 h184 hp => ?_)
                        obtain ⟨rfl, rfl⟩ := hp
                        show V g A κ _ _ 0 0 (tmO E tm ka va lf_ rt_ pa_ co_ vl root_ n md h0) 151 [(2, .ref s0), (0, .ref tm), (1, .ref x_)] [.int (b2 (co_ p)), .ref s0]
                        show V g A κ _ _ 0 0 (tmO E tm ka va lf_ rt_ pa_ co_ vl root_ n md h0) 151 [(2, .ref s0), (0, .ref tm), (1, .ref x_)] [.int (b2 (co_ p)), .ref s0]
                        refine V.callS (As := [.ref s0, .int (b2 (co_ p))]) (rest := []) cx (m_setColorS l hl g A E tm ka va lf_ rt_ pa_ co_ vl root_ n md h0 s0 hsE (co_ p)) q1066 q1067 (na := 2) rfl (by decide +kernel) (Nat.le_of_ble_eq_true rfl) (by decide) (by decide) (by decide) rfl dJ1_fixAfterDeletion_151 (fun _ _ _ hx => hx.elim) (fun v185 h186 hp => ?_)
                        obtain ⟨rfl, rfl⟩ := hp
                        show V g A κ _ _ 0 0 (tmO E tm ka va lf_ rt_ pa_ (va_up co_ s0 (co_ p)) vl root_ n md h0) 154 [(2, .ref s0), (0, .ref tm), (1, .ref x_)] []
                        refine V.aload_n cx dJ1_fixAfterDeletion_154 rfl 2 rfl ?_
                        refine V.callS (As := [.ref x_]) (rest := []) cx (m_parentOfS l hl g A E tm ka va lf_ rt_ pa_ (va_up co_ s0 (co_ p)) vl root_ n md h0 x_ hx_) q1054 q1055 (na := 1) rfl (by decide +kernel) (Nat.le_of_ble_eq_true rfl) (by decide) (by decide) (by decide) rfl dJ1_fixAfterDeletion_155 (fun _ _ _ hx => hx.elim) (fun v187 h188 hp => ?_)
                        obtain ⟨rfl, rfl⟩ := hp
                        show V g A κ _ _ 0 0 (tmO E tm ka va lf_ rt_ pa_ (va_up co_ s0 (co_ p)) vl root_ n md h0) 158 [(2, .ref s0), (0, .ref tm), (1, .ref x_)] [va_rf (pa_ x_)]
                        refine V.toq (o' := (some p)) (by rw [hxp_]) ?_
                        show V g A κ _ _ 0 0 (tmO E tm ka va lf_ rt_ pa_ (va_up co_ s0 (co_ p)) vl root_ n md h0) 158 [(2, .ref s0), (0, .ref tm), (1, .ref x_)] [.ref p]
                        refine V.iconst (v := (nI 1)) cx dJ1_fixAfterDeletion_158 (by decide) ?_
                        refine V.toi (y := b2 true) (by decide) ?_
                        refine V.callS (As := [.ref p, .int (b2 true)]) (rest := []) cx (m_setColorS l hl g A E tm ka va lf_ rt_ pa_ (va_up co_ s0 (co_ p)) vl root_ n md h0 p hpE true) q1066 q1067 (na := 2) rfl (by decide +kernel) (Nat.le_of_ble_eq_true rfl) (by decide) (by decide) (by decide) rfl dJ1_fixAfterDeletion_159 (fun _ _ _ hx => hx.elim) (fun v189 h190 hp => ?_)
                        obtain ⟨rfl, rfl⟩ := hp
                        show V g A κ _ _ 0 0 (tmO E tm ka va lf_ rt_ pa_ (va_up (va_up co_ s0 (co_ p)) p true) vl root_ n md h0) 162 [(2, .ref s0), (0, .ref tm), (1, .ref x_)] []
                        refine V.aload_n cx dJ1_fixAfterDeletion_162 rfl 0 rfl ?_
                        refine V.callS (As := [.ref s0]) (rest := []) cx (m_rightOfS l hl g A E tm ka va lf_ rt_ pa_ (va_up (va_up co_ s0 (co_ p)) p true) vl root_ n md h0 s0 hsE) q1060 q1061 (na := 1) rfl (by decide +kernel) (Nat.le_of_ble_eq_true rfl) (by decide) (by decide) (by decide) rfl dJ1_fixAfterDeletion_163 (fun _ _ _ hx => hx.elim) (fun v191 h192 hp => ?_)
                        obtain ⟨rfl, rfl⟩ := hp
                        show V g A κ _ _ 0 0 (tmO E tm ka va lf_ rt_ pa_ (va_up (va_up co_ s0 (co_ p)) p true) vl root_ n md h0) 166 [(2, .ref s0), (0, .ref tm), (1, .ref x_)] [va_rf (rt_ s0)]
                        refine V.toq (o' := (some nb)) (by rw [hnb]) ?_
                        show V g A κ _ _ 0 0 (tmO E tm ka va lf_ rt_ pa_ (va_up (va_up co_ s0 (co_ p)) p true) vl root_ n md h0) 166 [(2, .ref s0), (0, .ref tm), (1, .ref x_)] [.ref nb]
                        refine V.iconst (v := (nI 1)) cx dJ1_fixAfterDeletion_166 (by decide) ?_
                        refine V.toi (y := b2 true) (by decide) ?_
                        refine V.callS (As := [.ref nb, .int (b2 true)]) (rest := []) cx (m_setColorS l hl g A E tm ka va lf_ rt_ pa_ (va_up (va_up co_ s0 (co_ p)) p true) vl root_ n md h0 nb hfE true) q1066 q1067 (na := 2) rfl (by decide +kernel) (Nat.le_of_ble_eq_true rfl) (by decide) (by decide) (by decide) rfl dJ1_fixAfterDeletion_167 (fun _ _ _ hx => hx.elim) (fun v193 h194 hp => ?_)
                        obtain ⟨rfl, rfl⟩ := hp
                        show V g A κ _ _ 0 0 (tmO E tm ka va lf_ rt_ pa_ (va_up (va_up (va_up co_ s0 (co_ p)) p true) nb true) vl root_ n md h0) 170 [(2, .ref s0), (0, .ref tm), (1, .ref x_)] []
                        refine V.aload_n cx dJ1_fixAfterDeletion_170 rfl 1 rfl ?_
                        refine V.aload_n cx dJ1_fixAfterDeletion_171 rfl 2 rfl ?_
                        refine V.callS (As := [.ref x_]) (rest := [.ref tm]) cx (m_parentOfS l hl g A E tm ka va lf_ rt_ pa_ (va_up (va_up (va_up co_ s0 (co_ p)) p true) nb true) vl root_ n md h0 x_ hx_) q1054 q1055 (na := 1) rfl (by decide +kernel) (Nat.le_of_ble_eq_true rfl) (by decide) (by decide) (by decide) rfl dJ1_fixAfterDeletion_172 (fun _ _ _ hx => hx.elim) (fun v195 h196 hp => ?_)
                        obtain ⟨rfl, rfl⟩ := hp
                        show V g A κ _ _ 0 0 (tmO E tm ka va lf_ rt_ pa_ (va_up (va_up (va_up co_ s0 (co_ p)) p true) nb true) vl root_ n md h0) 175 [(2, .ref s0), (0, .ref tm), (1, .ref x_)] [va_rf (pa_ x_), .ref tm]
                        refine V.toq (o' := (some p)) (by rw [hxp_]) ?_
                        show V g A κ _ _ 0 0 (tmO E tm ka va lf_ rt_ pa_ (va_up (va_up (va_up co_ s0 (co_ p)) p true) nb true) vl root_ n md h0) 175 [(2, .ref s0), (0, .ref tm), (1, .ref x_)] [.ref p, .ref tm]
                        refine V.callV (As := [.ref p]) (rest := []) (C := "java/util/TreeMap") cx (m_rotL l hl g A E tm ka va lf_ rt_ pa_ (va_up (va_up (va_up co_ s0 (co_ p)) p true) nb true) vl root_ n md h0 ix lo_ hi_ hI_ ht p s0 hpE hs0) rfl q1069 q1071 qs9 (Rv.of kJ1 (tm_t ht)) (na := 1) rfl (by decide +kernel) (Nat.le_of_ble_eq_true rfl) (by decide) (by decide) (by decide) rfl dJ1_fixAfterDeletion_175 (fun _ _ _ hx => hx.elim) (fun v197 h198 hp => ?_)
                        obtain ⟨rfl, rfl⟩ := hp
                        show V g A κ _ _ 0 0 (tmO E tm ka va (rlf lf_ pa_ p s0) (rrt lf_ rt_ pa_ p s0) (rpa lf_ pa_ p s0) (va_up (va_up (va_up co_ s0 (co_ p)) p true) nb true) vl (if pa_ p = none then some s0 else root_) n md h0) 178 [(2, .ref s0), (0, .ref tm), (1, .ref x_)] []
                        obtain ⟨lf4, rt4, pa4, root4, lo4, hi4, hI4, e14, e24, e34, e44, e54, e64⟩ : ∃ (lf4 rt4 pa4 : Nat → Option Nat) (root4 : Option Nat) (lo4 hi4 : Nat → Nat), Inv E ix lo4 hi4 lf4 rt4 pa4 root4 ∧ (rlf lf_ pa_ p s0) = lf4 ∧ (rrt lf_ rt_ pa_ p s0) = rt4 ∧ (rpa lf_ pa_ p s0) = pa4 ∧ (if pa_ p = none then some s0 else root_) = root4 ∧ (va_up lo_ s0 (lo_ p)) = lo4 ∧ (va_up hi_ p (ix s0)) = hi4 := ⟨_, _, _, _, _, _, Inv.rotL hI_ hpE hs0, rfl, rfl, rfl, rfl, rfl, rfl⟩
                        refine V.hto (h' := (tmO E tm ka va lf4 rt4 pa4 (va_up (va_up (va_up co_ s0 (co_ p)) p true) nb true) vl root4 n md h0)) (by rw [e14, e24, e34, e44]) ?_
                        show V g A κ _ _ 0 0 (tmO E tm ka va lf4 rt4 pa4 (va_up (va_up (va_up co_ s0 (co_ p)) p true) nb true) vl root4 n md h0) 178 [(2, .ref s0), (0, .ref tm), (1, .ref x_)] []
                        rcases opt_c root4 with hr4 | ⟨rr, hr4⟩
                        · exact absurd (Inv.root_some hI4 hx_) (fun e => absurd (hr4.symm.trans e.choose_spec) (by intro e; cases e))
                        · refine V.aload_n cx dJ1_fixAfterDeletion_178 rfl 1 rfl ?_
                          refine V.get cx kJ1 (tm_t ht) 3 (by decide) q158 rfl rfl dJ1_fixAfterDeletion_179 ?_
                          refine V.toq (o' := (some rr)) (by rw [hr4]) ?_
                          show V g A κ _ _ 0 0 (tmO E tm ka va lf4 rt4 pa4 (va_up (va_up (va_up co_ s0 (co_ p)) p true) nb true) vl root4 n md h0) 182 [(2, .ref s0), (0, .ref tm), (1, .ref x_)] [.ref rr]
                          refine V.astore_n (lv' := [(1, .ref rr), (2, .ref s0), (0, .ref tm)]) cx dJ1_fixAfterDeletion_182 rfl (by decide) rfl ?_
                          refine V.goto (tgt := 0) cx dJ1_fixAfterDeletion_183 (by decide) ?_
                          have k4 := hI4.2.2.2.2.2.2 rr hr4
                          refine V.sub [2, 0] rfl ?_
                          exact ih_ (rr, lo4, hi4, lf4, rt4, pa4, (va_up (va_up (va_up co_ s0 (co_ p)) p true) nb true), root4) (by dsimp only; exact (by have h1 := mz_; rw [k4.2.2.1, k4.2.2.2]; omega)) (by dsimp only; exact ⟨hI4, k4.1, fun r hr => Or.inr (Option.some.inj (hr4.symm.trans hr)), fun p0 hp0 => by have h1 := G_ p0 hp0; have h2 := hI4.2.1 p0 (hzE p0 hp0); have g := leaf_rot nt_ hs0 h1.1 h1.2.1 (fun e => by have h3 := h1.2.1; rw [e, hnb] at h3; cases h3); rw [e14, e24] at g; exact ⟨g.1, g.2, by omega, by omega⟩⟩)
                      · exact absurd cz (by decide)
                    · exact absurd cz (by decide)
                  · refine V.aload_n cx dJ1_fixAfterDeletion_71 rfl 0 rfl ?_
                    refine V.callS (As := [.ref s0]) (rest := []) cx (m_leftOfS l hl g A E tm ka va lf_ rt_ pa_ co_ vl root_ n md h0 s0 hsE) q1057 q1058 (na := 1) rfl (by decide +kernel) (Nat.le_of_ble_eq_true rfl) (by decide) (by decide) (by decide) rfl dJ1_fixAfterDeletion_72 (fun _ _ _ hx => hx.elim) (fun v199 h200 hp => ?_)
                    obtain ⟨rfl, rfl⟩ := hp
                    show V g A κ _ _ 0 0 (tmO E tm ka va lf_ rt_ pa_ co_ vl root_ n md h0) 75 [(2, .ref s0), (0, .ref tm), (1, .ref x_)] [va_rf (lf_ s0)]
                    refine V.toq (o' := (some na)) (by rw [hna]) ?_
                    show V g A κ _ _ 0 0 (tmO E tm ka va lf_ rt_ pa_ co_ vl root_ n md h0) 75 [(2, .ref s0), (0, .ref tm), (1, .ref x_)] [.ref na]
                    refine V.callS (As := [.ref na]) (rest := []) cx (m_colorOfS l hl g A E tm ka va lf_ rt_ pa_ co_ vl root_ n md h0 na hnE) q1063 q1064 (na := 1) rfl (by decide +kernel) (Nat.le_of_ble_eq_true rfl) (by decide) (by decide) (by decide) rfl dJ1_fixAfterDeletion_75 (fun _ _ _ hx => hx.elim) (fun v201 h202 hp => ?_)
                    obtain ⟨rfl, rfl⟩ := hp
                    show V g A κ _ _ 0 0 (tmO E tm ka va lf_ rt_ pa_ co_ vl root_ n md h0) 78 [(2, .ref s0), (0, .ref tm), (1, .ref x_)] [.int (b2 (co_ na))]
                    refine V.tob (b := false) (by rw [hcn]) ?_
                    show V g A κ _ _ 0 0 (tmO E tm ka va lf_ rt_ pa_ co_ vl root_ n md h0) 78 [(2, .ref s0), (0, .ref tm), (1, .ref x_)] [.int (b2 false)]
                    refine V.iconst (v := (nI 1)) cx dJ1_fixAfterDeletion_78 (by decide) ?_
                    refine V.icmp_ne (tgt := 106) cx dJ1_fixAfterDeletion_79 (by decide) (fun cz => ?_) (fun cz => ?_)
                    · refine V.aload_n cx dJ1_fixAfterDeletion_106 rfl 0 rfl ?_
                      refine V.callS (As := [.ref s0]) (rest := []) cx (m_rightOfS l hl g A E tm ka va lf_ rt_ pa_ co_ vl root_ n md h0 s0 hsE) q1060 q1061 (na := 1) rfl (by decide +kernel) (Nat.le_of_ble_eq_true rfl) (by decide) (by decide) (by decide) rfl dJ1_fixAfterDeletion_107 (fun _ _ _ hx => hx.elim) (fun v203 h204 hp => ?_)
                      obtain ⟨rfl, rfl⟩ := hp
                      show V g A κ _ _ 0 0 (tmO E tm ka va lf_ rt_ pa_ co_ vl root_ n md h0) 110 [(2, .ref s0), (0, .ref tm), (1, .ref x_)] [va_rf (rt_ s0)]
                      show V g A κ _ _ 0 0 (tmO E tm ka va lf_ rt_ pa_ co_ vl root_ n md h0) 110 [(2, .ref s0), (0, .ref tm), (1, .ref x_)] [va_rf (rt_ s0)]
                      refine V.callS (As := [va_rf (rt_ s0)]) (rest := []) cx (m_colorOf l hl g A E tm ka va lf_ rt_ pa_ co_ vl root_ n md h0 (rt_ s0) (fun e he => ((hI_.2.2.2.1 s0 hsE).2 e he).1)) q1063 q1064 (na := 1) rfl (by decide +kernel) (Nat.le_of_ble_eq_true rfl) (by decide) (by decide) (by decide) rfl dJ1_fixAfterDeletion_110 (fun _ _ _ hx => hx.elim) (fun v205 h206 hp => ?_)
                      obtain ⟨rfl, rfl⟩ := hp
                      show V g A κ _ _ 0 0 (tmO E tm ka va lf_ rt_ pa_ co_ vl root_ n md h0) 113 [(2, .ref s0), (0, .ref tm), (1, .ref x_)] [.int (b2 (Option.elim (rt_ s0) true co_))]
                      refine V.tob (b := true) hcf ?_
                      refine V.iconst (v := (nI 1)) cx dJ1_fixAfterDeletion_113 (by decide) ?_
                      refine V.icmp_ne (tgt := 143) cx dJ1_fixAfterDeletion_114 (by decide) (fun cz => ?_) (fun cz => ?_)
                      · exact absurd rfl cz
                      · have nns : na ≠ s0 := fun e => by have h1 := (hI_.2.2.1 s0 hsE).2 na hna; have h2 := hI_.2.1 na hnE; rw [e] at h1 h2; omega
                        refine V.aload_n cx dJ1_fixAfterDeletion_117 rfl 0 rfl ?_
                        refine V.callS (As := [.ref s0]) (rest := []) cx (m_leftOfS l hl g A E tm ka va lf_ rt_ pa_ co_ vl root_ n md h0 s0 hsE) q1057 q1058 (na := 1) rfl (by decide +kernel) (Nat.le_of_ble_eq_true rfl) (by decide) (by decide) (by decide) rfl dJ1_fixAfterDeletion_118 (fun _ _ _ hx => hx.elim) (fun v207 h208 hp => ?_)
                        obtain ⟨rfl, rfl⟩ := hp
                        show V g A κ _ _ 0 0 (tmO E tm ka va lf_ rt_ pa_ co_ vl root_ n md h0) 121 [(2, .ref s0), (0, .ref tm), (1, .ref x_)] [va_rf (lf_ s0)]
                        refine V.toq (o' := (some na)) (by rw [hna]) ?_
                        show V g A κ _ _ 0 0 (tmO E tm ka va lf_ rt_ pa_ co_ vl root_ n md h0) 121 [(2, .ref s0), (0, .ref tm), (1, .ref x_)] [.ref na]
                        refine V.iconst (v := (nI 1)) cx dJ1_fixAfterDeletion_121 (by decide) ?_
                        refine V.toi (y := b2 true) (by decide) ?_
                        refine V.callS (As := [.ref na, .int (b2 true)]) (rest := []) cx (m_setColorS l hl g A E tm ka va lf_ rt_ pa_ co_ vl root_ n md h0 na hnE true) q1066 q1067 (na := 2) rfl (by decide +kernel) (Nat.le_of_ble_eq_true rfl) (by decide) (by decide) (by decide) rfl dJ1_fixAfterDeletion_122 (fun _ _ _ hx => hx.elim) (fun v209 h210 hp => ?_)
                        obtain ⟨rfl, rfl⟩ := hp
                        show V g A κ _ _ 0 0 (tmO E tm ka va lf_ rt_ pa_ (va_up co_ na true) vl root_ n md h0) 125 [(2, .ref s0), (0, .ref tm), (1, .ref x_)] []
                        refine V.aload_n cx dJ1_fixAfterDeletion_125 rfl 0 rfl ?_
                        refine V.iconst (v := (nI 0)) cx dJ1_fixAfterDeletion_126 (by decide) ?_
                        refine V.toi (y := b2 false) (by decide) ?_
                        refine V.callS (As := [.ref s0, .int (b2 false)]) (rest := []) cx (m_setColorS l hl g A E tm ka va lf_ rt_ pa_ (va_up co_ na true) vl root_ n md h0 s0 hsE false) q1066 q1067 (na := 2) rfl (by decide +kernel) (Nat.le_of_ble_eq_true rfl) (by decide) (by decide) (by decide) rfl dJ1_fixAfterDeletion_127 (fun _ _ _ hx => hx.elim) (fun v211 h212 hp => ?_)
                        obtain ⟨rfl, rfl⟩ := hp
                        show V g A κ _ _ 0 0 (tmO E tm ka va lf_ rt_ pa_ (va_up (va_up co_ na true) s0 false) vl root_ n md h0) 130 [(2, .ref s0), (0, .ref tm), (1, .ref x_)] []
                        refine V.aload_n cx dJ1_fixAfterDeletion_130 rfl 1 rfl ?_
                        refine V.aload_n cx dJ1_fixAfterDeletion_131 rfl 0 rfl ?_
                        refine V.callV (As := [.ref s0]) (rest := []) (C := "java/util/TreeMap") cx (m_rotR l hl g A E tm ka va lf_ rt_ pa_ (va_up (va_up co_ na true) s0 false) vl root_ n md h0 ix lo_ hi_ hI_ ht s0 na hsE hna) rfl q1073 q1075 qs10 (Rv.of kJ1 (tm_t ht)) (na := 1) rfl (by decide +kernel) (Nat.le_of_ble_eq_true rfl) (by decide) (by decide) (by decide) rfl dJ1_fixAfterDeletion_132 (fun _ _ _ hx => hx.elim) (fun v213 h214 hp => ?_)
                        obtain ⟨rfl, rfl⟩ := hp
                        show V g A κ _ _ 0 0 (tmO E tm ka va (rrt rt_ lf_ pa_ s0 na) (rlf rt_ pa_ s0 na) (rpa rt_ pa_ s0 na) (va_up (va_up co_ na true) s0 false) vl (if pa_ s0 = none then some na else root_) n md h0) 135 [(2, .ref s0), (0, .ref tm), (1, .ref x_)] []
                        obtain ⟨rt3, lf3, pa3, root3, lo3, hi3, hI3, e13, e23, e33, e43, e53, e63⟩ : ∃ (rt3 lf3 pa3 : Nat → Option Nat) (root3 : Option Nat) (lo3 hi3 : Nat → Nat), Inv E ix lo3 hi3 lf3 rt3 pa3 root3 ∧ (rlf rt_ pa_ s0 na) = rt3 ∧ (rrt rt_ lf_ pa_ s0 na) = lf3 ∧ (rpa rt_ pa_ s0 na) = pa3 ∧ (if pa_ s0 = none then some na else root_) = root3 ∧ (va_up lo_ s0 (ix na + 1)) = lo3 ∧ (va_up hi_ na (hi_ s0)) = hi3 := ⟨_, _, _, _, _, _, Inv.rotR hI_ hsE hna, rfl, rfl, rfl, rfl, rfl, rfl⟩
                        refine V.hto (h' := (tmO E tm ka va lf3 rt3 pa3 (va_up (va_up co_ na true) s0 false) vl root3 n md h0)) (by rw [e13, e23, e33, e43]) ?_
                        show V g A κ _ _ 0 0 (tmO E tm ka va lf3 rt3 pa3 (va_up (va_up co_ na true) s0 false) vl root3 n md h0) 135 [(2, .ref s0), (0, .ref tm), (1, .ref x_)] []
                        obtain ⟨co3, hco3⟩ : ∃ z : Nat → Bool, (va_up (va_up co_ na true) s0 false) = z := ⟨_, rfl⟩
                        refine V.hto (h' := (tmO E tm ka va lf3 rt3 pa3 co3 vl root3 n md h0)) (by rw [hco3]) ?_
                        show V g A κ _ _ 0 0 (tmO E tm ka va lf3 rt3 pa3 co3 vl root3 n md h0) 135 [(2, .ref s0), (0, .ref tm), (1, .ref x_)] []
                        have q1 := (hI_.2.2.1 p hpE).2 x_ hlx_
                        have q2 := (hI_.2.2.2.1 p hpE).2 s0 hs0
                        have q3 := (hI_.2.2.1 s0 hsE).2 na hna
                        have q4 := hI_.2.1 na hnE
                        have q5 := hI_.2.1 x_ hx_
                        have q6 := hI_.2.1 p hpE
                        have q7 := hI_.2.1 s0 hsE
                        have nnp : na ≠ p := fun e => by subst e; omega
                        have nxn : x_ ≠ na := fun e => by subst e; omega
                        have nxs : x_ ≠ s0 := fun e => by subst e; omega
                        have hxp3 : pa3 x_ = some p := by rw [← e33]; unfold rpa; rw [if_neg nxs, if_neg nxn, if_neg (fun e => by have h1 := ((hI_.2.2.2.1 na hnE).2 x_ e).2.1; rw [hxp_] at h1; exact nnp (Option.some.inj h1).symm)]; exact hxp_
                        have hs3 : rt3 p = some na := by rw [← e13]; unfold rlf; rw [if_neg (Ne.symm nnp), if_pos ⟨hsp, hs0⟩]
                        have hf3 : rt3 na = some s0 := by rw [← e13]; unfold rlf; rw [if_pos rfl]
                        have hlx3 : lf3 p = some x_ := by rw [← e23]; unfold rrt; rw [if_neg (Ne.symm nsp), if_neg (fun e => e.2 hs0)]; exact hlx_
                        have rg3 : lo3 x_ = lo_ x_ ∧ hi3 x_ = hi_ x_ := by rw [← e53, ← e63]; unfold va_up; rw [if_neg nxs, if_neg nxn]; exact rg_
                        have hB3 : ∀ r, root3 = some r → co3 r = true := fun r hr => by
                          rw [← e43, hsp, if_neg (by simp)] at hr
                          have h1 := hB_ r hr
                          have h2 := (hI_.2.2.2.2.2.2 r hr).2.1
                          rw [← hco3]; unfold va_up
                          rw [if_neg (fun e => by rw [e, hsp] at h2; cases h2)]
                          by_cases hrn : r = na
                          · rw [if_pos hrn]
                          · rw [if_neg hrn]; exact h1
                        have G3 : ∀ p0, z = some p0 → lf3 p0 = none ∧ rt3 p0 = none ∧ lo3 x_ ≤ ix p0 ∧ ix p0 < hi3 x_ := fun p0 hp0 => by
                          have g := G_ p0 hp0
                          have gg := leaf_rot (fun q hq => Or.symm ((hI_.2.2.2.2.1 s0 hsE).2 q hq).2) hna g.2.1 g.1 (fun e => by subst e; have := rg_; omega)
                          rw [e13, e23] at gg
                          exact ⟨gg.2, gg.1, by have := rg3; have := rg_; omega, by have := rg3; have := rg_; omega⟩
                        refine V.aload_n cx dJ1_fixAfterDeletion_135 rfl 2 rfl ?_
                        refine V.callS (As := [.ref x_]) (rest := []) cx (m_parentOfS l hl g A E tm ka va lf3 rt3 pa3 co3 vl root3 n md h0 x_ hx_) q1054 q1055 (na := 1) rfl (by decide +kernel) (Nat.le_of_ble_eq_true rfl) (by decide) (by decide) (by decide) rfl dJ1_fixAfterDeletion_136 (fun _ _ _ hx => hx.elim) (fun v215 h216 hp => ?_)
                        obtain ⟨rfl, rfl⟩ := hp
                        show V g A κ _ _ 0 0 (tmO E tm ka va lf3 rt3 pa3 co3 vl root3 n md h0) 139 [(2, .ref s0), (0, .ref tm), (1, .ref x_)] [va_rf (pa3 x_)]
                        refine V.toq (o' := (some p)) (by rw [hxp3]) ?_
                        show V g A κ _ _ 0 0 (tmO E tm ka va lf3 rt3 pa3 co3 vl root3 n md h0) 139 [(2, .ref s0), (0, .ref tm), (1, .ref x_)] [.ref p]
                        refine V.callS (As := [.ref p]) (rest := []) cx (m_rightOfS l hl g A E tm ka va lf3 rt3 pa3 co3 vl root3 n md h0 p hpE) q1060 q1061 (na := 1) rfl (by decide +kernel) (Nat.le_of_ble_eq_true rfl) (by decide) (by decide) (by decide) rfl dJ1_fixAfterDeletion_139 (fun _ _ _ hx => hx.elim) (fun v217 h218 hp => ?_)
                        obtain ⟨rfl, rfl⟩ := hp
                        show V g A κ _ _ 0 0 (tmO E tm ka va lf3 rt3 pa3 co3 vl root3 n md h0) 142 [(2, .ref s0), (0, .ref tm), (1, .ref x_)] [va_rf (rt3 p)]
                        refine V.toq (o' := (some na)) (by rw [hs3]) ?_
                        show V g A κ _ _ 0 0 (tmO E tm ka va lf3 rt3 pa3 co3 vl root3 n md h0) 142 [(2, .ref s0), (0, .ref tm), (1, .ref x_)] [.ref na]
                        refine V.astore_n (lv' := [(2, .ref na), (0, .ref tm), (1, .ref x_)]) cx dJ1_fixAfterDeletion_142 rfl (by decide) rfl ?_
                        refine V.aload_n cx dJ1_fixAfterDeletion_143 rfl 0 rfl ?_
                        refine V.aload_n cx dJ1_fixAfterDeletion_144 rfl 2 rfl ?_
                        have mz3 : lo3 p ≤ lo3 x_ ∧ hi3 x_ ≤ hi3 p ∧ hi3 p - lo3 p > hi_ x_ - lo_ x_ ∧ lo3 x_ = lo_ x_ ∧ hi3 x_ = hi_ x_ ∧ hi3 p ≤ E.length ∧ lo3 p ≤ hi3 p := by
                          have h1 := hI3.2.1 p hpE
                          have h2 := hI3.2.1 x_ hx_
                          have h3 := (hI3.2.2.1 p hpE).2 x_ hlx3
                          have h4 := rg3
                          omega
                        have nt3 : ∀ q, pa3 p = some q → lf3 q = some p ∨ rt3 q = some p := fun q hq => ((hI3.2.2.2.2.1 p hpE).2 q hq).2
                        refine V.callS (As := [.ref x_]) (rest := [.ref na]) cx (m_parentOfS l hl g A E tm ka va lf3 rt3 pa3 co3 vl root3 n md h0 x_ hx_) q1054 q1055 (na := 1) rfl (by decide +kernel) (Nat.le_of_ble_eq_true rfl) (by decide) (by decide) (by decide) rfl dJ1_fixAfterDeletion_145 (fun _ _ _ hx => hx.elim) (fun v219 h220 hp => ?_)
                        obtain ⟨rfl, rfl⟩ := hp
                        show V g A κ _ _ 0 0 (tmO E tm ka va lf3 rt3 pa3 co3 vl root3 n md h0) 148 [(2, .ref na), (0, .ref tm), (1, .ref x_)] [va_rf (pa3 x_), .ref na]
                        refine V.toq (o' := (some p)) (by rw [hxp3]) ?_
                        show V g A κ _ _ 0 0 (tmO E tm ka va lf3 rt3 pa3 co3 vl root3 n md h0) 148 [(2, .ref na), (0, .ref tm), (1, .ref x_)] [.ref p, .ref na]
                        refine V.callS (As := [.ref p]) (rest := [.ref na]) cx (m_colorOfS l hl g A E tm ka va lf3 rt3 pa3 co3 vl root3 n md h0 p hpE) q1063 q1064 (na := 1) rfl (by decide +kernel) (Nat.le_of_ble_eq_true rfl) (by decide) (by decide) (by decide) rfl dJ1_fixAfterDeletion_148 (fun _ _ _ hx => hx.elim) (fun v221 h222 hp => ?_)
                        obtain ⟨rfl, rfl⟩ := hp
                        show V g A κ _ _ 0 0 (tmO E tm ka va lf3 rt3 pa3 co3 vl root3 n md h0) 151 [(2, .ref na), (0, .ref tm), (1, .ref x_)] [.int (b2 (co3 p)), .ref na]
                        show V g A κ _ _ 0 0 (tmO E tm ka va lf3 rt3 pa3 co3 vl root3 n md h0) 151 [(2, .ref na), (0, .ref tm), (1, .ref x_)] [.int (b2 (co3 p)), .ref na]
                        refine V.callS (As := [.ref na, .int (b2 (co3 p))]) (rest := []) cx (m_setColorS l hl g A E tm ka va lf3 rt3 pa3 co3 vl root3 n md h0 na hnE (co3 p)) q1066 q1067 (na := 2) rfl (by decide +kernel) (Nat.le_of_ble_eq_true rfl) (by decide) (by decide) (by decide) rfl dJ1_fixAfterDeletion_151 (fun _ _ _ hx => hx.elim) (fun v223 h224 hp => ?_)
                        obtain ⟨rfl, rfl⟩ := hp
                        show V g A κ _ _ 0 0 (tmO E tm ka va lf3 rt3 pa3 (va_up co3 na (co3 p)) vl root3 n md h0) 154 [(2, .ref na), (0, .ref tm), (1, .ref x_)] []
                        refine V.aload_n cx dJ1_fixAfterDeletion_154 rfl 2 rfl ?_
                        refine V.callS (As := [.ref x_]) (rest := []) cx (m_parentOfS l hl g A E tm ka va lf3 rt3 pa3 (va_up co3 na (co3 p)) vl root3 n md h0 x_ hx_) q1054 q1055 (na := 1) rfl (by decide +kernel) (Nat.le_of_ble_eq_true rfl) (by decide) (by decide) (by decide) rfl dJ1_fixAfterDeletion_155 (fun _ _ _ hx => hx.elim) (fun v225 h226 hp => ?_)
                        obtain ⟨rfl, rfl⟩ := hp
                        show V g A κ _ _ 0 0 (tmO E tm ka va lf3 rt3 pa3 (va_up co3 na (co3 p)) vl root3 n md h0) 158 [(2, .ref na), (0, .ref tm), (1, .ref x_)] [va_rf (pa3 x_)]
                        refine V.toq (o' := (some p)) (by rw [hxp3]) ?_
                        show V g A κ _ _ 0 0 (tmO E tm ka va lf3 rt3 pa3 (va_up co3 na (co3 p)) vl root3 n md h0) 158 [(2, .ref na), (0, .ref tm), (1, .ref x_)] [.ref p]
                        refine V.iconst (v := (nI 1)) cx dJ1_fixAfterDeletion_158 (by decide) ?_
                        refine V.toi (y := b2 true) (by decide) ?_
                        refine V.callS (As := [.ref p, .int (b2 true)]) (rest := []) cx (m_setColorS l hl g A E tm ka va lf3 rt3 pa3 (va_up co3 na (co3 p)) vl root3 n md h0 p hpE true) q1066 q1067 (na := 2) rfl (by decide +kernel) (Nat.le_of_ble_eq_true rfl) (by decide) (by decide) (by decide) rfl dJ1_fixAfterDeletion_159 (fun _ _ _ hx => hx.elim) (fun v227 h228 hp => ?_)
                        obtain ⟨rfl, rfl⟩ := hp
                        show V g A κ _ _ 0 0 (tmO E tm ka va lf3 rt3 pa3 (va_up (va_up co3 na (co3 p)) p true) vl root3 n md h0) 162 [(2, .ref na), (0, .ref tm), (1, .ref x_)] []
                        refine V.aload_n cx dJ1_fixAfterDeletion_162 rfl 0 rfl ?_
                        refine V.callS (As := [.ref na]) (rest := []) cx (m_rightOfS l hl g A E tm ka va lf3 rt3 pa3 (va_up (va_up co3 na (co3 p)) p true) vl root3 n md h0 na hnE) q1060 q1061 (na := 1) rfl (by decide +kernel) (Nat.le_of_ble_eq_true rfl) (by decide) (by decide) (by decide) rfl dJ1_fixAfterDeletion_163 (fun _ _ _ hx => hx.elim) (fun v229 h230 hp => ?_)
                        obtain ⟨rfl, rfl⟩ := hp
                        show V g A κ _ _ 0 0 (tmO E tm ka va lf3 rt3 pa3 (va_up (va_up co3 na (co3 p)) p true) vl root3 n md h0) 166 [(2, .ref na), (0, .ref tm), (1, .ref x_)] [va_rf (rt3 na)]
                        refine V.toq (o' := (some s0)) (by rw [hf3]) ?_
                        show V g A κ _ _ 0 0 (tmO E tm ka va lf3 rt3 pa3 (va_up (va_up co3 na (co3 p)) p true) vl root3 n md h0) 166 [(2, .ref na), (0, .ref tm), (1, .ref x_)] [.ref s0]
                        refine V.iconst (v := (nI 1)) cx dJ1_fixAfterDeletion_166 (by decide) ?_
                        refine V.toi (y := b2 true) (by decide) ?_
                        refine V.callS (As := [.ref s0, .int (b2 true)]) (rest := []) cx (m_setColorS l hl g A E tm ka va lf3 rt3 pa3 (va_up (va_up co3 na (co3 p)) p true) vl root3 n md h0 s0 hsE true) q1066 q1067 (na := 2) rfl (by decide +kernel) (Nat.le_of_ble_eq_true rfl) (by decide) (by decide) (by decide) rfl dJ1_fixAfterDeletion_167 (fun _ _ _ hx => hx.elim) (fun v231 h232 hp => ?_)
                        obtain ⟨rfl, rfl⟩ := hp
                        show V g A κ _ _ 0 0 (tmO E tm ka va lf3 rt3 pa3 (va_up (va_up (va_up co3 na (co3 p)) p true) s0 true) vl root3 n md h0) 170 [(2, .ref na), (0, .ref tm), (1, .ref x_)] []
                        refine V.aload_n cx dJ1_fixAfterDeletion_170 rfl 1 rfl ?_
                        refine V.aload_n cx dJ1_fixAfterDeletion_171 rfl 2 rfl ?_
                        refine V.callS (As := [.ref x_]) (rest := [.ref tm]) cx (m_parentOfS l hl g A E tm ka va lf3 rt3 pa3 (va_up (va_up (va_up co3 na (co3 p)) p true) s0 true) vl root3 n md h0 x_ hx_) q1054 q1055 (na := 1) rfl (by decide +kernel) (Nat.le_of_ble_eq_true rfl) (by decide) (by decide) (by decide) rfl dJ1_fixAfterDeletion_172 (fun _ _ _ hx => hx.elim) (fun v233 h234 hp => ?_)
                        obtain ⟨rfl, rfl⟩ := hp
                        show V g A κ _ _ 0 0 (tmO E tm ka va lf3 rt3 pa3 (va_up (va_up (va_up co3 na (co3 p)) p true) s0 true) vl root3 n md h0) 175 [(2, .ref na), (0, .ref tm), (1, .ref x_)] [va_rf (pa3 x_), .ref tm]
                        refine V.toq (o' := (some p)) (by rw [hxp3]) ?_
                        show V g A κ _ _ 0 0 (tmO E tm ka va lf3 rt3 pa3 (va_up (va_up (va_up co3 na (co3 p)) p true) s0 true) vl root3 n md h0) 175 [(2, .ref na), (0, .ref tm), (1, .ref x_)] [.ref p, .ref tm]
                        refine V.callV (As := [.ref p]) (rest := []) (C := "java/util/TreeMap") cx (m_rotL l hl g A E tm ka va lf3 rt3 pa3 (va_up (va_up (va_up co3 na (co3 p)) p true) s0 true) vl root3 n md h0 ix lo3 hi3 hI3 ht p na hpE hs3) rfl q1069 q1071 qs9 (Rv.of kJ1 (tm_t ht)) (na := 1) rfl (by decide +kernel) (Nat.le_of_ble_eq_true rfl) (by decide) (by decide) (by decide) rfl dJ1_fixAfterDeletion_175 (fun _ _ _ hx => hx.elim) (fun v235 h236 hp => ?_)
                        obtain ⟨rfl, rfl⟩ := hp
                        show V g A κ _ _ 0 0 (tmO E tm ka va (rlf lf3 pa3 p na) (rrt lf3 rt3 pa3 p na) (rpa lf3 pa3 p na) (va_up (va_up (va_up co3 na (co3 p)) p true) s0 true) vl (if pa3 p = none then some na else root3) n md h0) 178 [(2, .ref na), (0, .ref tm), (1, .ref x_)] []
                        obtain ⟨lf4, rt4, pa4, root4, lo4, hi4, hI4, e14, e24, e34, e44, e54, e64⟩ : ∃ (lf4 rt4 pa4 : Nat → Option Nat) (root4 : Option Nat) (lo4 hi4 : Nat → Nat), Inv E ix lo4 hi4 lf4 rt4 pa4 root4 ∧ (rlf lf3 pa3 p na) = lf4 ∧ (rrt lf3 rt3 pa3 p na) = rt4 ∧ (rpa lf3 pa3 p na) = pa4 ∧ (if pa3 p = none then some na else root3) = root4 ∧ (va_up lo3 na (lo3 p)) = lo4 ∧ (va_up hi3 p (ix na)) = hi4 := ⟨_, _, _, _, _, _, Inv.rotL hI3 hpE hs3, rfl, rfl, rfl, rfl, rfl, rfl⟩
                        refine V.hto (h' := (tmO E tm ka va lf4 rt4 pa4 (va_up (va_up (va_up co3 na (co3 p)) p true) s0 true) vl root4 n md h0)) (by rw [e14, e24, e34, e44]) ?_
                        show V g A κ _ _ 0 0 (tmO E tm ka va lf4 rt4 pa4 (va_up (va_up (va_up co3 na (co3 p)) p true) s0 true) vl root4 n md h0) 178 [(2, .ref na), (0, .ref tm), (1, .ref x_)] []
                        rcases opt_c root4 with hr4 | ⟨rr, hr4⟩
                        · exact absurd (Inv.root_some hI4 hx_) (fun e => absurd (hr4.symm.trans e.choose_spec) (by intro e; cases e))
                        · refine V.aload_n cx dJ1_fixAfterDeletion_178 rfl 1 rfl ?_
                          refine V.get cx kJ1 (tm_t ht) 3 (by decide) q158 rfl rfl dJ1_fixAfterDeletion_179 ?_
                          refine V.toq (o' := (some rr)) (by rw [hr4]) ?_
                          show V g A κ _ _ 0 0 (tmO E tm ka va lf4 rt4 pa4 (va_up (va_up (va_up co3 na (co3 p)) p true) s0 true) vl root4 n md h0) 182 [(2, .ref na), (0, .ref tm), (1, .ref x_)] [.ref rr]
                          refine V.astore_n (lv' := [(1, .ref rr), (2, .ref na), (0, .ref tm)]) cx dJ1_fixAfterDeletion_182 rfl (by decide) rfl ?_
                          refine V.goto (tgt := 0) cx dJ1_fixAfterDeletion_183 (by decide) ?_
                          have k4 := hI4.2.2.2.2.2.2 rr hr4
                          refine V.sub [2, 0] rfl ?_
                          exact ih_ (rr, lo4, hi4, lf4, rt4, pa4, (va_up (va_up (va_up co3 na (co3 p)) p true) s0 true), root4) (by dsimp only; exact (by have h1 := mz3; rw [k4.2.2.1, k4.2.2.2]; omega)) (by dsimp only; exact ⟨hI4, k4.1, fun r hr => Or.inr (Option.some.inj (hr4.symm.trans hr)), fun p0 hp0 => by have h1 := G3 p0 hp0; have h2 := hI4.2.1 p0 (hzE p0 hp0); have g := leaf_rot nt3 hs3 h1.1 h1.2.1 (fun e => by have h3 := h1.2.1; rw [e, hf3] at h3; cases h3); rw [e14, e24] at g; exact ⟨g.1, g.2, by omega, by omega⟩⟩)
                    · exact absurd cz (by decide)
                · rcases unc (rt_ s0) co_ with ⟨nb, hnb, hcf⟩ | hcf
                  · have hfE : nb ∈ E := (fun e he => ((hI_.2.2.2.1 s0 hsE).2 e he).1) nb hnb
                    refine V.aload_n cx dJ1_fixAfterDeletion_71 rfl 0 rfl ?_
                    refine V.callS (As := [.ref s0]) (rest := []) cx (m_leftOfS l hl g A E tm ka va lf_ rt_ pa_ co_ vl root_ n md h0 s0 hsE) q1057 q1058 (na := 1) rfl (by decide +kernel) (Nat.le_of_ble_eq_true rfl) (by decide) (by decide) (by decide) rfl dJ1_fixAfterDeletion_72 (fun _ _ _ hx => hx.elim) (fun v237 h238 hp => ?_)
                    obtain ⟨rfl, rfl⟩ := hp
                    show V g A κ _ _ 0 0 (tmO E tm ka va lf_ rt_ pa_ co_ vl root_ n md h0) 75 [(2, .ref s0), (0, .ref tm), (1, .ref x_)] [va_rf (lf_ s0)]
                    show V g A κ _ _ 0 0 (tmO E tm ka va lf_ rt_ pa_ co_ vl root_ n md h0) 75 [(2, .ref s0), (0, .ref tm), (1, .ref x_)] [va_rf (lf_ s0)]
                    refine V.callS (As := [va_rf (lf_ s0)]) (rest := []) cx (m_colorOf l hl g A E tm ka va lf_ rt_ pa_ co_ vl root_ n md h0 (lf_ s0) (fun e he => ((hI_.2.2.1 s0 hsE).2 e he).1)) q1063 q1064 (na := 1) rfl (by decide +kernel) (Nat.le_of_ble_eq_true rfl) (by decide) (by decide) (by decide) rfl dJ1_fixAfterDeletion_75 (fun _ _ _ hx => hx.elim) (fun v239 h240 hp => ?_)
                    obtain ⟨rfl, rfl⟩ := hp
                    show V g A κ _ _ 0 0 (tmO E tm ka va lf_ rt_ pa_ co_ vl root_ n md h0) 78 [(2, .ref s0), (0, .ref tm), (1, .ref x_)] [.int (b2 (Option.elim (lf_ s0) true co_))]
                    refine V.tob (b := true) hcn ?_
                    refine V.iconst (v := (nI 1)) cx dJ1_fixAfterDeletion_78 (by decide) ?_
                    refine V.icmp_ne (tgt := 106) cx dJ1_fixAfterDeletion_79 (by decide) (fun cz => ?_) (fun cz => ?_)
                    · exact absurd rfl cz
                    · refine V.aload_n cx dJ1_fixAfterDeletion_82 rfl 0 rfl ?_
                      refine V.callS (As := [.ref s0]) (rest := []) cx (m_rightOfS l hl g A E tm ka va lf_ rt_ pa_ co_ vl root_ n md h0 s0 hsE) q1060 q1061 (na := 1) rfl (by decide +kernel) (Nat.le_of_ble_eq_true rfl) (by decide) (by decide) (by decide) rfl dJ1_fixAfterDeletion_83 (fun _ _ _ hx => hx.elim) (fun v241 h242 hp => ?_)
                      obtain ⟨rfl, rfl⟩ := hp
                      show V g A κ _ _ 0 0 (tmO E tm ka va lf_ rt_ pa_ co_ vl root_ n md h0) 86 [(2, .ref s0), (0, .ref tm), (1, .ref x_)] [va_rf (rt_ s0)]
                      refine V.toq (o' := (some nb)) (by rw [hnb]) ?_
                      show V g A κ _ _ 0 0 (tmO E tm ka va lf_ rt_ pa_ co_ vl root_ n md h0) 86 [(2, .ref s0), (0, .ref tm), (1, .ref x_)] [.ref nb]
                      refine V.callS (As := [.ref nb]) (rest := []) cx (m_colorOfS l hl g A E tm ka va lf_ rt_ pa_ co_ vl root_ n md h0 nb hfE) q1063 q1064 (na := 1) rfl (by decide +kernel) (Nat.le_of_ble_eq_true rfl) (by decide) (by decide) (by decide) rfl dJ1_fixAfterDeletion_86 (fun _ _ _ hx => hx.elim) (fun v243 h244 hp => ?_)
                      obtain ⟨rfl, rfl⟩ := hp
                      show V g A κ _ _ 0 0 (tmO E tm ka va lf_ rt_ pa_ co_ vl root_ n md h0) 89 [(2, .ref s0), (0, .ref tm), (1, .ref x_)] [.int (b2 (co_ nb))]
                      refine V.tob (b := false) (by rw [hcf]) ?_
                      show V g A κ _ _ 0 0 (tmO E tm ka va lf_ rt_ pa_ co_ vl root_ n md h0) 89 [(2, .ref s0), (0, .ref tm), (1, .ref x_)] [.int (b2 false)]
                      refine V.iconst (v := (nI 1)) cx dJ1_fixAfterDeletion_89 (by decide) ?_
                      refine V.icmp_ne (tgt := 106) cx dJ1_fixAfterDeletion_90 (by decide) (fun cz => ?_) (fun cz => ?_)
                      · refine V.aload_n cx dJ1_fixAfterDeletion_106 rfl 0 rfl ?_
                        refine V.callS (As := [.ref s0]) (rest := []) cx (m_rightOfS l hl g A E tm ka va lf_ rt_ pa_ co_ vl root_ n md h0 s0 hsE) q1060 q1061 (na := 1) rfl (by decide +kernel) (Nat.le_of_ble_eq_true rfl) (by decide) (by decide) (by decide) rfl dJ1_fixAfterDeletion_107 (fun _ _ _ hx => hx.elim) (fun v245 h246 hp => ?_)
                        obtain ⟨rfl, rfl⟩ := hp
                        show V g A κ _ _ 0 0 (tmO E tm ka va lf_ rt_ pa_ co_ vl root_ n md h0) 110 [(2, .ref s0), (0, .ref tm), (1, .ref x_)] [va_rf (rt_ s0)]
                        refine V.toq (o' := (some nb)) (by rw [hnb]) ?_
                        show V g A κ _ _ 0 0 (tmO E tm ka va lf_ rt_ pa_ co_ vl root_ n md h0) 110 [(2, .ref s0), (0, .ref tm), (1, .ref x_)] [.ref nb]
                        refine V.callS (As := [.ref nb]) (rest := []) cx (m_colorOfS l hl g A E tm ka va lf_ rt_ pa_ co_ vl root_ n md h0 nb hfE) q1063 q1064 (na := 1) rfl (by decide +kernel) (Nat.le_of_ble_eq_true rfl) (by decide) (by decide) (by decide) rfl dJ1_fixAfterDeletion_110 (fun _ _ _ hx => hx.elim) (fun v247 h248 hp => ?_)
                        obtain ⟨rfl, rfl⟩ := hp
                        show V g A κ _ _ 0 0 (tmO E tm ka va lf_ rt_ pa_ co_ vl root_ n md h0) 113 [(2, .ref s0), (0, .ref tm), (1, .ref x_)] [.int (b2 (co_ nb))]
                        refine V.tob (b := false) (by rw [hcf]) ?_
                        show V g A κ _ _ 0 0 (tmO E tm ka va lf_ rt_ pa_ co_ vl root_ n md h0) 113 [(2, .ref s0), (0, .ref tm), (1, .ref x_)] [.int (b2 false)]
                        refine V.iconst (v := (nI 1)) cx dJ1_fixAfterDeletion_113 (by decide) ?_
                        refine V.icmp_ne (tgt := 143) cx dJ1_fixAfterDeletion_114 (by decide) (fun cz => ?_) (fun cz => ?_)
                        · refine V.aload_n cx dJ1_fixAfterDeletion_143 rfl 0 rfl ?_
                          refine V.aload_n cx dJ1_fixAfterDeletion_144 rfl 2 rfl ?_
                          refine V.callS (As := [.ref x_]) (rest := [.ref s0]) cx (m_parentOfS l hl g A E tm ka va lf_ rt_ pa_ co_ vl root_ n md h0 x_ hx_) q1054 q1055 (na := 1) rfl (by decide +kernel) (Nat.le_of_ble_eq_true rfl) (by decide) (by decide) (by decide) rfl dJ1_fixAfterDeletion_145 (fun _ _ _ hx => hx.elim) (fun v249 h250 hp => ?_)
                          obtain ⟨rfl, rfl⟩ := hp
                          show V g A κ _ _ 0 0 (tmO E tm ka va lf_ rt_ pa_ co_ vl root_ n md h0) 148 [(2, .ref s0), (0, .ref tm), (1, .ref x_)] [va_rf (pa_ x_), .ref s0]
                          refine V.toq (o' := (some p)) (by rw [hxp_]) ?_
                          show V g A κ _ _ 0 0 (tmO E tm ka va lf_ rt_ pa_ co_ vl root_ n md h0) 148 [(2, .ref s0), (0, .ref tm), (1, .ref x_)] [.ref p, .ref s0]
                          refine V.callS (As := [.ref p]) (rest := [.ref s0]) cx (m_colorOfS l hl g A E tm ka va lf_ rt_ pa_ co_ vl root_ n md h0 p hpE) q1063 q1064 (na := 1) rfl (by decide +kernel) (Nat.le_of_ble_eq_true rfl) (by decide) (by decide) (by decide) rfl dJ1_fixAfterDeletion_148 (fun _ _ _ hx => hx.elim) (fun v251 h252 hp => ?_)
                          obtain ⟨rfl, rfl⟩ := hp
                          show V g A κ _ _ 0 0 (tmO E tm ka va lf_ rt_ pa_ co_ vl root_ n md h0) 151 [(2, .ref s0), (0, .ref tm), (1, .ref x_)] [.int (b2 (co_ p)), .ref s0]
                          show V g A κ _ _ 0 0 (tmO E tm ka va lf_ rt_ pa_ co_ vl root_ n md h0) 151 [(2, .ref s0), (0, .ref tm), (1, .ref x_)] [.int (b2 (co_ p)), .ref s0]
                          refine V.callS (As := [.ref s0, .int (b2 (co_ p))]) (rest := []) cx (m_setColorS l hl g A E tm ka va lf_ rt_ pa_ co_ vl root_ n md h0 s0 hsE (co_ p)) q1066 q1067 (na := 2) rfl (by decide +kernel) (Nat.le_of_ble_eq_true rfl) (by decide) (by decide) (by decide) rfl dJ1_fixAfterDeletion_151 (fun _ _ _ hx => hx.elim) (fun v253 h254 hp => ?_)
                          obtain ⟨rfl, rfl⟩ := hp
                          show V g A κ _ _ 0 0 (tmO E tm ka va lf_ rt_ pa_ (va_up co_ s0 (co_ p)) vl root_ n md h0) 154 [(2, .ref s0), (0, .ref tm), (1, .ref x_)] []
                          refine V.aload_n cx dJ1_fixAfterDeletion_154 rfl 2 rfl ?_
                          refine V.callS (As := [.ref x_]) (rest := []) cx (m_parentOfS l hl g A E tm ka va lf_ rt_ pa_ (va_up co_ s0 (co_ p)) vl root_ n md h0 x_ hx_) q1054 q1055 (na := 1) rfl (by decide +kernel) (Nat.le_of_ble_eq_true rfl) (by decide) (by decide) (by decide) rfl dJ1_fixAfterDeletion_155 (fun _ _ _ hx => hx.elim) (fun v255 h256 hp => ?_)
                          obtain ⟨rfl, rfl⟩ := hp
                          show V g A κ _ _ 0 0 (tmO E tm ka va lf_ rt_ pa_ (va_up co_ s0 (co_ p)) vl root_ n md h0) 158 [(2, .ref s0), (0, .ref tm), (1, .ref x_)] [va_rf (pa_ x_)]
                          refine V.toq (o' := (some p)) (by rw [hxp_]) ?_
                          show V g A κ _ _ 0 0 (tmO E tm ka va lf_ rt_ pa_ (va_up co_ s0 (co_ p)) vl root_ n md h0) 158 [(2, .ref s0), (0, .ref tm), (1, .ref x_)] [.ref p]
                          refine V.iconst (v := (nI 1)) cx dJ1_fixAfterDeletion_158 (by decide) ?_
                          refine V.toi (y := b2 true) (by decide) ?_
                          refine V.callS (As := [.ref p, .int (b2 true)]) (rest := []) cx (m_setColorS l hl g A E tm ka va lf_ rt_ pa_ (va_up co_ s0 (co_ p)) vl root_ n md h0 p hpE true) q1066 q1067 (na := 2) rfl (by decide +kernel) (Nat.le_of_ble_eq_true rfl) (by decide) (by decide) (by decide) rfl dJ1_fixAfterDeletion_159 (fun _ _ _ hx => hx.elim) (fun v257 h258 hp => ?_)
                          obtain ⟨rfl, rfl⟩ := hp
                          show V g A κ _ _ 0 0 (tmO E tm ka va lf_ rt_ pa_ (va_up (va_up co_ s0 (co_ p)) p true) vl root_ n md h0) 162 [(2, .ref s0), (0, .ref tm), (1, .ref x_)] []
                          refine V.aload_n cx dJ1_fixAfterDeletion_162 rfl 0 rfl ?_
                          refine V.callS (As := [.ref s0]) (rest := []) cx (m_rightOfS l hl g A E tm ka va lf_ rt_ pa_ (va_up (va_up co_ s0 (co_ p)) p true) vl root_ n md h0 s0 hsE) q1060 q1061 (na := 1) rfl (by decide +kernel) (Nat.le_of_ble_eq_true rfl) (by decide) (by decide) (by decide) rfl dJ1_fixAfterDeletion_163 (fun _ _ _ hx => hx.elim) (fun v259 h260 hp => ?_)
                          obtain ⟨rfl, rfl⟩ := hp
                          show V g A κ _ _ 0 0 (tmO E tm ka va lf_ rt_ pa_ (va_up (va_up co_ s0 (co_ p)) p true) vl root_ n md h0) 166 [(2, .ref s0), (0, .ref tm), (1, .ref x_)] [va_rf (rt_ s0)]
                          refine V.toq (o' := (some nb)) (by rw [hnb]) ?_
                          show V g A κ _ _ 0 0 (tmO E tm ka va lf_ rt_ pa_ (va_up (va_up co_ s0 (co_ p)) p true) vl root_ n md h0) 166 [(2, .ref s0), (0, .ref tm), (1, .ref x_)] [.ref nb]
                          refine V.iconst (v := (nI 1)) cx dJ1_fixAfterDeletion_166 (by decide) ?_
                          refine V.toi (y := b2 true) (by decide) ?_
                          refine V.callS (As := [.ref nb, .int (b2 true)]) (rest := []) cx (m_setColorS l hl g A E tm ka va lf_ rt_ pa_ (va_up (va_up co_ s0 (co_ p)) p true) vl root_ n md h0 nb hfE true) q1066 q1067 (na := 2) rfl (by decide +kernel) (Nat.le_of_ble_eq_true rfl) (by decide) (by decide) (by decide) rfl dJ1_fixAfterDeletion_167 (fun _ _ _ hx => hx.elim) (fun v261 h262 hp => ?_)
                          obtain ⟨rfl, rfl⟩ := hp
                          show V g A κ _ _ 0 0 (tmO E tm ka va lf_ rt_ pa_ (va_up (va_up (va_up co_ s0 (co_ p)) p true) nb true) vl root_ n md h0) 170 [(2, .ref s0), (0, .ref tm), (1, .ref x_)] []
                          refine V.aload_n cx dJ1_fixAfterDeletion_170 rfl 1 rfl ?_
                          refine V.aload_n cx dJ1_fixAfterDeletion_171 rfl 2 rfl ?_
                          refine V.callS (As := [.ref x_]) (rest := [.ref tm]) cx (m_parentOfS l hl g A E tm ka va lf_ rt_ pa_ (va_up (va_up (va_up co_ s0 (co_ p)) p true) nb true) vl root_ n md h0 x_ hx_) q1054 q1055 (na := 1) rfl (by decide +kernel) (Nat.le_of_ble_eq_true rfl) (by decide) (by decide) (by decide) rfl dJ1_fixAfterDeletion_172 (fun _ _ _ hx => hx.elim) (fun v263 h264 hp => ?_)
                          obtain ⟨rfl, rfl⟩ := hp
                          show V g A κ _ _ 0 0 (tmO E tm ka va lf_ rt_ pa_ (va_up (va_up (va_up co_ s0 (co_ p)) p true) nb true) vl root_ n md h0) 175 [(2, .ref s0), (0, .ref tm), (1, .ref x_)] [va_rf (pa_ x_), .ref tm]
                          refine V.toq (o' := (some p)) (by rw [hxp_]) ?_
                          show V g A κ _ _ 0 0 (tmO E tm ka va lf_ rt_ pa_ (va_up (va_up (va_up co_ s0 (co_ p)) p true) nb true) vl root_ n md h0) 175 [(2, .ref s0), (0, .ref tm), (1, .ref x_)] [.ref p, .ref tm]
                          refine V.callV (As := [.ref p]) (rest := []) (C := "java/util/TreeMap") cx (m_rotL l hl g A E tm ka va lf_ rt_ pa_ (va_up (va_up (va_up co_ s0 (co_ p)) p true) nb true) vl root_ n md h0 ix lo_ hi_ hI_ ht p s0 hpE hs0) rfl q1069 q1071 qs9 (Rv.of kJ1 (tm_t ht)) (na := 1) rfl (by decide +kernel) (Nat.le_of_ble_eq_true rfl) (by decide) (by decide) (by decide) rfl dJ1_fixAfterDeletion_175 (fun _ _ _ hx => hx.elim) (fun v265 h266 hp => ?_)
                          obtain ⟨rfl, rfl⟩ := hp
                          show V g A κ _ _ 0 0 (tmO E tm ka va (rlf lf_ pa_ p s0) (rrt lf_ rt_ pa_ p s0) (rpa lf_ pa_ p s0) (va_up (va_up (va_up co_ s0 (co_ p)) p true) nb true) vl (if pa_ p = none then some s0 else root_) n md h0) 178 [(2, .ref s0), (0, .ref tm), (1, .ref x_)] []
                          obtain ⟨lf4, rt4, pa4, root4, lo4, hi4, hI4, e14, e24, e34, e44, e54, e64⟩ : ∃ (lf4 rt4 pa4 : Nat → Option Nat) (root4 : Option Nat) (lo4 hi4 : Nat → Nat), Inv E ix lo4 hi4 lf4 rt4 pa4 root4 ∧ (rlf lf_ pa_ p s0) = lf4 ∧ (rrt lf_ rt_ pa_ p s0) = rt4 ∧ (rpa lf_ pa_ p s0) = pa4 ∧ (if pa_ p = none then some s0 else root_) = root4 ∧ (va_up lo_ s0 (lo_ p)) = lo4 ∧ (va_up hi_ p (ix s0)) = hi4 := ⟨_, _, _, _, _, _, Inv.rotL hI_ hpE hs0, rfl, rfl, rfl, rfl, rfl, rfl⟩
                          refine V.hto (h' := (tmO E tm ka va lf4 rt4 pa4 (va_up (va_up (va_up co_ s0 (co_ p)) p true) nb true) vl root4 n md h0)) (by rw [e14, e24, e34, e44]) ?_
                          show V g A κ _ _ 0 0 (tmO E tm ka va lf4 rt4 pa4 (va_up (va_up (va_up co_ s0 (co_ p)) p true) nb true) vl root4 n md h0) 178 [(2, .ref s0), (0, .ref tm), (1, .ref x_)] []
                          rcases opt_c root4 with hr4 | ⟨rr, hr4⟩
                          · exact absurd (Inv.root_some hI4 hx_) (fun e => absurd (hr4.symm.trans e.choose_spec) (by intro e; cases e))
                          · refine V.aload_n cx dJ1_fixAfterDeletion_178 rfl 1 rfl ?_
                            refine V.get cx kJ1 (tm_t ht) 3 (by decide) q158 rfl rfl dJ1_fixAfterDeletion_179 ?_
                            refine V.toq (o' := (some rr)) (by rw [hr4]) ?_
                            show V g A κ _ _ 0 0 (tmO E tm ka va lf4 rt4 pa4 (va_up (va_up (va_up co_ s0 (co_ p)) p true) nb true) vl root4 n md h0) 182 [(2, .ref s0), (0, .ref tm), (1, .ref x_)] [.ref rr]
                            refine V.astore_n (lv' := [(1, .ref rr), (2, .ref s0), (0, .ref tm)]) cx dJ1_fixAfterDeletion_182 rfl (by decide) rfl ?_
                            refine V.goto (tgt := 0) cx dJ1_fixAfterDeletion_183 (by decide) ?_
                            have k4 := hI4.2.2.2.2.2.2 rr hr4
                            refine V.sub [2, 0] rfl ?_
                            exact ih_ (rr, lo4, hi4, lf4, rt4, pa4, (va_up (va_up (va_up co_ s0 (co_ p)) p true) nb true), root4) (by dsimp only; exact (by have h1 := mz_; rw [k4.2.2.1, k4.2.2.2]; omega)) (by dsimp only; exact ⟨hI4, k4.1, fun r hr => Or.inr (Option.some.inj (hr4.symm.trans hr)), fun p0 hp0 => by have h1 := G_ p0 hp0; have h2 := hI4.2.1 p0 (hzE p0 hp0); have g := leaf_rot nt_ hs0 h1.1 h1.2.1 (fun e => by have h3 := h1.2.1; rw [e, hnb] at h3; cases h3); rw [e14, e24] at g; exact ⟨g.1, g.2, by omega, by omega⟩⟩)
                        · exact absurd cz (by decide)
                      · exact absurd cz (by decide)
                  · refine V.aload_n cx dJ1_fixAfterDeletion_71 rfl 0 rfl ?_
                    refine V.callS (As := [.ref s0]) (rest := []) cx (m_leftOfS l hl g A E tm ka va lf_ rt_ pa_ co_ vl root_ n md h0 s0 hsE) q1057 q1058 (na := 1) rfl (by decide +kernel) (Nat.le_of_ble_eq_true rfl) (by decide) (by decide) (by decide) rfl dJ1_fixAfterDeletion_72 (fun _ _ _ hx => hx.elim) (fun v267 h268 hp => ?_)
                    obtain ⟨rfl, rfl⟩ := hp
                    show V g A κ _ _ 0 0 (tmO E tm ka va lf_ rt_ pa_ co_ vl root_ n md h0) 75 [(2, .ref s0), (0, .ref tm), (1, .ref x_)] [va_rf (lf_ s0)]
                    show V g A κ _ _ 0 0 (tmO E tm ka va lf_ rt_ pa_ co_ vl root_ n md h0) 75 [(2, .ref s0), (0, .ref tm), (1, .ref x_)] [va_rf (lf_ s0)]
                    refine V.callS (As := [va_rf (lf_ s0)]) (rest := []) cx (m_colorOf l hl g A E tm ka va lf_ rt_ pa_ co_ vl root_ n md h0 (lf_ s0) (fun e he => ((hI_.2.2.1 s0 hsE).2 e he).1)) q1063 q1064 (na := 1) rfl (by decide +kernel) (Nat.le_of_ble_eq_true rfl) (by decide) (by decide) (by decide) rfl dJ1_fixAfterDeletion_75 (fun _ _ _ hx => hx.elim) (fun v269 h270 hp => ?_)
                    obtain ⟨rfl, rfl⟩ := hp
                    show V g A κ _ _ 0 0 (tmO E tm ka va lf_ rt_ pa_ co_ vl root_ n md h0) 78 [(2, .ref s0), (0, .ref tm), (1, .ref x_)] [.int (b2 (Option.elim (lf_ s0) true co_))]
                    refine V.tob (b := true) hcn ?_
                    refine V.iconst (v := (nI 1)) cx dJ1_fixAfterDeletion_78 (by decide) ?_
                    refine V.icmp_ne (tgt := 106) cx dJ1_fixAfterDeletion_79 (by decide) (fun cz => ?_) (fun cz => ?_)
                    · exact absurd rfl cz
                    · refine V.aload_n cx dJ1_fixAfterDeletion_82 rfl 0 rfl ?_
                      refine V.callS (As := [.ref s0]) (rest := []) cx (m_rightOfS l hl g A E tm ka va lf_ rt_ pa_ co_ vl root_ n md h0 s0 hsE) q1060 q1061 (na := 1) rfl (by decide +kernel) (Nat.le_of_ble_eq_true rfl) (by decide) (by decide) (by decide) rfl dJ1_fixAfterDeletion_83 (fun _ _ _ hx => hx.elim) (fun v271 h272 hp => ?_)
                      obtain ⟨rfl, rfl⟩ := hp
                      show V g A κ _ _ 0 0 (tmO E tm ka va lf_ rt_ pa_ co_ vl root_ n md h0) 86 [(2, .ref s0), (0, .ref tm), (1, .ref x_)] [va_rf (rt_ s0)]
                      show V g A κ _ _ 0 0 (tmO E tm ka va lf_ rt_ pa_ co_ vl root_ n md h0) 86 [(2, .ref s0), (0, .ref tm), (1, .ref x_)] [va_rf (rt_ s0)]
                      refine V.callS (As := [va_rf (rt_ s0)]) (rest := []) cx (m_colorOf l hl g A E tm ka va lf_ rt_ pa_ co_ vl root_ n md h0 (rt_ s0) (fun e he => ((hI_.2.2.2.1 s0 hsE).2 e he).1)) q1063 q1064 (na := 1) rfl (by decide +kernel) (Nat.le_of_ble_eq_true rfl) (by decide) (by decide) (by decide) rfl dJ1_fixAfterDeletion_86 (fun _ _ _ hx => hx.elim) (fun v273 h274 hp => ?_)
                      obtain ⟨rfl, rfl⟩ := hp
                      show V g A κ _ _ 0 0 (tmO E tm ka va lf_ rt_ pa_ co_ vl root_ n md h0) 89 [(2, .ref s0), (0, .ref tm), (1, .ref x_)] [.int (b2 (Option.elim (rt_ s0) true co_))]
                      refine V.tob (b := true) hcf ?_
                      refine V.iconst (v := (nI 1)) cx dJ1_fixAfterDeletion_89 (by decide) ?_
                      refine V.icmp_ne (tgt := 106) cx dJ1_fixAfterDeletion_90 (by decide) (fun cz => ?_) (fun cz => ?_)
                      · exact absurd rfl cz
                      · refine V.aload_n cx dJ1_fixAfterDeletion_93 rfl 0 rfl ?_
                        refine V.iconst (v := (nI 0)) cx dJ1_fixAfterDeletion_94 (by decide) ?_
                        refine V.toi (y := b2 false) (by decide) ?_
                        refine V.callS (As := [.ref s0, .int (b2 false)]) (rest := []) cx (m_setColorS l hl g A E tm ka va lf_ rt_ pa_ co_ vl root_ n md h0 s0 hsE false) q1066 q1067 (na := 2) rfl (by decide +kernel) (Nat.le_of_ble_eq_true rfl) (by decide) (by decide) (by decide) rfl dJ1_fixAfterDeletion_95 (fun _ _ _ hx => hx.elim) (fun v275 h276 hp => ?_)
                        obtain ⟨rfl, rfl⟩ := hp
                        show V g A κ _ _ 0 0 (tmO E tm ka va lf_ rt_ pa_ (va_up co_ s0 false) vl root_ n md h0) 98 [(2, .ref s0), (0, .ref tm), (1, .ref x_)] []
                        refine V.aload_n cx dJ1_fixAfterDeletion_98 rfl 2 rfl ?_
                        refine V.callS (As := [.ref x_]) (rest := []) cx (m_parentOfS l hl g A E tm ka va lf_ rt_ pa_ (va_up co_ s0 false) vl root_ n md h0 x_ hx_) q1054 q1055 (na := 1) rfl (by decide +kernel) (Nat.le_of_ble_eq_true rfl) (by decide) (by decide) (by decide) rfl dJ1_fixAfterDeletion_99 (fun _ _ _ hx => hx.elim) (fun v277 h278 hp => ?_)
                        obtain ⟨rfl, rfl⟩ := hp
                        show V g A κ _ _ 0 0 (tmO E tm ka va lf_ rt_ pa_ (va_up co_ s0 false) vl root_ n md h0) 102 [(2, .ref s0), (0, .ref tm), (1, .ref x_)] [va_rf (pa_ x_)]
                        refine V.toq (o' := (some p)) (by rw [hxp_]) ?_
                        show V g A κ _ _ 0 0 (tmO E tm ka va lf_ rt_ pa_ (va_up co_ s0 false) vl root_ n md h0) 102 [(2, .ref s0), (0, .ref tm), (1, .ref x_)] [.ref p]
                        refine V.astore_n (lv' := [(1, .ref p), (2, .ref s0), (0, .ref tm)]) cx dJ1_fixAfterDeletion_102 rfl (by decide) rfl ?_
                        refine V.goto (tgt := 183) cx dJ1_fixAfterDeletion_103 (by decide) ?_
                        refine V.goto (tgt := 0) cx dJ1_fixAfterDeletion_183 (by decide) ?_
                        refine V.sub [2, 0] rfl ?_
                        exact ih_ (p, lo_, hi_, lf_, rt_, pa_, (va_up co_ s0 false), root_) (by dsimp only; exact (by have h1 := mz_; clear ih_; omega)) (by dsimp only; exact ⟨hI_, hpE, fun r hr => Or.inl ((va_up_ne _ _ (fun e => by have h2 := (hI_.2.2.2.2.2.2 r hr).2.1; rw [e, hsp] at h2; cases h2)).trans (hB_ r hr)), fun p0 hp0 => by have h1 := G_ p0 hp0; have h2 := mz_; exact ⟨h1.1, h1.2.1, by omega, by omega⟩⟩)
              · exact absurd cb (by decide)
    · refine V.aload_n cx dJ1_fixAfterDeletion_8 rfl 1 rfl ?_
      refine V.callS (As := [.ref x_]) (rest := []) cx (m_colorOfS l hl g A E tm ka va lf_ rt_ pa_ co_ vl root_ n md h0 x_ hx_) q1063 q1064 (na := 1) rfl (by decide +kernel) (Nat.le_of_ble_eq_true rfl) (by decide) (by decide) (by decide) rfl dJ1_fixAfterDeletion_9 (fun _ _ _ hx => hx.elim) (fun v3 h4 hp => ?_)
      obtain ⟨rfl, rfl⟩ := hp
      show V g A κ _ _ 0 0 (tmO E tm ka va lf_ rt_ pa_ co_ vl root_ n md h0) 12 [(0, .ref tm), (1, .ref x_)] [.int (b2 (co_ x_))]
      refine V.tob (b := false) (by rw [hcx]) ?_
      show V g A κ _ _ 0 0 (tmO E tm ka va lf_ rt_ pa_ co_ vl root_ n md h0) 12 [(0, .ref tm), (1, .ref x_)] [.int (b2 false)]
      refine V.iconst (v := (nI 1)) cx dJ1_fixAfterDeletion_12 (by decide) ?_
      refine V.icmp_ne (tgt := 345) cx dJ1_fixAfterDeletion_13 (by decide) (fun cx1 => ?_) (fun cx1 => ?_)
      · refine V.aload_n cx dJ1_fixAfterDeletion_345 rfl 1 rfl ?_
        refine V.iconst (v := (nI 1)) cx dJ1_fixAfterDeletion_346 (by decide) ?_
        refine V.toi (y := b2 true) (by decide) ?_
        refine V.callS (As := [.ref x_, .int (b2 true)]) (rest := []) cx (m_setColorS l hl g A E tm ka va lf_ rt_ pa_ co_ vl root_ n md h0 x_ hx_ true) q1066 q1067 (na := 2) rfl (by decide +kernel) (Nat.le_of_ble_eq_true rfl) (by decide) (by decide) (by decide) rfl dJ1_fixAfterDeletion_347 (fun _ _ _ hx => hx.elim) (fun v5 h6 hp => ?_)
        obtain ⟨rfl, rfl⟩ := hp
        show V g A κ _ _ 0 0 (tmO E tm ka va lf_ rt_ pa_ (va_up co_ x_ true) vl root_ n md h0) 350 [(0, .ref tm), (1, .ref x_)] []
        exact V.vreturn cx rfl ⟨rfl, lo_, hi_, lf_, rt_, pa_, _, root_, hI_, fun r hr => by have := hb_ r hr; unfold va_up; grind, fun p0 hp0 => ⟨(G_ p0 hp0).1, (G_ p0 hp0).2.1⟩, rfl⟩ (by decide) (by decide) dJ1_fixAfterDeletion_350
      · exact absurd cx1 (by decide)
