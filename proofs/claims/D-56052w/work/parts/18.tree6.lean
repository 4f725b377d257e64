/-! JDK: TreeMap, removing (3) -/
set_option maxRecDepth 100000
theorem va_up_id {f : Nat → Nat} {a : Nat} : f = va_up f a (f a) := by
  funext x; unfold va_up; split
  · rename_i h; rw [h]
  · rfl
theorem tm_del' {E : List Nat} {tm : Nat} {ka va : Nat → Nat} {lf rt pa : Nat → Option Nat} {co : Nat → Bool} {vl root : Option Nat} {n : Nat} {md : Int32} {h0 : AHT} {ix : Nat → Nat} (hi : ∀ e, e ∈ E → E[ix e]? = some e) (hn : E.Nodup) {y : Nat} (hy : y ∈ E) (ht : tm ∉ E) :
    ∃ ce : va_E, tmO E tm ka va lf rt pa co vl root n md h0 = tmO (E.eraseIdx (ix y)) tm ka va lf rt pa co vl root n md (up h0 y ce) := ⟨_, tm_del hi hn hy ht⟩

abbrev cJ1_deleteEntry : ByteArray := prog_68_method_84_code
def yJ1_deleteEntry : MethodName := ⟨RJ1, "deleteEntry", "(Ljava/util/TreeMap$Entry;)V"⟩
def dkwJ1_deleteEntry_10 : List UInt8 := [180, 0, 124, 1, 181, 0, 114, 43, 1, 181, 0, 124, 177]
abbrev dktJ1_deleteEntry_10 : List UInt8 := dkwJ1_deleteEntry_10 ++ []
def dkwJ1_deleteEntry_9 : List UInt8 := [180, 0, 124, 1, 181, 0, 111, 167, 0, 22, 43, 43, 180, 0, 124, 180, 0, 114, 166, 0, 11, 43]
abbrev dktJ1_deleteEntry_9 : List UInt8 := dkwJ1_deleteEntry_9 ++ dktJ1_deleteEntry_10
def dkwJ1_deleteEntry_8 : List UInt8 := [182, 1, 61, 43, 180, 0, 124, 198, 0, 49, 43, 43, 180, 0, 124, 180, 0, 111, 166, 0, 14, 43]
abbrev dktJ1_deleteEntry_8 : List UInt8 := dkwJ1_deleteEntry_8 ++ dktJ1_deleteEntry_9
def dkwJ1_deleteEntry_7 : List UInt8 := [180, 0, 124, 199, 0, 11, 42, 1, 181, 0, 101, 167, 0, 69, 43, 180, 1, 34, 4, 160, 0, 8, 42, 43]
abbrev dktJ1_deleteEntry_7 : List UInt8 := dkwJ1_deleteEntry_7 ++ dktJ1_deleteEntry_8
def dkwJ1_deleteEntry_6 : List UInt8 := [181, 0, 114, 181, 0, 111, 43, 180, 1, 34, 4, 160, 0, 92, 42, 44, 182, 1, 61, 167, 0, 84, 43]
abbrev dktJ1_deleteEntry_6 : List UInt8 := dkwJ1_deleteEntry_6 ++ dktJ1_deleteEntry_7
def dkwJ1_deleteEntry_5 : List UInt8 := [181, 0, 111, 167, 0, 11, 43, 180, 0, 124, 44, 181, 0, 114, 43, 43, 43, 1, 90, 181, 0, 124, 90]
abbrev dktJ1_deleteEntry_5 : List UInt8 := dkwJ1_deleteEntry_5 ++ dktJ1_deleteEntry_6
def dkwJ1_deleteEntry_4 : List UInt8 := [44, 181, 0, 101, 167, 0, 33, 43, 43, 180, 0, 124, 180, 0, 111, 166, 0, 14, 43, 180, 0, 124, 44]
abbrev dktJ1_deleteEntry_4 : List UInt8 := dkwJ1_deleteEntry_4 ++ dktJ1_deleteEntry_5
def dkwJ1_deleteEntry_3 : List UInt8 := [180, 0, 114, 77, 44, 198, 0, 87, 44, 43, 180, 0, 124, 181, 0, 124, 43, 180, 0, 124, 199, 0, 11, 42]
abbrev dktJ1_deleteEntry_3 : List UInt8 := dkwJ1_deleteEntry_3 ++ dktJ1_deleteEntry_4
def dkwJ1_deleteEntry_2 : List UInt8 := [44, 180, 0, 58, 181, 0, 58, 44, 76, 43, 180, 0, 111, 198, 0, 10, 43, 180, 0, 111, 167, 0, 7, 43]
abbrev dktJ1_deleteEntry_2 : List UInt8 := dkwJ1_deleteEntry_2 ++ dktJ1_deleteEntry_3
def dkwJ1_deleteEntry_1 : List UInt8 := [198, 0, 33, 43, 180, 0, 114, 198, 0, 26, 43, 184, 0, 68, 77, 43, 44, 180, 0, 105, 181, 0, 105, 43]
abbrev dktJ1_deleteEntry_1 : List UInt8 := dkwJ1_deleteEntry_1 ++ dktJ1_deleteEntry_2
def dkwJ1_deleteEntry_0 : List UInt8 := [42, 89, 180, 0, 13, 4, 96, 181, 0, 13, 42, 89, 180, 0, 7, 4, 100, 181, 0, 7, 43, 180, 0, 111]
abbrev dktJ1_deleteEntry_0 : List UInt8 := dkwJ1_deleteEntry_0 ++ dktJ1_deleteEntry_1
theorem dksJ1_deleteEntry_0 : cJ1_deleteEntry.data.toList.drop 0 = dktJ1_deleteEntry_0 := by decide +kernel
theorem dksJ1_deleteEntry_1 : cJ1_deleteEntry.data.toList.drop 24 = dktJ1_deleteEntry_1 := dk_seg dksJ1_deleteEntry_0 24 rfl rfl
theorem dksJ1_deleteEntry_2 : cJ1_deleteEntry.data.toList.drop 48 = dktJ1_deleteEntry_2 := dk_seg dksJ1_deleteEntry_1 24 rfl rfl
theorem dksJ1_deleteEntry_3 : cJ1_deleteEntry.data.toList.drop 72 = dktJ1_deleteEntry_3 := dk_seg dksJ1_deleteEntry_2 24 rfl rfl
theorem dksJ1_deleteEntry_4 : cJ1_deleteEntry.data.toList.drop 96 = dktJ1_deleteEntry_4 := dk_seg dksJ1_deleteEntry_3 24 rfl rfl
theorem dksJ1_deleteEntry_5 : cJ1_deleteEntry.data.toList.drop 119 = dktJ1_deleteEntry_5 := dk_seg dksJ1_deleteEntry_4 23 rfl rfl
theorem dksJ1_deleteEntry_6 : cJ1_deleteEntry.data.toList.drop 142 = dktJ1_deleteEntry_6 := dk_seg dksJ1_deleteEntry_5 23 rfl rfl
theorem dksJ1_deleteEntry_7 : cJ1_deleteEntry.data.toList.drop 165 = dktJ1_deleteEntry_7 := dk_seg dksJ1_deleteEntry_6 23 rfl rfl
theorem dksJ1_deleteEntry_8 : cJ1_deleteEntry.data.toList.drop 189 = dktJ1_deleteEntry_8 := dk_seg dksJ1_deleteEntry_7 24 rfl rfl
theorem dksJ1_deleteEntry_9 : cJ1_deleteEntry.data.toList.drop 211 = dktJ1_deleteEntry_9 := dk_seg dksJ1_deleteEntry_8 22 rfl rfl
theorem dksJ1_deleteEntry_10 : cJ1_deleteEntry.data.toList.drop 233 = dktJ1_deleteEntry_10 := dk_seg dksJ1_deleteEntry_9 22 rfl rfl
theorem dJ1_deleteEntry_0 : decode cJ1_deleteEntry 0 = .ok (.aload_n 0, 1) := dk_42 (dk_at dksJ1_deleteEntry_0 0 rfl rfl)
theorem dJ1_deleteEntry_1 : decode cJ1_deleteEntry 1 = .ok (.dup, 1) := dk_89 (dk_at dksJ1_deleteEntry_0 1 rfl rfl)
theorem dJ1_deleteEntry_2 : decode cJ1_deleteEntry 2 = .ok (.getfield 13, 3) := dk_180 0 13 (dk_at dksJ1_deleteEntry_0 2 rfl rfl)
theorem dJ1_deleteEntry_5 : decode cJ1_deleteEntry 5 = .ok (.iconst 1, 1) := dk_4 (dk_at dksJ1_deleteEntry_0 5 rfl rfl)
theorem dJ1_deleteEntry_6 : decode cJ1_deleteEntry 6 = .ok (.iadd, 1) := dk_96 (dk_at dksJ1_deleteEntry_0 6 rfl rfl)
theorem dJ1_deleteEntry_7 : decode cJ1_deleteEntry 7 = .ok (.putfield 13, 3) := dk_181 0 13 (dk_at dksJ1_deleteEntry_0 7 rfl rfl)
theorem dJ1_deleteEntry_10 : decode cJ1_deleteEntry 10 = .ok (.aload_n 0, 1) := dk_42 (dk_at dksJ1_deleteEntry_0 10 rfl rfl)
theorem dJ1_deleteEntry_11 : decode cJ1_deleteEntry 11 = .ok (.dup, 1) := dk_89 (dk_at dksJ1_deleteEntry_0 11 rfl rfl)
theorem dJ1_deleteEntry_12 : decode cJ1_deleteEntry 12 = .ok (.getfield 7, 3) := dk_180 0 7 (dk_at dksJ1_deleteEntry_0 12 rfl rfl)
theorem dJ1_deleteEntry_15 : decode cJ1_deleteEntry 15 = .ok (.iconst 1, 1) := dk_4 (dk_at dksJ1_deleteEntry_0 15 rfl rfl)
theorem dJ1_deleteEntry_16 : decode cJ1_deleteEntry 16 = .ok (.isub, 1) := dk_100 (dk_at dksJ1_deleteEntry_0 16 rfl rfl)
theorem dJ1_deleteEntry_17 : decode cJ1_deleteEntry 17 = .ok (.putfield 7, 3) := dk_181 0 7 (dk_at dksJ1_deleteEntry_0 17 rfl rfl)
theorem dJ1_deleteEntry_20 : decode cJ1_deleteEntry 20 = .ok (.aload_n 1, 1) := dk_43 (dk_at dksJ1_deleteEntry_0 20 rfl rfl)
theorem dJ1_deleteEntry_21 : decode cJ1_deleteEntry 21 = .ok (.getfield 111, 3) := dk_180 0 111 (dk_at dksJ1_deleteEntry_0 21 rfl rfl)
theorem dJ1_deleteEntry_24 : decode cJ1_deleteEntry 24 = .ok (.ifnull 33, 3) := dk_198 0 33 (dk_at dksJ1_deleteEntry_1 0 rfl rfl)
theorem dJ1_deleteEntry_27 : decode cJ1_deleteEntry 27 = .ok (.aload_n 1, 1) := dk_43 (dk_at dksJ1_deleteEntry_1 3 rfl rfl)
theorem dJ1_deleteEntry_28 : decode cJ1_deleteEntry 28 = .ok (.getfield 114, 3) := dk_180 0 114 (dk_at dksJ1_deleteEntry_1 4 rfl rfl)
theorem dJ1_deleteEntry_31 : decode cJ1_deleteEntry 31 = .ok (.ifnull 26, 3) := dk_198 0 26 (dk_at dksJ1_deleteEntry_1 7 rfl rfl)
theorem dJ1_deleteEntry_34 : decode cJ1_deleteEntry 34 = .ok (.aload_n 1, 1) := dk_43 (dk_at dksJ1_deleteEntry_1 10 rfl rfl)
theorem dJ1_deleteEntry_35 : decode cJ1_deleteEntry 35 = .ok (.invokestatic 68, 3) := dk_184 0 68 (dk_at dksJ1_deleteEntry_1 11 rfl rfl)
theorem dJ1_deleteEntry_38 : decode cJ1_deleteEntry 38 = .ok (.astore_n 2, 1) := dk_77 (dk_at dksJ1_deleteEntry_1 14 rfl rfl)
theorem dJ1_deleteEntry_39 : decode cJ1_deleteEntry 39 = .ok (.aload_n 1, 1) := dk_43 (dk_at dksJ1_deleteEntry_1 15 rfl rfl)
theorem dJ1_deleteEntry_40 : decode cJ1_deleteEntry 40 = .ok (.aload_n 2, 1) := dk_44 (dk_at dksJ1_deleteEntry_1 16 rfl rfl)
theorem dJ1_deleteEntry_41 : decode cJ1_deleteEntry 41 = .ok (.getfield 105, 3) := dk_180 0 105 (dk_at dksJ1_deleteEntry_1 17 rfl rfl)
theorem dJ1_deleteEntry_44 : decode cJ1_deleteEntry 44 = .ok (.putfield 105, 3) := dk_181 0 105 (dk_at dksJ1_deleteEntry_1 20 rfl rfl)
theorem dJ1_deleteEntry_47 : decode cJ1_deleteEntry 47 = .ok (.aload_n 1, 1) := dk_43 (dk_at dksJ1_deleteEntry_1 23 rfl rfl)
theorem dJ1_deleteEntry_48 : decode cJ1_deleteEntry 48 = .ok (.aload_n 2, 1) := dk_44 (dk_at dksJ1_deleteEntry_2 0 rfl rfl)
theorem dJ1_deleteEntry_49 : decode cJ1_deleteEntry 49 = .ok (.getfield 58, 3) := dk_180 0 58 (dk_at dksJ1_deleteEntry_2 1 rfl rfl)
theorem dJ1_deleteEntry_52 : decode cJ1_deleteEntry 52 = .ok (.putfield 58, 3) := dk_181 0 58 (dk_at dksJ1_deleteEntry_2 4 rfl rfl)
theorem dJ1_deleteEntry_55 : decode cJ1_deleteEntry 55 = .ok (.aload_n 2, 1) := dk_44 (dk_at dksJ1_deleteEntry_2 7 rfl rfl)
theorem dJ1_deleteEntry_56 : decode cJ1_deleteEntry 56 = .ok (.astore_n 1, 1) := dk_76 (dk_at dksJ1_deleteEntry_2 8 rfl rfl)
theorem dJ1_deleteEntry_57 : decode cJ1_deleteEntry 57 = .ok (.aload_n 1, 1) := dk_43 (dk_at dksJ1_deleteEntry_2 9 rfl rfl)
theorem dJ1_deleteEntry_58 : decode cJ1_deleteEntry 58 = .ok (.getfield 111, 3) := dk_180 0 111 (dk_at dksJ1_deleteEntry_2 10 rfl rfl)
theorem dJ1_deleteEntry_61 : decode cJ1_deleteEntry 61 = .ok (.ifnull 10, 3) := dk_198 0 10 (dk_at dksJ1_deleteEntry_2 13 rfl rfl)
theorem dJ1_deleteEntry_64 : decode cJ1_deleteEntry 64 = .ok (.aload_n 1, 1) := dk_43 (dk_at dksJ1_deleteEntry_2 16 rfl rfl)
theorem dJ1_deleteEntry_65 : decode cJ1_deleteEntry 65 = .ok (.getfield 111, 3) := dk_180 0 111 (dk_at dksJ1_deleteEntry_2 17 rfl rfl)
theorem dJ1_deleteEntry_68 : decode cJ1_deleteEntry 68 = .ok (.goto 7, 3) := dk_167 0 7 (dk_at dksJ1_deleteEntry_2 20 rfl rfl)
theorem dJ1_deleteEntry_71 : decode cJ1_deleteEntry 71 = .ok (.aload_n 1, 1) := dk_43 (dk_at dksJ1_deleteEntry_2 23 rfl rfl)
theorem dJ1_deleteEntry_72 : decode cJ1_deleteEntry 72 = .ok (.getfield 114, 3) := dk_180 0 114 (dk_at dksJ1_deleteEntry_3 0 rfl rfl)
theorem dJ1_deleteEntry_75 : decode cJ1_deleteEntry 75 = .ok (.astore_n 2, 1) := dk_77 (dk_at dksJ1_deleteEntry_3 3 rfl rfl)
theorem dJ1_deleteEntry_76 : decode cJ1_deleteEntry 76 = .ok (.aload_n 2, 1) := dk_44 (dk_at dksJ1_deleteEntry_3 4 rfl rfl)
theorem dJ1_deleteEntry_77 : decode cJ1_deleteEntry 77 = .ok (.ifnull 87, 3) := dk_198 0 87 (dk_at dksJ1_deleteEntry_3 5 rfl rfl)
theorem dJ1_deleteEntry_80 : decode cJ1_deleteEntry 80 = .ok (.aload_n 2, 1) := dk_44 (dk_at dksJ1_deleteEntry_3 8 rfl rfl)
theorem dJ1_deleteEntry_81 : decode cJ1_deleteEntry 81 = .ok (.aload_n 1, 1) := dk_43 (dk_at dksJ1_deleteEntry_3 9 rfl rfl)
theorem dJ1_deleteEntry_82 : decode cJ1_deleteEntry 82 = .ok (.getfield 124, 3) := dk_180 0 124 (dk_at dksJ1_deleteEntry_3 10 rfl rfl)
theorem dJ1_deleteEntry_85 : decode cJ1_deleteEntry 85 = .ok (.putfield 124, 3) := dk_181 0 124 (dk_at dksJ1_deleteEntry_3 13 rfl rfl)
theorem dJ1_deleteEntry_88 : decode cJ1_deleteEntry 88 = .ok (.aload_n 1, 1) := dk_43 (dk_at dksJ1_deleteEntry_3 16 rfl rfl)
theorem dJ1_deleteEntry_89 : decode cJ1_deleteEntry 89 = .ok (.getfield 124, 3) := dk_180 0 124 (dk_at dksJ1_deleteEntry_3 17 rfl rfl)
theorem dJ1_deleteEntry_92 : decode cJ1_deleteEntry 92 = .ok (.ifnonnull 11, 3) := dk_199 0 11 (dk_at dksJ1_deleteEntry_3 20 rfl rfl)
theorem dJ1_deleteEntry_95 : decode cJ1_deleteEntry 95 = .ok (.aload_n 0, 1) := dk_42 (dk_at dksJ1_deleteEntry_3 23 rfl rfl)
theorem dJ1_deleteEntry_96 : decode cJ1_deleteEntry 96 = .ok (.aload_n 2, 1) := dk_44 (dk_at dksJ1_deleteEntry_4 0 rfl rfl)
theorem dJ1_deleteEntry_97 : decode cJ1_deleteEntry 97 = .ok (.putfield 101, 3) := dk_181 0 101 (dk_at dksJ1_deleteEntry_4 1 rfl rfl)
theorem dJ1_deleteEntry_100 : decode cJ1_deleteEntry 100 = .ok (.goto 33, 3) := dk_167 0 33 (dk_at dksJ1_deleteEntry_4 4 rfl rfl)
theorem dJ1_deleteEntry_103 : decode cJ1_deleteEntry 103 = .ok (.aload_n 1, 1) := dk_43 (dk_at dksJ1_deleteEntry_4 7 rfl rfl)
theorem dJ1_deleteEntry_104 : decode cJ1_deleteEntry 104 = .ok (.aload_n 1, 1) := dk_43 (dk_at dksJ1_deleteEntry_4 8 rfl rfl)
theorem dJ1_deleteEntry_105 : decode cJ1_deleteEntry 105 = .ok (.getfield 124, 3) := dk_180 0 124 (dk_at dksJ1_deleteEntry_4 9 rfl rfl)
theorem dJ1_deleteEntry_108 : decode cJ1_deleteEntry 108 = .ok (.getfield 111, 3) := dk_180 0 111 (dk_at dksJ1_deleteEntry_4 12 rfl rfl)
theorem dJ1_deleteEntry_111 : decode cJ1_deleteEntry 111 = .ok (.if_acmp .ne 14, 3) := dk_166 0 14 (dk_at dksJ1_deleteEntry_4 15 rfl rfl)
theorem dJ1_deleteEntry_114 : decode cJ1_deleteEntry 114 = .ok (.aload_n 1, 1) := dk_43 (dk_at dksJ1_deleteEntry_4 18 rfl rfl)
theorem dJ1_deleteEntry_115 : decode cJ1_deleteEntry 115 = .ok (.getfield 124, 3) := dk_180 0 124 (dk_at dksJ1_deleteEntry_4 19 rfl rfl)
theorem dJ1_deleteEntry_118 : decode cJ1_deleteEntry 118 = .ok (.aload_n 2, 1) := dk_44 (dk_at dksJ1_deleteEntry_4 22 rfl rfl)
theorem dJ1_deleteEntry_119 : decode cJ1_deleteEntry 119 = .ok (.putfield 111, 3) := dk_181 0 111 (dk_at dksJ1_deleteEntry_5 0 rfl rfl)
theorem dJ1_deleteEntry_122 : decode cJ1_deleteEntry 122 = .ok (.goto 11, 3) := dk_167 0 11 (dk_at dksJ1_deleteEntry_5 3 rfl rfl)
theorem dJ1_deleteEntry_125 : decode cJ1_deleteEntry 125 = .ok (.aload_n 1, 1) := dk_43 (dk_at dksJ1_deleteEntry_5 6 rfl rfl)
theorem dJ1_deleteEntry_126 : decode cJ1_deleteEntry 126 = .ok (.getfield 124, 3) := dk_180 0 124 (dk_at dksJ1_deleteEntry_5 7 rfl rfl)
theorem dJ1_deleteEntry_129 : decode cJ1_deleteEntry 129 = .ok (.aload_n 2, 1) := dk_44 (dk_at dksJ1_deleteEntry_5 10 rfl rfl)
theorem dJ1_deleteEntry_130 : decode cJ1_deleteEntry 130 = .ok (.putfield 114, 3) := dk_181 0 114 (dk_at dksJ1_deleteEntry_5 11 rfl rfl)
theorem dJ1_deleteEntry_133 : decode cJ1_deleteEntry 133 = .ok (.aload_n 1, 1) := dk_43 (dk_at dksJ1_deleteEntry_5 14 rfl rfl)
theorem dJ1_deleteEntry_134 : decode cJ1_deleteEntry 134 = .ok (.aload_n 1, 1) := dk_43 (dk_at dksJ1_deleteEntry_5 15 rfl rfl)
theorem dJ1_deleteEntry_135 : decode cJ1_deleteEntry 135 = .ok (.aload_n 1, 1) := dk_43 (dk_at dksJ1_deleteEntry_5 16 rfl rfl)
theorem dJ1_deleteEntry_136 : decode cJ1_deleteEntry 136 = .ok (.aconst_null, 1) := dk_1 (dk_at dksJ1_deleteEntry_5 17 rfl rfl)
theorem dJ1_deleteEntry_137 : decode cJ1_deleteEntry 137 = .ok (.dup_x1, 1) := dk_90 (dk_at dksJ1_deleteEntry_5 18 rfl rfl)
theorem dJ1_deleteEntry_138 : decode cJ1_deleteEntry 138 = .ok (.putfield 124, 3) := dk_181 0 124 (dk_at dksJ1_deleteEntry_5 19 rfl rfl)
theorem dJ1_deleteEntry_141 : decode cJ1_deleteEntry 141 = .ok (.dup_x1, 1) := dk_90 (dk_at dksJ1_deleteEntry_5 22 rfl rfl)
theorem dJ1_deleteEntry_142 : decode cJ1_deleteEntry 142 = .ok (.putfield 114, 3) := dk_181 0 114 (dk_at dksJ1_deleteEntry_6 0 rfl rfl)
theorem dJ1_deleteEntry_145 : decode cJ1_deleteEntry 145 = .ok (.putfield 111, 3) := dk_181 0 111 (dk_at dksJ1_deleteEntry_6 3 rfl rfl)
theorem dJ1_deleteEntry_148 : decode cJ1_deleteEntry 148 = .ok (.aload_n 1, 1) := dk_43 (dk_at dksJ1_deleteEntry_6 6 rfl rfl)
theorem dJ1_deleteEntry_149 : decode cJ1_deleteEntry 149 = .ok (.getfield 290, 3) := dk_180 1 34 (dk_at dksJ1_deleteEntry_6 7 rfl rfl)
theorem dJ1_deleteEntry_152 : decode cJ1_deleteEntry 152 = .ok (.iconst 1, 1) := dk_4 (dk_at dksJ1_deleteEntry_6 10 rfl rfl)
theorem dJ1_deleteEntry_153 : decode cJ1_deleteEntry 153 = .ok (.if_icmp .ne 92, 3) := dk_160 0 92 (dk_at dksJ1_deleteEntry_6 11 rfl rfl)
theorem dJ1_deleteEntry_156 : decode cJ1_deleteEntry 156 = .ok (.aload_n 0, 1) := dk_42 (dk_at dksJ1_deleteEntry_6 14 rfl rfl)
theorem dJ1_deleteEntry_157 : decode cJ1_deleteEntry 157 = .ok (.aload_n 2, 1) := dk_44 (dk_at dksJ1_deleteEntry_6 15 rfl rfl)
theorem dJ1_deleteEntry_158 : decode cJ1_deleteEntry 158 = .ok (.invokevirtual 317, 3) := dk_182 1 61 (dk_at dksJ1_deleteEntry_6 16 rfl rfl)
theorem dJ1_deleteEntry_161 : decode cJ1_deleteEntry 161 = .ok (.goto 84, 3) := dk_167 0 84 (dk_at dksJ1_deleteEntry_6 19 rfl rfl)
theorem dJ1_deleteEntry_164 : decode cJ1_deleteEntry 164 = .ok (.aload_n 1, 1) := dk_43 (dk_at dksJ1_deleteEntry_6 22 rfl rfl)
theorem dJ1_deleteEntry_165 : decode cJ1_deleteEntry 165 = .ok (.getfield 124, 3) := dk_180 0 124 (dk_at dksJ1_deleteEntry_7 0 rfl rfl)
theorem dJ1_deleteEntry_168 : decode cJ1_deleteEntry 168 = .ok (.ifnonnull 11, 3) := dk_199 0 11 (dk_at dksJ1_deleteEntry_7 3 rfl rfl)
theorem dJ1_deleteEntry_171 : decode cJ1_deleteEntry 171 = .ok (.aload_n 0, 1) := dk_42 (dk_at dksJ1_deleteEntry_7 6 rfl rfl)
theorem dJ1_deleteEntry_172 : decode cJ1_deleteEntry 172 = .ok (.aconst_null, 1) := dk_1 (dk_at dksJ1_deleteEntry_7 7 rfl rfl)
theorem dJ1_deleteEntry_173 : decode cJ1_deleteEntry 173 = .ok (.putfield 101, 3) := dk_181 0 101 (dk_at dksJ1_deleteEntry_7 8 rfl rfl)
theorem dJ1_deleteEntry_176 : decode cJ1_deleteEntry 176 = .ok (.goto 69, 3) := dk_167 0 69 (dk_at dksJ1_deleteEntry_7 11 rfl rfl)
theorem dJ1_deleteEntry_179 : decode cJ1_deleteEntry 179 = .ok (.aload_n 1, 1) := dk_43 (dk_at dksJ1_deleteEntry_7 14 rfl rfl)
theorem dJ1_deleteEntry_180 : decode cJ1_deleteEntry 180 = .ok (.getfield 290, 3) := dk_180 1 34 (dk_at dksJ1_deleteEntry_7 15 rfl rfl)
theorem dJ1_deleteEntry_183 : decode cJ1_deleteEntry 183 = .ok (.iconst 1, 1) := dk_4 (dk_at dksJ1_deleteEntry_7 18 rfl rfl)
theorem dJ1_deleteEntry_184 : decode cJ1_deleteEntry 184 = .ok (.if_icmp .ne 8, 3) := dk_160 0 8 (dk_at dksJ1_deleteEntry_7 19 rfl rfl)
theorem dJ1_deleteEntry_187 : decode cJ1_deleteEntry 187 = .ok (.aload_n 0, 1) := dk_42 (dk_at dksJ1_deleteEntry_7 22 rfl rfl)
theorem dJ1_deleteEntry_188 : decode cJ1_deleteEntry 188 = .ok (.aload_n 1, 1) := dk_43 (dk_at dksJ1_deleteEntry_7 23 rfl rfl)
theorem dJ1_deleteEntry_189 : decode cJ1_deleteEntry 189 = .ok (.invokevirtual 317, 3) := dk_182 1 61 (dk_at dksJ1_deleteEntry_8 0 rfl rfl)
theorem dJ1_deleteEntry_192 : decode cJ1_deleteEntry 192 = .ok (.aload_n 1, 1) := dk_43 (dk_at dksJ1_deleteEntry_8 3 rfl rfl)
theorem dJ1_deleteEntry_193 : decode cJ1_deleteEntry 193 = .ok (.getfield 124, 3) := dk_180 0 124 (dk_at dksJ1_deleteEntry_8 4 rfl rfl)
theorem dJ1_deleteEntry_196 : decode cJ1_deleteEntry 196 = .ok (.ifnull 49, 3) := dk_198 0 49 (dk_at dksJ1_deleteEntry_8 7 rfl rfl)
theorem dJ1_deleteEntry_199 : decode cJ1_deleteEntry 199 = .ok (.aload_n 1, 1) := dk_43 (dk_at dksJ1_deleteEntry_8 10 rfl rfl)
theorem dJ1_deleteEntry_200 : decode cJ1_deleteEntry 200 = .ok (.aload_n 1, 1) := dk_43 (dk_at dksJ1_deleteEntry_8 11 rfl rfl)
theorem dJ1_deleteEntry_201 : decode cJ1_deleteEntry 201 = .ok (.getfield 124, 3) := dk_180 0 124 (dk_at dksJ1_deleteEntry_8 12 rfl rfl)
theorem dJ1_deleteEntry_204 : decode cJ1_deleteEntry 204 = .ok (.getfield 111, 3) := dk_180 0 111 (dk_at dksJ1_deleteEntry_8 15 rfl rfl)
theorem dJ1_deleteEntry_207 : decode cJ1_deleteEntry 207 = .ok (.if_acmp .ne 14, 3) := dk_166 0 14 (dk_at dksJ1_deleteEntry_8 18 rfl rfl)
theorem dJ1_deleteEntry_210 : decode cJ1_deleteEntry 210 = .ok (.aload_n 1, 1) := dk_43 (dk_at dksJ1_deleteEntry_8 21 rfl rfl)
theorem dJ1_deleteEntry_211 : decode cJ1_deleteEntry 211 = .ok (.getfield 124, 3) := dk_180 0 124 (dk_at dksJ1_deleteEntry_9 0 rfl rfl)
theorem dJ1_deleteEntry_214 : decode cJ1_deleteEntry 214 = .ok (.aconst_null, 1) := dk_1 (dk_at dksJ1_deleteEntry_9 3 rfl rfl)
theorem dJ1_deleteEntry_215 : decode cJ1_deleteEntry 215 = .ok (.putfield 111, 3) := dk_181 0 111 (dk_at dksJ1_deleteEntry_9 4 rfl rfl)
theorem dJ1_deleteEntry_218 : decode cJ1_deleteEntry 218 = .ok (.goto 22, 3) := dk_167 0 22 (dk_at dksJ1_deleteEntry_9 7 rfl rfl)
theorem dJ1_deleteEntry_221 : decode cJ1_deleteEntry 221 = .ok (.aload_n 1, 1) := dk_43 (dk_at dksJ1_deleteEntry_9 10 rfl rfl)
theorem dJ1_deleteEntry_222 : decode cJ1_deleteEntry 222 = .ok (.aload_n 1, 1) := dk_43 (dk_at dksJ1_deleteEntry_9 11 rfl rfl)
theorem dJ1_deleteEntry_223 : decode cJ1_deleteEntry 223 = .ok (.getfield 124, 3) := dk_180 0 124 (dk_at dksJ1_deleteEntry_9 12 rfl rfl)
theorem dJ1_deleteEntry_226 : decode cJ1_deleteEntry 226 = .ok (.getfield 114, 3) := dk_180 0 114 (dk_at dksJ1_deleteEntry_9 15 rfl rfl)
theorem dJ1_deleteEntry_229 : decode cJ1_deleteEntry 229 = .ok (.if_acmp .ne 11, 3) := dk_166 0 11 (dk_at dksJ1_deleteEntry_9 18 rfl rfl)
theorem dJ1_deleteEntry_232 : decode cJ1_deleteEntry 232 = .ok (.aload_n 1, 1) := dk_43 (dk_at dksJ1_deleteEntry_9 21 rfl rfl)
theorem dJ1_deleteEntry_233 : decode cJ1_deleteEntry 233 = .ok (.getfield 124, 3) := dk_180 0 124 (dk_at dksJ1_deleteEntry_10 0 rfl rfl)
theorem dJ1_deleteEntry_236 : decode cJ1_deleteEntry 236 = .ok (.aconst_null, 1) := dk_1 (dk_at dksJ1_deleteEntry_10 3 rfl rfl)
theorem dJ1_deleteEntry_237 : decode cJ1_deleteEntry 237 = .ok (.putfield 114, 3) := dk_181 0 114 (dk_at dksJ1_deleteEntry_10 4 rfl rfl)
theorem dJ1_deleteEntry_240 : decode cJ1_deleteEntry 240 = .ok (.aload_n 1, 1) := dk_43 (dk_at dksJ1_deleteEntry_10 7 rfl rfl)
theorem dJ1_deleteEntry_241 : decode cJ1_deleteEntry 241 = .ok (.aconst_null, 1) := dk_1 (dk_at dksJ1_deleteEntry_10 8 rfl rfl)
theorem dJ1_deleteEntry_242 : decode cJ1_deleteEntry 242 = .ok (.putfield 124, 3) := dk_181 0 124 (dk_at dksJ1_deleteEntry_10 9 rfl rfl)
theorem dJ1_deleteEntry_245 : decode cJ1_deleteEntry 245 = .ok (.return_, 1) := dk_177 (dk_at dksJ1_deleteEntry_10 12 rfl rfl)
set_option maxHeartbeats 4000000 in
theorem m_delEntry (l : Launch) (hl : l.stackTraces = false) (g : GE) (A : Nat → Prop) (E : List Nat) (tm : Nat) (ka va : Nat → Nat) (lf rt pa : Nat → Option Nat) (co : Nat → Bool) (vl root : Option Nat) (n : Nat) (md : Int32) (h0 : AHT) (ix lo hi : Nat → Nat) (hI : Inv E ix lo hi lf rt pa root) (hnd : E.Nodup) (ht : tm ∉ E) (hb : ∀ r, root = some r → co r = true) (hn : n = E.length) (x : Nat) (hx : x ∈ E) : U_ l g A yJ1_deleteEntry 3 0 0 [.ref tm, .ref x] (tmO E tm ka va lf rt pa co vl root n md h0) (fun v h' => v = none ∧ ∃ (y : Nat) (ce : va_E) (ix' lo' hi' : Nat → Nat) (lf' rt' pa' : Nat → Option Nat) (co' : Nat → Bool) (root' : Option Nat), y ∈ E ∧ (y = x ∨ ix y = ix x + 1) ∧ Inv (E.eraseIdx (ix y)) ix' lo' hi' lf' rt' pa' root' ∧ (∀ r, root' = some r → co' r = true) ∧ tmO (E.eraseIdx (ix y)) tm (va_up ka x (ka y)) (va_up va x (va y)) lf' rt' pa' co' vl root' (n - 1) (md + 1) (up h0 y ce) = h') noX := by
  refine U_.of (own := RJ1) (cc := cJ1_deleteEntry) (L := 3) (ret := (none)) hl rfl (plainFor_of_name (by decide)) ⟨by decide, by decide⟩ q1641 q85 (by decide) (fun e => absurd e (by decide)) (Nat.le_of_ble_eq_true rfl) (fun κ cx => ?_)
  show V g A κ _ _ 0 0 (tmO E tm ka va lf rt pa co vl root n md h0) 0 [(0, .ref tm), (1, .ref x)] []
  have hn1 : 1 ≤ n := by have := hI.2.1 x hx; omega
  refine V.aload_n cx dJ1_deleteEntry_0 rfl 0 rfl ?_
  refine V.dup cx dJ1_deleteEntry_1 rfl ?_
  refine V.get cx kJ1 (tm_t ht) 5 (by decide) q160 rfl rfl dJ1_deleteEntry_2 ?_
  show V g A κ _ _ 0 0 (tmO E tm ka va lf rt pa co vl root n md h0) 5 [(0, .ref tm), (1, .ref x)] [.int md, .ref tm]
  refine V.iconst (v := (nI 1)) cx dJ1_deleteEntry_5 (by decide) ?_
  refine V.iadd cx dJ1_deleteEntry_6 ?_
  refine V.put (ty := tyJ1 5) cx kJ1 (tm_t ht) 5 (by decide) rfl (tyJ1_ok 5 (by decide)) rfl rfl (Nat.le_of_ble_eq_true rfl) q160 rfl dJ1_deleteEntry_7 ?_
  refine V.hto (tm_tm (vl' := vl) (root' := root) (n' := n) (md' := (md + (nI 1))) ht) ?_
  show V g A κ _ _ 0 0 (tmO E tm ka va lf rt pa co vl root n (md + (nI 1)) h0) 10 [(0, .ref tm), (1, .ref x)] []
  refine V.aload_n cx dJ1_deleteEntry_10 rfl 0 rfl ?_
  refine V.dup cx dJ1_deleteEntry_11 rfl ?_
  refine V.get cx kJ1 (tm_t ht) 4 (by decide) q159 rfl rfl dJ1_deleteEntry_12 ?_
  show V g A κ _ _ 0 0 (tmO E tm ka va lf rt pa co vl root n (md + (nI 1)) h0) 15 [(0, .ref tm), (1, .ref x)] [.int (nI n), .ref tm]
  refine V.iconst (v := (nI 1)) cx dJ1_deleteEntry_15 (by decide) ?_
  refine V.isub cx dJ1_deleteEntry_16 ?_
  refine V.toi (pk_sub (a := n) (b := 1) hn1) ?_
  refine V.put (ty := tyJ1 4) cx kJ1 (tm_t ht) 4 (by decide) rfl (tyJ1_ok 4 (by decide)) rfl rfl (Nat.le_of_ble_eq_true rfl) q159 rfl dJ1_deleteEntry_17 ?_
  refine V.hto (tm_tm (vl' := vl) (root' := root) (n' := n - 1) (md' := (md + (nI 1))) ht) ?_
  show V g A κ _ _ 0 0 (tmO E tm ka va lf rt pa co vl root (n - 1) (md + (nI 1)) h0) 20 [(0, .ref tm), (1, .ref x)] []
  refine V.join (α := (Nat) × (Nat → Nat) × (Nat → Nat)) (pc := 57) (fun z9_ => (z9_.1) ∈ E ∧ (lf (z9_.1) = none ∨ rt (z9_.1) = none) ∧ ((z9_.1) = x ∨ ix (z9_.1) = ix x + 1) ∧ (z9_.2.1) = va_up ka x (ka (z9_.1)) ∧ (z9_.2.2) = va_up va x (va (z9_.1))) (fun z9_ => 0) (fun z9_ => 0) (fun z9_ => (tmO E tm (z9_.2.1) (z9_.2.2) lf rt pa co vl root (n - 1) (md + 1) h0)) (fun z9_ => [(0, .ref tm), (1, .ref (z9_.1))]) (fun z9_ => []) (fun z9_ hP_ => ?_) (fun J_ => ?_)
  · obtain ⟨y, ka_, va_⟩ := z9_
    dsimp only at hP_
    obtain ⟨hyE, hyl, hyx, rfl, rfl⟩ := hP_
    show V g A κ _ _ 0 0 (tmO E tm (va_up ka x (ka y)) (va_up va x (va y)) lf rt pa co vl root (n - 1) (md + 1) h0) 57 [(0, .ref tm), (1, .ref y)] []
    rcases opt_c (lf y) with hly | ⟨c, hly⟩
    · rcases opt_c (rt y) with hry | ⟨c, hry⟩
      · refine V.aload_n cx dJ1_deleteEntry_57 rfl 1 rfl ?_
        refine V.get cx kJ25 (tm_e hyE) 2 (by decide) q1027 rfl rfl dJ1_deleteEntry_58 ?_
        refine V.toq (o' := none) (by rw [hly]) ?_
        show V g A κ _ _ 0 0 (tmO E tm (va_up ka x (ka y)) (va_up va x (va y)) lf rt pa co vl root (n - 1) (md + 1) h0) 61 [(0, .ref tm), (1, .ref y)] [.null]
        refine V.ifnullN (tgt := 71) cx dJ1_deleteEntry_61 (by decide) ?_
        refine V.aload_n cx dJ1_deleteEntry_71 rfl 1 rfl ?_
        refine V.get cx kJ25 (tm_e hyE) 3 (by decide) q1028 rfl rfl dJ1_deleteEntry_72 ?_
        refine V.toq (o' := none) (by rw [hry]) ?_
        show V g A κ _ _ 0 0 (tmO E tm (va_up ka x (ka y)) (va_up va x (va y)) lf rt pa co vl root (n - 1) (md + 1) h0) 75 [(0, .ref tm), (1, .ref y)] [.null]
        refine V.astore_nN (lv' := [(2, .null), (0, .ref tm), (1, .ref y)]) cx dJ1_deleteEntry_75 rfl (by decide) rfl ?_
        refine V.aload_nN cx dJ1_deleteEntry_76 rfl 0 rfl ?_
        refine V.ifnullN (tgt := 164) cx dJ1_deleteEntry_77 (by decide) ?_
        rcases opt_c (pa y) with hpy | ⟨q, hpy⟩
        · refine V.aload_n cx dJ1_deleteEntry_164 rfl 2 rfl ?_
          refine V.get cx kJ25 (tm_e hyE) 4 (by decide) q1030 rfl rfl dJ1_deleteEntry_165 ?_
          refine V.toq (o' := none) (by rw [hpy]) ?_
          show V g A κ _ _ 0 0 (tmO E tm (va_up ka x (ka y)) (va_up va x (va y)) lf rt pa co vl root (n - 1) (md + 1) h0) 168 [(2, .null), (0, .ref tm), (1, .ref y)] [.null]
          refine V.ifnonnullN cx dJ1_deleteEntry_168 ?_
          refine V.aload_n cx dJ1_deleteEntry_171 rfl 1 rfl ?_
          refine V.null cx dJ1_deleteEntry_172 ?_
          refine V.put (ty := tyJ1 3) cx kJ1 (tm_t ht) 3 (by decide) rfl (tyJ1_ok 3 (by decide)) rfl rfl (Nat.le_of_ble_eq_true rfl) q158 rfl dJ1_deleteEntry_173 ?_
          refine V.hto (tm_tm (vl' := vl) (root' := none) (n' := n - 1) (md' := (md + 1)) ht) ?_
          show V g A κ _ _ 0 0 (tmO E tm (va_up ka x (ka y)) (va_up va x (va y)) lf rt pa co vl none (n - 1) (md + 1) h0) 176 [(2, .null), (0, .ref tm), (1, .ref y)] []
          refine V.goto (tgt := 245) cx dJ1_deleteEntry_176 (by decide) ?_
          obtain ⟨lf2, hlf2⟩ : ∃ z : Nat → Option Nat, lf = z := ⟨_, rfl⟩
          obtain ⟨rt2, hrt2⟩ : ∃ z : Nat → Option Nat, rt = z := ⟨_, rfl⟩
          obtain ⟨pa2, hpa2⟩ : ∃ z : Nat → Option Nat, pa = z := ⟨_, rfl⟩
          refine V.hto (h' := (tmO E tm (va_up ka x (ka y)) (va_up va x (va y)) lf2 rt2 pa2 co vl none (n - 1) (md + 1) h0)) (by rw [hlf2, hrt2, hpa2]) ?_
          show V g A κ _ _ 0 0 (tmO E tm (va_up ka x (ka y)) (va_up va x (va y)) lf2 rt2 pa2 co vl none (n - 1) (md + 1) h0) 245 [(2, .null), (0, .ref tm), (1, .ref y)] []
          have hD := Inv.del hI hnd hyE (c := none) (Or.inl ⟨hly, hry⟩) (lf' := lf2) (rt' := rt2) (pa' := pa2) (root' := none)
            (fun e he hne => by rw [← hlf2]; (try unfold va_up); obtain ⟨i0, i1, i2, i3, i4, i5⟩ := id hI; have k1 := i2 e he; have k2 := i3 e he; have k3 := i4 e he; have k4 := i2 y hyE; have k5 := i3 y hyE; have k6 := i4 y hyE; have k7 := i1 y hyE; have k8 := i1 e he; clear i0 i1 i2 i3 i4 i5; clear hlf2 hrt2 hpa2; grind)
            (fun e he hne => by rw [← hrt2]; (try unfold va_up); obtain ⟨i0, i1, i2, i3, i4, i5⟩ := id hI; have k1 := i2 e he; have k2 := i3 e he; have k3 := i4 e he; have k4 := i2 y hyE; have k5 := i3 y hyE; have k6 := i4 y hyE; have k7 := i1 y hyE; have k8 := i1 e he; clear i0 i1 i2 i3 i4 i5; clear hlf2 hrt2 hpa2; grind)
            (fun e he hne => by rw [← hpa2]; (try unfold va_up); obtain ⟨i0, i1, i2, i3, i4, i5⟩ := id hI; have k1 := i2 e he; have k2 := i3 e he; have k3 := i4 e he; have k4 := i2 y hyE; have k5 := i3 y hyE; have k6 := i4 y hyE; have k7 := i1 y hyE; have k8 := i1 e he; clear i0 i1 i2 i3 i4 i5; clear hlf2 hrt2 hpa2; grind) (by have h9 := (hI.2.2.2.2.1 y hyE).1 hpy; rw [if_pos h9])
          obtain ⟨ce, hce⟩ := tm_del' (ka := (va_up ka x (ka y))) (va := (va_up va x (va y))) (lf := lf2) (rt := rt2) (pa := pa2) (co := co) (vl := vl) (root := none) (n := n - 1) (md := md + 1) (h0 := h0) hI.1 hnd hyE ht
          refine V.hto hce ?_
          exact V.vreturn cx rfl ⟨rfl, y, ce, _, _, _, lf2, rt2, pa2, co, none, hyE, hyx, hD, fun r (h9 : none = some r) => (by cases h9), rfl⟩ (by decide) (by decide) dJ1_deleteEntry_245
        · have k9 := (hI.2.2.2.2.1 y hyE).2 q hpy
          have hqE := k9.1
          have nqy : q ≠ y := fun e => by have h1 := hI.2.1 y hyE; subst e; rcases k9.2 with h2 | h2; exact absurd ((hI.2.2.1 q hqE).2 q h2).2.2.2 (by omega); exact absurd ((hI.2.2.2.1 q hqE).2 q h2).2.2.1 (by omega)
          refine V.aload_n cx dJ1_deleteEntry_164 rfl 2 rfl ?_
          refine V.get cx kJ25 (tm_e hyE) 4 (by decide) q1030 rfl rfl dJ1_deleteEntry_165 ?_
          refine V.toq (o' := (some q)) (by rw [hpy]) ?_
          show V g A κ _ _ 0 0 (tmO E tm (va_up ka x (ka y)) (va_up va x (va y)) lf rt pa co vl root (n - 1) (md + 1) h0) 168 [(2, .null), (0, .ref tm), (1, .ref y)] [.ref q]
          refine V.ifnonnull (tgt := 179) cx dJ1_deleteEntry_168 (by decide) ?_
          refine V.aload_n cx dJ1_deleteEntry_179 rfl 2 rfl ?_
          rcases (Bool.eq_false_or_eq_true (co y)).symm with hcy | hcy
          · refine V.get cx kJ25 (tm_e hyE) 5 (by decide) q1032 rfl rfl dJ1_deleteEntry_180 ?_
            refine V.tob (b := false) (by rw [hcy]) ?_
            show V g A κ _ _ 0 0 (tmO E tm (va_up ka x (ka y)) (va_up va x (va y)) lf rt pa co vl root (n - 1) (md + 1) h0) 183 [(2, .null), (0, .ref tm), (1, .ref y)] [.int (b2 false)]
            refine V.iconst (v := (nI 1)) cx dJ1_deleteEntry_183 (by decide) ?_
            refine V.icmp_ne (tgt := 192) cx dJ1_deleteEntry_184 (by decide) (fun cz => ?_) (fun cz => ?_)
            · rcases opt_c (pa y) with hp9 | ⟨q9, hp9⟩
              · exact absurd hp9 (fun _ => nqy (Inv.inj hI hqE hyE (by have h1 := (hI.2.2.2.2.1 y hyE).1 hp9; have h2 := hI.2.2.2.2.2.2 y h1; have h3 := (hI.2.2.1 y hyE).1 hly; have h4 := (hI.2.2.2.1 y hyE).1 hry; have h5 := hI.2.1 q hqE; omega)))
              · have j9 := (hI.2.2.2.2.1 y hyE).2 q9 hp9
                have hq9E := j9.1
                have nq9 : q9 ≠ y := fun e => by rw [e] at j9; rcases j9.2 with h2 | h2; rw [hly] at h2; cases h2; rw [hry] at h2; cases h2
                refine V.aload_n cx dJ1_deleteEntry_192 rfl 2 rfl ?_
                refine V.get cx kJ25 (tm_e hyE) 4 (by decide) q1030 rfl rfl dJ1_deleteEntry_193 ?_
                refine V.toq (o' := (some q9)) (by rw [hp9]) ?_
                show V g A κ _ _ 0 0 (tmO E tm (va_up ka x (ka y)) (va_up va x (va y)) lf rt pa co vl root (n - 1) (md + 1) h0) 196 [(2, .null), (0, .ref tm), (1, .ref y)] [.ref q9]
                refine V.ifnull cx dJ1_deleteEntry_196 ?_
                refine V.aload_n cx dJ1_deleteEntry_199 rfl 2 rfl ?_
                refine V.aload_n cx dJ1_deleteEntry_200 rfl 2 rfl ?_
                refine V.get cx kJ25 (tm_e hyE) 4 (by decide) q1030 rfl rfl dJ1_deleteEntry_201 ?_
                refine V.toq (o' := (some q9)) (by rw [hp9]) ?_
                show V g A κ _ _ 0 0 (tmO E tm (va_up ka x (ka y)) (va_up va x (va y)) lf rt pa co vl root (n - 1) (md + 1) h0) 204 [(2, .null), (0, .ref tm), (1, .ref y)] [.ref q9, .ref y]
                refine V.get cx kJ25 (tm_e hq9E) 2 (by decide) q1027 rfl rfl dJ1_deleteEntry_204 ?_
                show V g A κ _ _ 0 0 (tmO E tm (va_up ka x (ka y)) (va_up va x (va y)) lf rt pa co vl root (n - 1) (md + 1) h0) 207 [(2, .null), (0, .ref tm), (1, .ref y)] [va_rf (lf q9), .ref y]
                refine V.acmp_ne (rx := (some y)) (ry := (lf q9)) (tgt := 221) cx dJ1_deleteEntry_207 (by decide) (fun cl => ?_) (fun cl => ?_)
                · refine V.aload_n cx dJ1_deleteEntry_221 rfl 2 rfl ?_
                  refine V.aload_n cx dJ1_deleteEntry_222 rfl 2 rfl ?_
                  refine V.get cx kJ25 (tm_e hyE) 4 (by decide) q1030 rfl rfl dJ1_deleteEntry_223 ?_
                  refine V.toq (o' := (some q9)) (by rw [hp9]) ?_
                  show V g A κ _ _ 0 0 (tmO E tm (va_up ka x (ka y)) (va_up va x (va y)) lf rt pa co vl root (n - 1) (md + 1) h0) 226 [(2, .null), (0, .ref tm), (1, .ref y)] [.ref q9, .ref y]
                  refine V.get cx kJ25 (tm_e hq9E) 3 (by decide) q1028 rfl rfl dJ1_deleteEntry_226 ?_
                  show V g A κ _ _ 0 0 (tmO E tm (va_up ka x (ka y)) (va_up va x (va y)) lf rt pa co vl root (n - 1) (md + 1) h0) 229 [(2, .null), (0, .ref tm), (1, .ref y)] [va_rf (rt q9), .ref y]
                  refine V.acmp_ne (rx := (some y)) (ry := (rt q9)) (tgt := 240) cx dJ1_deleteEntry_229 (by decide) (fun cl2 => ?_) (fun cl2 => ?_)
                  · rcases j9.2 with h2 | h2; exact absurd h2.symm cl; exact absurd h2.symm cl2
                  · refine V.aload_n cx dJ1_deleteEntry_232 rfl 2 rfl ?_
                    refine V.get cx kJ25 (tm_e hyE) 4 (by decide) q1030 rfl rfl dJ1_deleteEntry_233 ?_
                    refine V.toq (o' := (some q9)) (by rw [hp9]) ?_
                    show V g A κ _ _ 0 0 (tmO E tm (va_up ka x (ka y)) (va_up va x (va y)) lf rt pa co vl root (n - 1) (md + 1) h0) 236 [(2, .null), (0, .ref tm), (1, .ref y)] [.ref q9]
                    refine V.null cx dJ1_deleteEntry_236 ?_
                    refine V.put (ty := tyJ25 3) cx kJ25 (tm_e hq9E) 3 (by decide) rfl (tyJ25_ok 3 (by decide)) rfl rfl (Nat.le_of_ble_eq_true rfl) q1028 rfl dJ1_deleteEntry_237 ?_
                    refine V.hto (tm_rt (o := none) hq9E) ?_
                    show V g A κ _ _ 0 0 (tmO E tm (va_up ka x (ka y)) (va_up va x (va y)) lf (va_up rt q9 none) pa co vl root (n - 1) (md + 1) h0) 240 [(2, .null), (0, .ref tm), (1, .ref y)] []
                    refine V.aload_n cx dJ1_deleteEntry_240 rfl 2 rfl ?_
                    refine V.null cx dJ1_deleteEntry_241 ?_
                    refine V.put (ty := tyJ25 4) cx kJ25 (tm_e hyE) 4 (by decide) rfl (tyJ25_ok 4 (by decide)) rfl rfl (Nat.le_of_ble_eq_true rfl) q1030 rfl dJ1_deleteEntry_242 ?_
                    refine V.hto (tm_pa (o := none) hyE) ?_
                    show V g A κ _ _ 0 0 (tmO E tm (va_up ka x (ka y)) (va_up va x (va y)) lf (va_up rt q9 none) (va_up pa y none) co vl root (n - 1) (md + 1) h0) 245 [(2, .null), (0, .ref tm), (1, .ref y)] []
                    obtain ⟨lf2, hlf2⟩ : ∃ z : Nat → Option Nat, lf = z := ⟨_, rfl⟩
                    obtain ⟨rt2, hrt2⟩ : ∃ z : Nat → Option Nat, (va_up rt q9 none) = z := ⟨_, rfl⟩
                    obtain ⟨pa2, hpa2⟩ : ∃ z : Nat → Option Nat, (va_up pa y none) = z := ⟨_, rfl⟩
                    refine V.hto (h' := (tmO E tm (va_up ka x (ka y)) (va_up va x (va y)) lf2 rt2 pa2 co vl root (n - 1) (md + 1) h0)) (by rw [hlf2, hrt2, hpa2]) ?_
                    show V g A κ _ _ 0 0 (tmO E tm (va_up ka x (ka y)) (va_up va x (va y)) lf2 rt2 pa2 co vl root (n - 1) (md + 1) h0) 245 [(2, .null), (0, .ref tm), (1, .ref y)] []
                    have hD := Inv.del hI hnd hyE (c := none) (Or.inl ⟨hly, hry⟩) (lf' := lf2) (rt' := rt2) (pa' := pa2) (root' := root)
                      (fun e he hne => by rw [← hlf2]; (try unfold va_up); obtain ⟨i0, i1, i2, i3, i4, i5⟩ := id hI; have k1 := i2 e he; have k2 := i3 e he; have k3 := i4 e he; have k4 := i2 y hyE; have k5 := i3 y hyE; have k6 := i4 y hyE; have k7 := i1 y hyE; have k8 := i1 e he; clear i0 i1 i2 i3 i4 i5; clear hlf2 hrt2 hpa2; grind)
                      (fun e he hne => by rw [← hrt2]; (try unfold va_up); obtain ⟨i0, i1, i2, i3, i4, i5⟩ := id hI; have k1 := i2 e he; have k2 := i3 e he; have k3 := i4 e he; have k4 := i2 y hyE; have k5 := i3 y hyE; have k6 := i4 y hyE; have k7 := i1 y hyE; have k8 := i1 e he; clear i0 i1 i2 i3 i4 i5; clear hlf2 hrt2 hpa2; grind)
                      (fun e he hne => by rw [← hpa2]; (try unfold va_up); obtain ⟨i0, i1, i2, i3, i4, i5⟩ := id hI; have k1 := i2 e he; have k2 := i3 e he; have k3 := i4 e he; have k4 := i2 y hyE; have k5 := i3 y hyE; have k6 := i4 y hyE; have k7 := i1 y hyE; have k8 := i1 e he; clear i0 i1 i2 i3 i4 i5; clear hlf2 hrt2 hpa2; grind) (by rw [if_neg (fun h9 => by have h8 := (hI.2.2.2.2.2.2 y h9).2.1; rw [hp9] at h8; cases h8)])
                    obtain ⟨ce, hce⟩ := tm_del' (ka := (va_up ka x (ka y))) (va := (va_up va x (va y))) (lf := lf2) (rt := rt2) (pa := pa2) (co := co) (vl := vl) (root := root) (n := n - 1) (md := md + 1) (h0 := h0) hI.1 hnd hyE ht
                    refine V.hto hce ?_
                    exact V.vreturn cx rfl ⟨rfl, y, ce, _, _, _, lf2, rt2, pa2, _, _, hyE, hyx, hD, hb, rfl⟩ (by decide) (by decide) dJ1_deleteEntry_245
                · refine V.aload_n cx dJ1_deleteEntry_210 rfl 2 rfl ?_
                  refine V.get cx kJ25 (tm_e hyE) 4 (by decide) q1030 rfl rfl dJ1_deleteEntry_211 ?_
                  refine V.toq (o' := (some q9)) (by rw [hp9]) ?_
                  show V g A κ _ _ 0 0 (tmO E tm (va_up ka x (ka y)) (va_up va x (va y)) lf rt pa co vl root (n - 1) (md + 1) h0) 214 [(2, .null), (0, .ref tm), (1, .ref y)] [.ref q9]
                  refine V.null cx dJ1_deleteEntry_214 ?_
                  refine V.put (ty := tyJ25 2) cx kJ25 (tm_e hq9E) 2 (by decide) rfl (tyJ25_ok 2 (by decide)) rfl rfl (Nat.le_of_ble_eq_true rfl) q1027 rfl dJ1_deleteEntry_215 ?_
                  refine V.hto (tm_lf (o := none) hq9E) ?_
                  show V g A κ _ _ 0 0 (tmO E tm (va_up ka x (ka y)) (va_up va x (va y)) (va_up lf q9 none) rt pa co vl root (n - 1) (md + 1) h0) 218 [(2, .null), (0, .ref tm), (1, .ref y)] []
                  refine V.goto (tgt := 240) cx dJ1_deleteEntry_218 (by decide) ?_
                  refine V.aload_n cx dJ1_deleteEntry_240 rfl 2 rfl ?_
                  refine V.null cx dJ1_deleteEntry_241 ?_
                  refine V.put (ty := tyJ25 4) cx kJ25 (tm_e hyE) 4 (by decide) rfl (tyJ25_ok 4 (by decide)) rfl rfl (Nat.le_of_ble_eq_true rfl) q1030 rfl dJ1_deleteEntry_242 ?_
                  refine V.hto (tm_pa (o := none) hyE) ?_
                  show V g A κ _ _ 0 0 (tmO E tm (va_up ka x (ka y)) (va_up va x (va y)) (va_up lf q9 none) rt (va_up pa y none) co vl root (n - 1) (md + 1) h0) 245 [(2, .null), (0, .ref tm), (1, .ref y)] []
                  obtain ⟨lf2, hlf2⟩ : ∃ z : Nat → Option Nat, (va_up lf q9 none) = z := ⟨_, rfl⟩
                  obtain ⟨rt2, hrt2⟩ : ∃ z : Nat → Option Nat, rt = z := ⟨_, rfl⟩
                  obtain ⟨pa2, hpa2⟩ : ∃ z : Nat → Option Nat, (va_up pa y none) = z := ⟨_, rfl⟩
                  refine V.hto (h' := (tmO E tm (va_up ka x (ka y)) (va_up va x (va y)) lf2 rt2 pa2 co vl root (n - 1) (md + 1) h0)) (by rw [hlf2, hrt2, hpa2]) ?_
                  show V g A κ _ _ 0 0 (tmO E tm (va_up ka x (ka y)) (va_up va x (va y)) lf2 rt2 pa2 co vl root (n - 1) (md + 1) h0) 245 [(2, .null), (0, .ref tm), (1, .ref y)] []
                  have hD := Inv.del hI hnd hyE (c := none) (Or.inl ⟨hly, hry⟩) (lf' := lf2) (rt' := rt2) (pa' := pa2) (root' := root)
                    (fun e he hne => by rw [← hlf2]; (try unfold va_up); obtain ⟨i0, i1, i2, i3, i4, i5⟩ := id hI; have k1 := i2 e he; have k2 := i3 e he; have k3 := i4 e he; have k4 := i2 y hyE; have k5 := i3 y hyE; have k6 := i4 y hyE; have k7 := i1 y hyE; have k8 := i1 e he; clear i0 i1 i2 i3 i4 i5; clear hlf2 hrt2 hpa2; grind)
                    (fun e he hne => by rw [← hrt2]; (try unfold va_up); obtain ⟨i0, i1, i2, i3, i4, i5⟩ := id hI; have k1 := i2 e he; have k2 := i3 e he; have k3 := i4 e he; have k4 := i2 y hyE; have k5 := i3 y hyE; have k6 := i4 y hyE; have k7 := i1 y hyE; have k8 := i1 e he; clear i0 i1 i2 i3 i4 i5; clear hlf2 hrt2 hpa2; grind)
                    (fun e he hne => by rw [← hpa2]; (try unfold va_up); obtain ⟨i0, i1, i2, i3, i4, i5⟩ := id hI; have k1 := i2 e he; have k2 := i3 e he; have k3 := i4 e he; have k4 := i2 y hyE; have k5 := i3 y hyE; have k6 := i4 y hyE; have k7 := i1 y hyE; have k8 := i1 e he; clear i0 i1 i2 i3 i4 i5; clear hlf2 hrt2 hpa2; grind) (by rw [if_neg (fun h9 => by have h8 := (hI.2.2.2.2.2.2 y h9).2.1; rw [hp9] at h8; cases h8)])
                  obtain ⟨ce, hce⟩ := tm_del' (ka := (va_up ka x (ka y))) (va := (va_up va x (va y))) (lf := lf2) (rt := rt2) (pa := pa2) (co := co) (vl := vl) (root := root) (n := n - 1) (md := md + 1) (h0 := h0) hI.1 hnd hyE ht
                  refine V.hto hce ?_
                  exact V.vreturn cx rfl ⟨rfl, y, ce, _, _, _, lf2, rt2, pa2, _, _, hyE, hyx, hD, hb, rfl⟩ (by decide) (by decide) dJ1_deleteEntry_245
            · exact absurd cz (by decide)
          · refine V.get cx kJ25 (tm_e hyE) 5 (by decide) q1032 rfl rfl dJ1_deleteEntry_180 ?_
            refine V.tob (b := true) (by rw [hcy]) ?_
            show V g A κ _ _ 0 0 (tmO E tm (va_up ka x (ka y)) (va_up va x (va y)) lf rt pa co vl root (n - 1) (md + 1) h0) 183 [(2, .null), (0, .ref tm), (1, .ref y)] [.int (b2 true)]
            refine V.iconst (v := (nI 1)) cx dJ1_deleteEntry_183 (by decide) ?_
            refine V.icmp_ne (tgt := 192) cx dJ1_deleteEntry_184 (by decide) (fun cz => ?_) (fun cz => ?_)
            · exact absurd rfl cz
            · refine V.aload_n cx dJ1_deleteEntry_187 rfl 1 rfl ?_
              refine V.aload_n cx dJ1_deleteEntry_188 rfl 2 rfl ?_
              refine V.callV (As := [.ref y]) (rest := []) (C := "java/util/TreeMap") cx (m_fixDel l hl g A E tm (va_up ka x (ka y)) (va_up va x (va y)) lf rt pa co vl root (n - 1) (md + 1) h0 ix lo hi hI ht y (fun r hr => Or.inl (hb r hr)) hyE (some y) (fun p0 h9 => by cases h9; have := hI.2.1 y hyE; exact ⟨hly, hry, by omega, by omega⟩) (fun p0 h9 => by cases h9; exact hyE)) rfl q1643 q1645 qs17 (Rv.of kJ1 (tm_t ht)) (na := 1) rfl (by decide +kernel) (Nat.le_of_ble_eq_true rfl) (by decide) (by decide) (by decide) rfl dJ1_deleteEntry_189 (fun _ _ _ hx => hx.elim) (fun v15 h16 hp => ?_)
              obtain ⟨rfl, lo', hi', lf', rt', pa', co', root', hI', hb', hz', rfl⟩ := hp
              show V g A κ _ _ 0 0 (tmO E tm (va_up ka x (ka y)) (va_up va x (va y)) lf' rt' pa' co' vl root' (n - 1) (md + 1) h0) 192 [(2, .null), (0, .ref tm), (1, .ref y)] []
              have hly' := (hz' y rfl).1
              have hry' := (hz' y rfl).2
              rcases opt_c (pa' y) with hp9 | ⟨q9, hp9⟩
              · exact absurd hp9 (fun _ => nqy (Inv.inj hI' hqE hyE (by have h1 := (hI'.2.2.2.2.1 y hyE).1 hp9; have h2 := hI'.2.2.2.2.2.2 y h1; have h3 := (hI'.2.2.1 y hyE).1 hly'; have h4 := (hI'.2.2.2.1 y hyE).1 hry'; have h5 := hI'.2.1 q hqE; omega)))
              · have j9 := (hI'.2.2.2.2.1 y hyE).2 q9 hp9
                have hq9E := j9.1
                have nq9 : q9 ≠ y := fun e => by rw [e] at j9; rcases j9.2 with h2 | h2; rw [hly'] at h2; cases h2; rw [hry'] at h2; cases h2
                refine V.aload_n cx dJ1_deleteEntry_192 rfl 2 rfl ?_
                refine V.get cx kJ25 (tm_e hyE) 4 (by decide) q1030 rfl rfl dJ1_deleteEntry_193 ?_
                refine V.toq (o' := (some q9)) (by rw [hp9]) ?_
                show V g A κ _ _ 0 0 (tmO E tm (va_up ka x (ka y)) (va_up va x (va y)) lf' rt' pa' co' vl root' (n - 1) (md + 1) h0) 196 [(2, .null), (0, .ref tm), (1, .ref y)] [.ref q9]
                refine V.ifnull cx dJ1_deleteEntry_196 ?_
                refine V.aload_n cx dJ1_deleteEntry_199 rfl 2 rfl ?_
                refine V.aload_n cx dJ1_deleteEntry_200 rfl 2 rfl ?_
                refine V.get cx kJ25 (tm_e hyE) 4 (by decide) q1030 rfl rfl dJ1_deleteEntry_201 ?_
                refine V.toq (o' := (some q9)) (by rw [hp9]) ?_
                show V g A κ _ _ 0 0 (tmO E tm (va_up ka x (ka y)) (va_up va x (va y)) lf' rt' pa' co' vl root' (n - 1) (md + 1) h0) 204 [(2, .null), (0, .ref tm), (1, .ref y)] [.ref q9, .ref y]
                refine V.get cx kJ25 (tm_e hq9E) 2 (by decide) q1027 rfl rfl dJ1_deleteEntry_204 ?_
                show V g A κ _ _ 0 0 (tmO E tm (va_up ka x (ka y)) (va_up va x (va y)) lf' rt' pa' co' vl root' (n - 1) (md + 1) h0) 207 [(2, .null), (0, .ref tm), (1, .ref y)] [va_rf (lf' q9), .ref y]
                refine V.acmp_ne (rx := (some y)) (ry := (lf' q9)) (tgt := 221) cx dJ1_deleteEntry_207 (by decide) (fun cl => ?_) (fun cl => ?_)
                · refine V.aload_n cx dJ1_deleteEntry_221 rfl 2 rfl ?_
                  refine V.aload_n cx dJ1_deleteEntry_222 rfl 2 rfl ?_
                  refine V.get cx kJ25 (tm_e hyE) 4 (by decide) q1030 rfl rfl dJ1_deleteEntry_223 ?_
                  refine V.toq (o' := (some q9)) (by rw [hp9]) ?_
                  show V g A κ _ _ 0 0 (tmO E tm (va_up ka x (ka y)) (va_up va x (va y)) lf' rt' pa' co' vl root' (n - 1) (md + 1) h0) 226 [(2, .null), (0, .ref tm), (1, .ref y)] [.ref q9, .ref y]
                  refine V.get cx kJ25 (tm_e hq9E) 3 (by decide) q1028 rfl rfl dJ1_deleteEntry_226 ?_
                  show V g A κ _ _ 0 0 (tmO E tm (va_up ka x (ka y)) (va_up va x (va y)) lf' rt' pa' co' vl root' (n - 1) (md + 1) h0) 229 [(2, .null), (0, .ref tm), (1, .ref y)] [va_rf (rt' q9), .ref y]
                  refine V.acmp_ne (rx := (some y)) (ry := (rt' q9)) (tgt := 240) cx dJ1_deleteEntry_229 (by decide) (fun cl2 => ?_) (fun cl2 => ?_)
                  · rcases j9.2 with h2 | h2; exact absurd h2.symm cl; exact absurd h2.symm cl2
                  · refine V.aload_n cx dJ1_deleteEntry_232 rfl 2 rfl ?_
                    refine V.get cx kJ25 (tm_e hyE) 4 (by decide) q1030 rfl rfl dJ1_deleteEntry_233 ?_
                    refine V.toq (o' := (some q9)) (by rw [hp9]) ?_
                    show V g A κ _ _ 0 0 (tmO E tm (va_up ka x (ka y)) (va_up va x (va y)) lf' rt' pa' co' vl root' (n - 1) (md + 1) h0) 236 [(2, .null), (0, .ref tm), (1, .ref y)] [.ref q9]
                    refine V.null cx dJ1_deleteEntry_236 ?_
                    refine V.put (ty := tyJ25 3) cx kJ25 (tm_e hq9E) 3 (by decide) rfl (tyJ25_ok 3 (by decide)) rfl rfl (Nat.le_of_ble_eq_true rfl) q1028 rfl dJ1_deleteEntry_237 ?_
                    refine V.hto (tm_rt (o := none) hq9E) ?_
                    show V g A κ _ _ 0 0 (tmO E tm (va_up ka x (ka y)) (va_up va x (va y)) lf' (va_up rt' q9 none) pa' co' vl root' (n - 1) (md + 1) h0) 240 [(2, .null), (0, .ref tm), (1, .ref y)] []
                    refine V.aload_n cx dJ1_deleteEntry_240 rfl 2 rfl ?_
                    refine V.null cx dJ1_deleteEntry_241 ?_
                    refine V.put (ty := tyJ25 4) cx kJ25 (tm_e hyE) 4 (by decide) rfl (tyJ25_ok 4 (by decide)) rfl rfl (Nat.le_of_ble_eq_true rfl) q1030 rfl dJ1_deleteEntry_242 ?_
                    refine V.hto (tm_pa (o := none) hyE) ?_
                    show V g A κ _ _ 0 0 (tmO E tm (va_up ka x (ka y)) (va_up va x (va y)) lf' (va_up rt' q9 none) (va_up pa' y none) co' vl root' (n - 1) (md + 1) h0) 245 [(2, .null), (0, .ref tm), (1, .ref y)] []
                    obtain ⟨lf2, hlf2⟩ : ∃ z : Nat → Option Nat, lf' = z := ⟨_, rfl⟩
                    obtain ⟨rt2, hrt2⟩ : ∃ z : Nat → Option Nat, (va_up rt' q9 none) = z := ⟨_, rfl⟩
                    obtain ⟨pa2, hpa2⟩ : ∃ z : Nat → Option Nat, (va_up pa' y none) = z := ⟨_, rfl⟩
                    refine V.hto (h' := (tmO E tm (va_up ka x (ka y)) (va_up va x (va y)) lf2 rt2 pa2 co' vl root' (n - 1) (md + 1) h0)) (by rw [hlf2, hrt2, hpa2]) ?_
                    show V g A κ _ _ 0 0 (tmO E tm (va_up ka x (ka y)) (va_up va x (va y)) lf2 rt2 pa2 co' vl root' (n - 1) (md + 1) h0) 245 [(2, .null), (0, .ref tm), (1, .ref y)] []
                    have hD := Inv.del hI' hnd hyE (c := none) (Or.inl ⟨hly', hry'⟩) (lf' := lf2) (rt' := rt2) (pa' := pa2) (root' := root')
                      (fun e he hne => by rw [← hlf2]; (try unfold va_up); obtain ⟨i0, i1, i2, i3, i4, i5⟩ := id hI'; have k1 := i2 e he; have k2 := i3 e he; have k3 := i4 e he; have k4 := i2 y hyE; have k5 := i3 y hyE; have k6 := i4 y hyE; have k7 := i1 y hyE; have k8 := i1 e he; clear i0 i1 i2 i3 i4 i5; clear hlf2 hrt2 hpa2; grind)
                      (fun e he hne => by rw [← hrt2]; (try unfold va_up); obtain ⟨i0, i1, i2, i3, i4, i5⟩ := id hI'; have k1 := i2 e he; have k2 := i3 e he; have k3 := i4 e he; have k4 := i2 y hyE; have k5 := i3 y hyE; have k6 := i4 y hyE; have k7 := i1 y hyE; have k8 := i1 e he; clear i0 i1 i2 i3 i4 i5; clear hlf2 hrt2 hpa2; grind)
                      (fun e he hne => by rw [← hpa2]; (try unfold va_up); obtain ⟨i0, i1, i2, i3, i4, i5⟩ := id hI'; have k1 := i2 e he; have k2 := i3 e he; have k3 := i4 e he; have k4 := i2 y hyE; have k5 := i3 y hyE; have k6 := i4 y hyE; have k7 := i1 y hyE; have k8 := i1 e he; clear i0 i1 i2 i3 i4 i5; clear hlf2 hrt2 hpa2; grind) (by rw [if_neg (fun h9 => by have h8 := (hI'.2.2.2.2.2.2 y h9).2.1; rw [hp9] at h8; cases h8)])
                    obtain ⟨ce, hce⟩ := tm_del' (ka := (va_up ka x (ka y))) (va := (va_up va x (va y))) (lf := lf2) (rt := rt2) (pa := pa2) (co := co') (vl := vl) (root := root') (n := n - 1) (md := md + 1) (h0 := h0) hI'.1 hnd hyE ht
                    refine V.hto hce ?_
                    exact V.vreturn cx rfl ⟨rfl, y, ce, _, _, _, lf2, rt2, pa2, _, _, hyE, hyx, hD, hb', rfl⟩ (by decide) (by decide) dJ1_deleteEntry_245
                · refine V.aload_n cx dJ1_deleteEntry_210 rfl 2 rfl ?_
                  refine V.get cx kJ25 (tm_e hyE) 4 (by decide) q1030 rfl rfl dJ1_deleteEntry_211 ?_
                  refine V.toq (o' := (some q9)) (by rw [hp9]) ?_
                  show V g A κ _ _ 0 0 (tmO E tm (va_up ka x (ka y)) (va_up va x (va y)) lf' rt' pa' co' vl root' (n - 1) (md + 1) h0) 214 [(2, .null), (0, .ref tm), (1, .ref y)] [.ref q9]
                  refine V.null cx dJ1_deleteEntry_214 ?_
                  refine V.put (ty := tyJ25 2) cx kJ25 (tm_e hq9E) 2 (by decide) rfl (tyJ25_ok 2 (by decide)) rfl rfl (Nat.le_of_ble_eq_true rfl) q1027 rfl dJ1_deleteEntry_215 ?_
                  refine V.hto (tm_lf (o := none) hq9E) ?_
                  show V g A κ _ _ 0 0 (tmO E tm (va_up ka x (ka y)) (va_up va x (va y)) (va_up lf' q9 none) rt' pa' co' vl root' (n - 1) (md + 1) h0) 218 [(2, .null), (0, .ref tm), (1, .ref y)] []
                  refine V.goto (tgt := 240) cx dJ1_deleteEntry_218 (by decide) ?_
                  refine V.aload_n cx dJ1_deleteEntry_240 rfl 2 rfl ?_
                  refine V.null cx dJ1_deleteEntry_241 ?_
                  refine V.put (ty := tyJ25 4) cx kJ25 (tm_e hyE) 4 (by decide) rfl (tyJ25_ok 4 (by decide)) rfl rfl (Nat.le_of_ble_eq_true rfl) q1030 rfl dJ1_deleteEntry_242 ?_
                  refine V.hto (tm_pa (o := none) hyE) ?_
                  show V g A κ _ _ 0 0 (tmO E tm (va_up ka x (ka y)) (va_up va x (va y)) (va_up lf' q9 none) rt' (va_up pa' y none) co' vl root' (n - 1) (md + 1) h0) 245 [(2, .null), (0, .ref tm), (1, .ref y)] []
                  obtain ⟨lf2, hlf2⟩ : ∃ z : Nat → Option Nat, (va_up lf' q9 none) = z := ⟨_, rfl⟩
                  obtain ⟨rt2, hrt2⟩ : ∃ z : Nat → Option Nat, rt' = z := ⟨_, rfl⟩
                  obtain ⟨pa2, hpa2⟩ : ∃ z : Nat → Option Nat, (va_up pa' y none) = z := ⟨_, rfl⟩
                  refine V.hto (h' := (tmO E tm (va_up ka x (ka y)) (va_up va x (va y)) lf2 rt2 pa2 co' vl root' (n - 1) (md + 1) h0)) (by rw [hlf2, hrt2, hpa2]) ?_
                  show V g A κ _ _ 0 0 (tmO E tm (va_up ka x (ka y)) (va_up va x (va y)) lf2 rt2 pa2 co' vl root' (n - 1) (md + 1) h0) 245 [(2, .null), (0, .ref tm), (1, .ref y)] []
                  have hD := Inv.del hI' hnd hyE (c := none) (Or.inl ⟨hly', hry'⟩) (lf' := lf2) (rt' := rt2) (pa' := pa2) (root' := root')
                    (fun e he hne => by rw [← hlf2]; (try unfold va_up); obtain ⟨i0, i1, i2, i3, i4, i5⟩ := id hI'; have k1 := i2 e he; have k2 := i3 e he; have k3 := i4 e he; have k4 := i2 y hyE; have k5 := i3 y hyE; have k6 := i4 y hyE; have k7 := i1 y hyE; have k8 := i1 e he; clear i0 i1 i2 i3 i4 i5; clear hlf2 hrt2 hpa2; grind)
                    (fun e he hne => by rw [← hrt2]; (try unfold va_up); obtain ⟨i0, i1, i2, i3, i4, i5⟩ := id hI'; have k1 := i2 e he; have k2 := i3 e he; have k3 := i4 e he; have k4 := i2 y hyE; have k5 := i3 y hyE; have k6 := i4 y hyE; have k7 := i1 y hyE; have k8 := i1 e he; clear i0 i1 i2 i3 i4 i5; clear hlf2 hrt2 hpa2; grind)
                    (fun e he hne => by rw [← hpa2]; (try unfold va_up); obtain ⟨i0, i1, i2, i3, i4, i5⟩ := id hI'; have k1 := i2 e he; have k2 := i3 e he; have k3 := i4 e he; have k4 := i2 y hyE; have k5 := i3 y hyE; have k6 := i4 y hyE; have k7 := i1 y hyE; have k8 := i1 e he; clear i0 i1 i2 i3 i4 i5; clear hlf2 hrt2 hpa2; grind) (by rw [if_neg (fun h9 => by have h8 := (hI'.2.2.2.2.2.2 y h9).2.1; rw [hp9] at h8; cases h8)])
                  obtain ⟨ce, hce⟩ := tm_del' (ka := (va_up ka x (ka y))) (va := (va_up va x (va y))) (lf := lf2) (rt := rt2) (pa := pa2) (co := co') (vl := vl) (root := root') (n := n - 1) (md := md + 1) (h0 := h0) hI'.1 hnd hyE ht
                  refine V.hto hce ?_
                  exact V.vreturn cx rfl ⟨rfl, y, ce, _, _, _, lf2, rt2, pa2, _, _, hyE, hyx, hD, hb', rfl⟩ (by decide) (by decide) dJ1_deleteEntry_245
      · have k0 := (hI.2.2.2.1 y hyE).2 c hry
        have hcE := k0.1
        have nyc : y ≠ c := fun e => by have h2 := hI.2.1 y hyE; have h3 := hI.2.1 c hcE; rw [← e] at k0; omega
        refine V.aload_n cx dJ1_deleteEntry_57 rfl 1 rfl ?_
        refine V.get cx kJ25 (tm_e hyE) 2 (by decide) q1027 rfl rfl dJ1_deleteEntry_58 ?_
        refine V.toq (o' := none) (by rw [hly]) ?_
        show V g A κ _ _ 0 0 (tmO E tm (va_up ka x (ka y)) (va_up va x (va y)) lf rt pa co vl root (n - 1) (md + 1) h0) 61 [(0, .ref tm), (1, .ref y)] [.null]
        refine V.ifnullN (tgt := 71) cx dJ1_deleteEntry_61 (by decide) ?_
        refine V.aload_n cx dJ1_deleteEntry_71 rfl 1 rfl ?_
        refine V.get cx kJ25 (tm_e hyE) 3 (by decide) q1028 rfl rfl dJ1_deleteEntry_72 ?_
        refine V.toq (o' := (some c)) (by rw [hry]) ?_
        show V g A κ _ _ 0 0 (tmO E tm (va_up ka x (ka y)) (va_up va x (va y)) lf rt pa co vl root (n - 1) (md + 1) h0) 75 [(0, .ref tm), (1, .ref y)] [.ref c]
        refine V.astore_n (lv' := [(2, .ref c), (0, .ref tm), (1, .ref y)]) cx dJ1_deleteEntry_75 rfl (by decide) rfl ?_
        refine V.aload_n cx dJ1_deleteEntry_76 rfl 0 rfl ?_
        refine V.ifnull cx dJ1_deleteEntry_77 ?_
        rcases opt_c (pa y) with hpy | ⟨q, hpy⟩
        · refine V.aload_n cx dJ1_deleteEntry_80 rfl 0 rfl ?_
          refine V.aload_n cx dJ1_deleteEntry_81 rfl 2 rfl ?_
          refine V.get cx kJ25 (tm_e hyE) 4 (by decide) q1030 rfl rfl dJ1_deleteEntry_82 ?_
          refine V.toq (o' := none) (by rw [hpy]) ?_
          show V g A κ _ _ 0 0 (tmO E tm (va_up ka x (ka y)) (va_up va x (va y)) lf rt pa co vl root (n - 1) (md + 1) h0) 85 [(2, .ref c), (0, .ref tm), (1, .ref y)] [.null, .ref c]
          refine V.put (ty := tyJ25 4) cx kJ25 (tm_e hcE) 4 (by decide) rfl (tyJ25_ok 4 (by decide)) rfl rfl (Nat.le_of_ble_eq_true rfl) q1030 rfl dJ1_deleteEntry_85 ?_
          refine V.hto (tm_pa (o := none) hcE) ?_
          show V g A κ _ _ 0 0 (tmO E tm (va_up ka x (ka y)) (va_up va x (va y)) lf rt (va_up pa c none) co vl root (n - 1) (md + 1) h0) 88 [(2, .ref c), (0, .ref tm), (1, .ref y)] []
          refine V.aload_n cx dJ1_deleteEntry_88 rfl 2 rfl ?_
          refine V.get cx kJ25 (tm_e hyE) 4 (by decide) q1030 rfl rfl dJ1_deleteEntry_89 ?_
          refine V.toq (o' := none) (by rw [va_up_ne _ _ nyc, hpy]) ?_
          show V g A κ _ _ 0 0 (tmO E tm (va_up ka x (ka y)) (va_up va x (va y)) lf rt (va_up pa c none) co vl root (n - 1) (md + 1) h0) 92 [(2, .ref c), (0, .ref tm), (1, .ref y)] [.null]
          refine V.ifnonnullN cx dJ1_deleteEntry_92 ?_
          refine V.aload_n cx dJ1_deleteEntry_95 rfl 1 rfl ?_
          refine V.aload_n cx dJ1_deleteEntry_96 rfl 0 rfl ?_
          refine V.put (ty := tyJ1 3) cx kJ1 (tm_t ht) 3 (by decide) rfl (tyJ1_ok 3 (by decide)) rfl rfl (Nat.le_of_ble_eq_true rfl) q158 rfl dJ1_deleteEntry_97 ?_
          refine V.hto (tm_tm (vl' := vl) (root' := (some c)) (n' := n - 1) (md' := (md + 1)) ht) ?_
          show V g A κ _ _ 0 0 (tmO E tm (va_up ka x (ka y)) (va_up va x (va y)) lf rt (va_up pa c none) co vl (some c) (n - 1) (md + 1) h0) 100 [(2, .ref c), (0, .ref tm), (1, .ref y)] []
          refine V.goto (tgt := 133) cx dJ1_deleteEntry_100 (by decide) ?_
          refine V.aload_n cx dJ1_deleteEntry_133 rfl 2 rfl ?_
          refine V.aload_n cx dJ1_deleteEntry_134 rfl 2 rfl ?_
          refine V.aload_n cx dJ1_deleteEntry_135 rfl 2 rfl ?_
          refine V.null cx dJ1_deleteEntry_136 ?_
          refine V.dup_x1 cx dJ1_deleteEntry_137 rfl rfl ?_
          refine V.put (ty := tyJ25 4) cx kJ25 (tm_e hyE) 4 (by decide) rfl (tyJ25_ok 4 (by decide)) rfl rfl (Nat.le_of_ble_eq_true rfl) q1030 rfl dJ1_deleteEntry_138 ?_
          refine V.hto (tm_pa (o := none) hyE) ?_
          show V g A κ _ _ 0 0 (tmO E tm (va_up ka x (ka y)) (va_up va x (va y)) lf rt (va_up (va_up pa c none) y none) co vl (some c) (n - 1) (md + 1) h0) 141 [(2, .ref c), (0, .ref tm), (1, .ref y)] [.null, .ref y, .ref y]
          refine V.dup_x1 cx dJ1_deleteEntry_141 rfl rfl ?_
          refine V.put (ty := tyJ25 3) cx kJ25 (tm_e hyE) 3 (by decide) rfl (tyJ25_ok 3 (by decide)) rfl rfl (Nat.le_of_ble_eq_true rfl) q1028 rfl dJ1_deleteEntry_142 ?_
          refine V.hto (tm_rt (o := none) hyE) ?_
          show V g A κ _ _ 0 0 (tmO E tm (va_up ka x (ka y)) (va_up va x (va y)) lf (va_up rt y none) (va_up (va_up pa c none) y none) co vl (some c) (n - 1) (md + 1) h0) 145 [(2, .ref c), (0, .ref tm), (1, .ref y)] [.null, .ref y]
          refine V.put (ty := tyJ25 2) cx kJ25 (tm_e hyE) 2 (by decide) rfl (tyJ25_ok 2 (by decide)) rfl rfl (Nat.le_of_ble_eq_true rfl) q1027 rfl dJ1_deleteEntry_145 ?_
          refine V.hto (tm_lf (o := none) hyE) ?_
          show V g A κ _ _ 0 0 (tmO E tm (va_up ka x (ka y)) (va_up va x (va y)) (va_up lf y none) (va_up rt y none) (va_up (va_up pa c none) y none) co vl (some c) (n - 1) (md + 1) h0) 148 [(2, .ref c), (0, .ref tm), (1, .ref y)] []
          rcases (Bool.eq_false_or_eq_true (co y)).symm with hcy | hcy
          · refine V.aload_n cx dJ1_deleteEntry_148 rfl 2 rfl ?_
            refine V.get cx kJ25 (tm_e hyE) 5 (by decide) q1032 rfl rfl dJ1_deleteEntry_149 ?_
            refine V.tob (b := false) (by rw [hcy]) ?_
            show V g A κ _ _ 0 0 (tmO E tm (va_up ka x (ka y)) (va_up va x (va y)) (va_up lf y none) (va_up rt y none) (va_up (va_up pa c none) y none) co vl (some c) (n - 1) (md + 1) h0) 152 [(2, .ref c), (0, .ref tm), (1, .ref y)] [.int (b2 false)]
            refine V.iconst (v := (nI 1)) cx dJ1_deleteEntry_152 (by decide) ?_
            refine V.icmp_ne (tgt := 245) cx dJ1_deleteEntry_153 (by decide) (fun cz => ?_) (fun cz => ?_)
            · obtain ⟨lf2, hlf2⟩ : ∃ z : Nat → Option Nat, (va_up lf y none) = z := ⟨_, rfl⟩
              obtain ⟨rt2, hrt2⟩ : ∃ z : Nat → Option Nat, (va_up rt y none) = z := ⟨_, rfl⟩
              obtain ⟨pa2, hpa2⟩ : ∃ z : Nat → Option Nat, (va_up (va_up pa c none) y none) = z := ⟨_, rfl⟩
              refine V.hto (h' := (tmO E tm (va_up ka x (ka y)) (va_up va x (va y)) lf2 rt2 pa2 co vl (some c) (n - 1) (md + 1) h0)) (by rw [hlf2, hrt2, hpa2]) ?_
              show V g A κ _ _ 0 0 (tmO E tm (va_up ka x (ka y)) (va_up va x (va y)) lf2 rt2 pa2 co vl (some c) (n - 1) (md + 1) h0) 245 [(2, .ref c), (0, .ref tm), (1, .ref y)] []
              have hD := Inv.del hI hnd hyE (c := (some c)) (Or.inl ⟨hly, hry⟩) (lf' := lf2) (rt' := rt2) (pa' := pa2) (root' := (some c))
                (fun e he hne => by rw [← hlf2]; (try unfold va_up); obtain ⟨i0, i1, i2, i3, i4, i5⟩ := id hI; have k1 := i2 e he; have k2 := i3 e he; have k3 := i4 e he; have k4 := i2 y hyE; have k5 := i3 y hyE; have k6 := i4 y hyE; have k7 := i1 y hyE; have k8 := i1 e he; clear i0 i1 i2 i3 i4 i5; clear hlf2 hrt2 hpa2; grind)
                (fun e he hne => by rw [← hrt2]; (try unfold va_up); obtain ⟨i0, i1, i2, i3, i4, i5⟩ := id hI; have k1 := i2 e he; have k2 := i3 e he; have k3 := i4 e he; have k4 := i2 y hyE; have k5 := i3 y hyE; have k6 := i4 y hyE; have k7 := i1 y hyE; have k8 := i1 e he; clear i0 i1 i2 i3 i4 i5; clear hlf2 hrt2 hpa2; grind)
                (fun e he hne => by rw [← hpa2]; (try unfold va_up); obtain ⟨i0, i1, i2, i3, i4, i5⟩ := id hI; have k1 := i2 e he; have k2 := i3 e he; have k3 := i4 e he; have k4 := i2 y hyE; have k5 := i3 y hyE; have k6 := i4 y hyE; have k7 := i1 y hyE; have k8 := i1 e he; clear i0 i1 i2 i3 i4 i5; clear hlf2 hrt2 hpa2; grind) (by have h9 := (hI.2.2.2.2.1 y hyE).1 hpy; rw [if_pos h9])
              obtain ⟨ce, hce⟩ := tm_del' (ka := (va_up ka x (ka y))) (va := (va_up va x (va y))) (lf := lf2) (rt := rt2) (pa := pa2) (co := co) (vl := vl) (root := (some c)) (n := n - 1) (md := md + 1) (h0 := h0) hI.1 hnd hyE ht
              refine V.hto hce ?_
              exact absurd (hb y ((hI.2.2.2.2.1 y hyE).1 hpy)) (by rw [hcy]; simp)
            · exact absurd cz (by decide)
          · refine V.aload_n cx dJ1_deleteEntry_148 rfl 2 rfl ?_
            refine V.get cx kJ25 (tm_e hyE) 5 (by decide) q1032 rfl rfl dJ1_deleteEntry_149 ?_
            refine V.tob (b := true) (by rw [hcy]) ?_
            show V g A κ _ _ 0 0 (tmO E tm (va_up ka x (ka y)) (va_up va x (va y)) (va_up lf y none) (va_up rt y none) (va_up (va_up pa c none) y none) co vl (some c) (n - 1) (md + 1) h0) 152 [(2, .ref c), (0, .ref tm), (1, .ref y)] [.int (b2 true)]
            refine V.iconst (v := (nI 1)) cx dJ1_deleteEntry_152 (by decide) ?_
            refine V.icmp_ne (tgt := 245) cx dJ1_deleteEntry_153 (by decide) (fun cz => ?_) (fun cz => ?_)
            · exact absurd rfl cz
            · obtain ⟨lf2, hlf2⟩ : ∃ z : Nat → Option Nat, (va_up lf y none) = z := ⟨_, rfl⟩
              obtain ⟨rt2, hrt2⟩ : ∃ z : Nat → Option Nat, (va_up rt y none) = z := ⟨_, rfl⟩
              obtain ⟨pa2, hpa2⟩ : ∃ z : Nat → Option Nat, (va_up (va_up pa c none) y none) = z := ⟨_, rfl⟩
              refine V.hto (h' := (tmO E tm (va_up ka x (ka y)) (va_up va x (va y)) lf2 rt2 pa2 co vl (some c) (n - 1) (md + 1) h0)) (by rw [hlf2, hrt2, hpa2]) ?_
              show V g A κ _ _ 0 0 (tmO E tm (va_up ka x (ka y)) (va_up va x (va y)) lf2 rt2 pa2 co vl (some c) (n - 1) (md + 1) h0) 156 [(2, .ref c), (0, .ref tm), (1, .ref y)] []
              have hD := Inv.del hI hnd hyE (c := (some c)) (Or.inl ⟨hly, hry⟩) (lf' := lf2) (rt' := rt2) (pa' := pa2) (root' := (some c))
                (fun e he hne => by rw [← hlf2]; (try unfold va_up); obtain ⟨i0, i1, i2, i3, i4, i5⟩ := id hI; have k1 := i2 e he; have k2 := i3 e he; have k3 := i4 e he; have k4 := i2 y hyE; have k5 := i3 y hyE; have k6 := i4 y hyE; have k7 := i1 y hyE; have k8 := i1 e he; clear i0 i1 i2 i3 i4 i5; clear hlf2 hrt2 hpa2; grind)
                (fun e he hne => by rw [← hrt2]; (try unfold va_up); obtain ⟨i0, i1, i2, i3, i4, i5⟩ := id hI; have k1 := i2 e he; have k2 := i3 e he; have k3 := i4 e he; have k4 := i2 y hyE; have k5 := i3 y hyE; have k6 := i4 y hyE; have k7 := i1 y hyE; have k8 := i1 e he; clear i0 i1 i2 i3 i4 i5; clear hlf2 hrt2 hpa2; grind)
                (fun e he hne => by rw [← hpa2]; (try unfold va_up); obtain ⟨i0, i1, i2, i3, i4, i5⟩ := id hI; have k1 := i2 e he; have k2 := i3 e he; have k3 := i4 e he; have k4 := i2 y hyE; have k5 := i3 y hyE; have k6 := i4 y hyE; have k7 := i1 y hyE; have k8 := i1 e he; clear i0 i1 i2 i3 i4 i5; clear hlf2 hrt2 hpa2; grind) (by have h9 := (hI.2.2.2.2.1 y hyE).1 hpy; rw [if_pos h9])
              obtain ⟨ce, hce⟩ := tm_del' (ka := (va_up ka x (ka y))) (va := (va_up va x (va y))) (lf := lf2) (rt := rt2) (pa := pa2) (co := co) (vl := vl) (root := (some c)) (n := n - 1) (md := md + 1) (h0 := h0) hI.1 hnd hyE ht
              refine V.hto hce ?_
              have ht2 : tm ∉ E.eraseIdx (ix y) := fun e => ht ((mem_del hI.1 hnd hyE tm).mp e).1
              have hc2 : c ∈ E.eraseIdx (ix y) := (mem_del hI.1 hnd hyE c).mpr ⟨hcE, Ne.symm nyc⟩
              show V g A κ _ _ 0 0 (tmO (E.eraseIdx (ix y)) tm (va_up ka x (ka y)) (va_up va x (va y)) lf2 rt2 pa2 co vl (some c) (n - 1) (md + 1) (up h0 y ce)) 156 [(2, .ref c), (0, .ref tm), (1, .ref y)] []
              refine V.aload_n cx dJ1_deleteEntry_156 rfl 1 rfl ?_
              refine V.aload_n cx dJ1_deleteEntry_157 rfl 0 rfl ?_
              refine V.callV (As := [.ref c]) (rest := []) (C := "java/util/TreeMap") cx (m_fixDel l hl g A (E.eraseIdx (ix y)) tm (va_up ka x (ka y)) (va_up va x (va y)) lf2 rt2 pa2 co vl (some c) (n - 1) (md + 1) (up h0 y ce) _ _ _ hD ht2 c (fun r hr => Or.inr (Option.some.inj hr)) hc2 none (fun p0 h9 => by cases h9) (fun p0 h9 => by cases h9)) rfl q1643 q1645 qs17 (Rv.of kJ1 (tm_t ht2)) (na := 1) rfl (by decide +kernel) (Nat.le_of_ble_eq_true rfl) (by decide) (by decide) (by decide) rfl dJ1_deleteEntry_158 (fun _ _ _ hx => hx.elim) (fun v9 h10 hp => ?_)
              obtain ⟨rfl, lo', hi', lf', rt', pa', co', root', hI', hb', -, rfl⟩ := hp
              show V g A κ _ _ 0 0 (tmO (E.eraseIdx (ix y)) tm (va_up ka x (ka y)) (va_up va x (va y)) lf' rt' pa' co' vl root' (n - 1) (md + 1) (up h0 y ce)) 161 [(2, .ref c), (0, .ref tm), (1, .ref y)] []
              refine V.goto (tgt := 245) cx dJ1_deleteEntry_161 (by decide) ?_
              exact V.vreturn cx rfl ⟨rfl, y, ce, _, lo', hi', lf', rt', pa', co', root', hyE, hyx, hI', hb', rfl⟩ (by decide) (by decide) dJ1_deleteEntry_245
        · have k9 := (hI.2.2.2.2.1 y hyE).2 q hpy
          have hqE := k9.1
          have nqy : q ≠ y := fun e => by have h1 := hI.2.1 y hyE; subst e; rcases k9.2 with h2 | h2; exact absurd ((hI.2.2.1 q hqE).2 q h2).2.2.2 (by omega); exact absurd ((hI.2.2.2.1 q hqE).2 q h2).2.2.1 (by omega)
          have nqc : q ≠ c := fun e => by subst e; have h3 := hI.2.1 y hyE; have h4 := hI.2.1 q hqE; rcases k9.2 with h5 | h5; have h6 := (hI.2.2.1 q hqE).2 y h5; omega; have h6 := (hI.2.2.2.1 q hqE).2 y h5; omega
          refine V.aload_n cx dJ1_deleteEntry_80 rfl 0 rfl ?_
          refine V.aload_n cx dJ1_deleteEntry_81 rfl 2 rfl ?_
          refine V.get cx kJ25 (tm_e hyE) 4 (by decide) q1030 rfl rfl dJ1_deleteEntry_82 ?_
          refine V.toq (o' := (some q)) (by rw [hpy]) ?_
          show V g A κ _ _ 0 0 (tmO E tm (va_up ka x (ka y)) (va_up va x (va y)) lf rt pa co vl root (n - 1) (md + 1) h0) 85 [(2, .ref c), (0, .ref tm), (1, .ref y)] [.ref q, .ref c]
          refine V.put (ty := tyJ25 4) cx kJ25 (tm_e hcE) 4 (by decide) rfl (tyJ25_ok 4 (by decide)) rfl rfl (Nat.le_of_ble_eq_true rfl) q1030 rfl dJ1_deleteEntry_85 ?_
          refine V.hto (tm_pa (o := (some q)) hcE) ?_
          show V g A κ _ _ 0 0 (tmO E tm (va_up ka x (ka y)) (va_up va x (va y)) lf rt (va_up pa c (some q)) co vl root (n - 1) (md + 1) h0) 88 [(2, .ref c), (0, .ref tm), (1, .ref y)] []
          refine V.aload_n cx dJ1_deleteEntry_88 rfl 2 rfl ?_
          refine V.get cx kJ25 (tm_e hyE) 4 (by decide) q1030 rfl rfl dJ1_deleteEntry_89 ?_
          refine V.toq (o' := (some q)) (by rw [va_up_ne _ _ nyc, hpy]) ?_
          show V g A κ _ _ 0 0 (tmO E tm (va_up ka x (ka y)) (va_up va x (va y)) lf rt (va_up pa c (some q)) co vl root (n - 1) (md + 1) h0) 92 [(2, .ref c), (0, .ref tm), (1, .ref y)] [.ref q]
          refine V.ifnonnull (tgt := 103) cx dJ1_deleteEntry_92 (by decide) ?_
          refine V.aload_n cx dJ1_deleteEntry_103 rfl 2 rfl ?_
          refine V.aload_n cx dJ1_deleteEntry_104 rfl 2 rfl ?_
          refine V.get cx kJ25 (tm_e hyE) 4 (by decide) q1030 rfl rfl dJ1_deleteEntry_105 ?_
          refine V.toq (o' := (some q)) (by rw [va_up_ne _ _ nyc, hpy]) ?_
          show V g A κ _ _ 0 0 (tmO E tm (va_up ka x (ka y)) (va_up va x (va y)) lf rt (va_up pa c (some q)) co vl root (n - 1) (md + 1) h0) 108 [(2, .ref c), (0, .ref tm), (1, .ref y)] [.ref q, .ref y]
          refine V.get cx kJ25 (tm_e hqE) 2 (by decide) q1027 rfl rfl dJ1_deleteEntry_108 ?_
          show V g A κ _ _ 0 0 (tmO E tm (va_up ka x (ka y)) (va_up va x (va y)) lf rt (va_up pa c (some q)) co vl root (n - 1) (md + 1) h0) 111 [(2, .ref c), (0, .ref tm), (1, .ref y)] [va_rf (lf q), .ref y]
          refine V.acmp_ne (rx := (some y)) (ry := (lf q)) (tgt := 125) cx dJ1_deleteEntry_111 (by decide) (fun cl => ?_) (fun cl => ?_)
          · refine V.aload_n cx dJ1_deleteEntry_125 rfl 2 rfl ?_
            refine V.get cx kJ25 (tm_e hyE) 4 (by decide) q1030 rfl rfl dJ1_deleteEntry_126 ?_
            refine V.toq (o' := (some q)) (by rw [va_up_ne _ _ nyc, hpy]) ?_
            show V g A κ _ _ 0 0 (tmO E tm (va_up ka x (ka y)) (va_up va x (va y)) lf rt (va_up pa c (some q)) co vl root (n - 1) (md + 1) h0) 129 [(2, .ref c), (0, .ref tm), (1, .ref y)] [.ref q]
            refine V.aload_n cx dJ1_deleteEntry_129 rfl 0 rfl ?_
            refine V.put (ty := tyJ25 3) cx kJ25 (tm_e hqE) 3 (by decide) rfl (tyJ25_ok 3 (by decide)) rfl rfl (Nat.le_of_ble_eq_true rfl) q1028 rfl dJ1_deleteEntry_130 ?_
            refine V.hto (tm_rt (o := (some c)) hqE) ?_
            show V g A κ _ _ 0 0 (tmO E tm (va_up ka x (ka y)) (va_up va x (va y)) lf (va_up rt q (some c)) (va_up pa c (some q)) co vl root (n - 1) (md + 1) h0) 133 [(2, .ref c), (0, .ref tm), (1, .ref y)] []
            refine V.aload_n cx dJ1_deleteEntry_133 rfl 2 rfl ?_
            refine V.aload_n cx dJ1_deleteEntry_134 rfl 2 rfl ?_
            refine V.aload_n cx dJ1_deleteEntry_135 rfl 2 rfl ?_
            refine V.null cx dJ1_deleteEntry_136 ?_
            refine V.dup_x1 cx dJ1_deleteEntry_137 rfl rfl ?_
            refine V.put (ty := tyJ25 4) cx kJ25 (tm_e hyE) 4 (by decide) rfl (tyJ25_ok 4 (by decide)) rfl rfl (Nat.le_of_ble_eq_true rfl) q1030 rfl dJ1_deleteEntry_138 ?_
            refine V.hto (tm_pa (o := none) hyE) ?_
            show V g A κ _ _ 0 0 (tmO E tm (va_up ka x (ka y)) (va_up va x (va y)) lf (va_up rt q (some c)) (va_up (va_up pa c (some q)) y none) co vl root (n - 1) (md + 1) h0) 141 [(2, .ref c), (0, .ref tm), (1, .ref y)] [.null, .ref y, .ref y]
            refine V.dup_x1 cx dJ1_deleteEntry_141 rfl rfl ?_
            refine V.put (ty := tyJ25 3) cx kJ25 (tm_e hyE) 3 (by decide) rfl (tyJ25_ok 3 (by decide)) rfl rfl (Nat.le_of_ble_eq_true rfl) q1028 rfl dJ1_deleteEntry_142 ?_
            refine V.hto (tm_rt (o := none) hyE) ?_
            show V g A κ _ _ 0 0 (tmO E tm (va_up ka x (ka y)) (va_up va x (va y)) lf (va_up (va_up rt q (some c)) y none) (va_up (va_up pa c (some q)) y none) co vl root (n - 1) (md + 1) h0) 145 [(2, .ref c), (0, .ref tm), (1, .ref y)] [.null, .ref y]
            refine V.put (ty := tyJ25 2) cx kJ25 (tm_e hyE) 2 (by decide) rfl (tyJ25_ok 2 (by decide)) rfl rfl (Nat.le_of_ble_eq_true rfl) q1027 rfl dJ1_deleteEntry_145 ?_
            refine V.hto (tm_lf (o := none) hyE) ?_
            show V g A κ _ _ 0 0 (tmO E tm (va_up ka x (ka y)) (va_up va x (va y)) (va_up lf y none) (va_up (va_up rt q (some c)) y none) (va_up (va_up pa c (some q)) y none) co vl root (n - 1) (md + 1) h0) 148 [(2, .ref c), (0, .ref tm), (1, .ref y)] []
            rcases (Bool.eq_false_or_eq_true (co y)).symm with hcy | hcy
            · refine V.aload_n cx dJ1_deleteEntry_148 rfl 2 rfl ?_
              refine V.get cx kJ25 (tm_e hyE) 5 (by decide) q1032 rfl rfl dJ1_deleteEntry_149 ?_
              refine V.tob (b := false) (by rw [hcy]) ?_
              show V g A κ _ _ 0 0 (tmO E tm (va_up ka x (ka y)) (va_up va x (va y)) (va_up lf y none) (va_up (va_up rt q (some c)) y none) (va_up (va_up pa c (some q)) y none) co vl root (n - 1) (md + 1) h0) 152 [(2, .ref c), (0, .ref tm), (1, .ref y)] [.int (b2 false)]
              refine V.iconst (v := (nI 1)) cx dJ1_deleteEntry_152 (by decide) ?_
              refine V.icmp_ne (tgt := 245) cx dJ1_deleteEntry_153 (by decide) (fun cz => ?_) (fun cz => ?_)
              · obtain ⟨lf2, hlf2⟩ : ∃ z : Nat → Option Nat, (va_up lf y none) = z := ⟨_, rfl⟩
                obtain ⟨rt2, hrt2⟩ : ∃ z : Nat → Option Nat, (va_up (va_up rt q (some c)) y none) = z := ⟨_, rfl⟩
                obtain ⟨pa2, hpa2⟩ : ∃ z : Nat → Option Nat, (va_up (va_up pa c (some q)) y none) = z := ⟨_, rfl⟩
                refine V.hto (h' := (tmO E tm (va_up ka x (ka y)) (va_up va x (va y)) lf2 rt2 pa2 co vl root (n - 1) (md + 1) h0)) (by rw [hlf2, hrt2, hpa2]) ?_
                show V g A κ _ _ 0 0 (tmO E tm (va_up ka x (ka y)) (va_up va x (va y)) lf2 rt2 pa2 co vl root (n - 1) (md + 1) h0) 245 [(2, .ref c), (0, .ref tm), (1, .ref y)] []
                have hD := Inv.del hI hnd hyE (c := (some c)) (Or.inl ⟨hly, hry⟩) (lf' := lf2) (rt' := rt2) (pa' := pa2) (root' := root)
                  (fun e he hne => by rw [← hlf2]; (try unfold va_up); obtain ⟨i0, i1, i2, i3, i4, i5⟩ := id hI; have k1 := i2 e he; have k2 := i3 e he; have k3 := i4 e he; have k4 := i2 y hyE; have k5 := i3 y hyE; have k6 := i4 y hyE; have k7 := i1 y hyE; have k8 := i1 e he; clear i0 i1 i2 i3 i4 i5; clear hlf2 hrt2 hpa2; grind)
                  (fun e he hne => by rw [← hrt2]; (try unfold va_up); obtain ⟨i0, i1, i2, i3, i4, i5⟩ := id hI; have k1 := i2 e he; have k2 := i3 e he; have k3 := i4 e he; have k4 := i2 y hyE; have k5 := i3 y hyE; have k6 := i4 y hyE; have k7 := i1 y hyE; have k8 := i1 e he; clear i0 i1 i2 i3 i4 i5; clear hlf2 hrt2 hpa2; grind)
                  (fun e he hne => by rw [← hpa2]; (try unfold va_up); obtain ⟨i0, i1, i2, i3, i4, i5⟩ := id hI; have k1 := i2 e he; have k2 := i3 e he; have k3 := i4 e he; have k4 := i2 y hyE; have k5 := i3 y hyE; have k6 := i4 y hyE; have k7 := i1 y hyE; have k8 := i1 e he; clear i0 i1 i2 i3 i4 i5; clear hlf2 hrt2 hpa2; grind) (by rw [if_neg (fun h9 => by have h8 := (hI.2.2.2.2.2.2 y h9).2.1; rw [hpy] at h8; cases h8)])
                obtain ⟨ce, hce⟩ := tm_del' (ka := (va_up ka x (ka y))) (va := (va_up va x (va y))) (lf := lf2) (rt := rt2) (pa := pa2) (co := co) (vl := vl) (root := root) (n := n - 1) (md := md + 1) (h0 := h0) hI.1 hnd hyE ht
                refine V.hto hce ?_
                exact V.vreturn cx rfl ⟨rfl, y, ce, _, _, _, lf2, rt2, pa2, _, _, hyE, hyx, hD, hb, rfl⟩ (by decide) (by decide) dJ1_deleteEntry_245
              · exact absurd cz (by decide)
            · refine V.aload_n cx dJ1_deleteEntry_148 rfl 2 rfl ?_
              refine V.get cx kJ25 (tm_e hyE) 5 (by decide) q1032 rfl rfl dJ1_deleteEntry_149 ?_
              refine V.tob (b := true) (by rw [hcy]) ?_
              show V g A κ _ _ 0 0 (tmO E tm (va_up ka x (ka y)) (va_up va x (va y)) (va_up lf y none) (va_up (va_up rt q (some c)) y none) (va_up (va_up pa c (some q)) y none) co vl root (n - 1) (md + 1) h0) 152 [(2, .ref c), (0, .ref tm), (1, .ref y)] [.int (b2 true)]
              refine V.iconst (v := (nI 1)) cx dJ1_deleteEntry_152 (by decide) ?_
              refine V.icmp_ne (tgt := 245) cx dJ1_deleteEntry_153 (by decide) (fun cz => ?_) (fun cz => ?_)
              · exact absurd rfl cz
              · obtain ⟨lf2, hlf2⟩ : ∃ z : Nat → Option Nat, (va_up lf y none) = z := ⟨_, rfl⟩
                obtain ⟨rt2, hrt2⟩ : ∃ z : Nat → Option Nat, (va_up (va_up rt q (some c)) y none) = z := ⟨_, rfl⟩
                obtain ⟨pa2, hpa2⟩ : ∃ z : Nat → Option Nat, (va_up (va_up pa c (some q)) y none) = z := ⟨_, rfl⟩
                refine V.hto (h' := (tmO E tm (va_up ka x (ka y)) (va_up va x (va y)) lf2 rt2 pa2 co vl root (n - 1) (md + 1) h0)) (by rw [hlf2, hrt2, hpa2]) ?_
                show V g A κ _ _ 0 0 (tmO E tm (va_up ka x (ka y)) (va_up va x (va y)) lf2 rt2 pa2 co vl root (n - 1) (md + 1) h0) 156 [(2, .ref c), (0, .ref tm), (1, .ref y)] []
                have hD := Inv.del hI hnd hyE (c := (some c)) (Or.inl ⟨hly, hry⟩) (lf' := lf2) (rt' := rt2) (pa' := pa2) (root' := root)
                  (fun e he hne => by rw [← hlf2]; (try unfold va_up); obtain ⟨i0, i1, i2, i3, i4, i5⟩ := id hI; have k1 := i2 e he; have k2 := i3 e he; have k3 := i4 e he; have k4 := i2 y hyE; have k5 := i3 y hyE; have k6 := i4 y hyE; have k7 := i1 y hyE; have k8 := i1 e he; clear i0 i1 i2 i3 i4 i5; clear hlf2 hrt2 hpa2; grind)
                  (fun e he hne => by rw [← hrt2]; (try unfold va_up); obtain ⟨i0, i1, i2, i3, i4, i5⟩ := id hI; have k1 := i2 e he; have k2 := i3 e he; have k3 := i4 e he; have k4 := i2 y hyE; have k5 := i3 y hyE; have k6 := i4 y hyE; have k7 := i1 y hyE; have k8 := i1 e he; clear i0 i1 i2 i3 i4 i5; clear hlf2 hrt2 hpa2; grind)
                  (fun e he hne => by rw [← hpa2]; (try unfold va_up); obtain ⟨i0, i1, i2, i3, i4, i5⟩ := id hI; have k1 := i2 e he; have k2 := i3 e he; have k3 := i4 e he; have k4 := i2 y hyE; have k5 := i3 y hyE; have k6 := i4 y hyE; have k7 := i1 y hyE; have k8 := i1 e he; clear i0 i1 i2 i3 i4 i5; clear hlf2 hrt2 hpa2; grind) (by rw [if_neg (fun h9 => by have h8 := (hI.2.2.2.2.2.2 y h9).2.1; rw [hpy] at h8; cases h8)])
                obtain ⟨ce, hce⟩ := tm_del' (ka := (va_up ka x (ka y))) (va := (va_up va x (va y))) (lf := lf2) (rt := rt2) (pa := pa2) (co := co) (vl := vl) (root := root) (n := n - 1) (md := md + 1) (h0 := h0) hI.1 hnd hyE ht
                refine V.hto hce ?_
                have ht2 : tm ∉ E.eraseIdx (ix y) := fun e => ht ((mem_del hI.1 hnd hyE tm).mp e).1
                have hc2 : c ∈ E.eraseIdx (ix y) := (mem_del hI.1 hnd hyE c).mpr ⟨hcE, Ne.symm nyc⟩
                show V g A κ _ _ 0 0 (tmO (E.eraseIdx (ix y)) tm (va_up ka x (ka y)) (va_up va x (va y)) lf2 rt2 pa2 co vl root (n - 1) (md + 1) (up h0 y ce)) 156 [(2, .ref c), (0, .ref tm), (1, .ref y)] []
                refine V.aload_n cx dJ1_deleteEntry_156 rfl 1 rfl ?_
                refine V.aload_n cx dJ1_deleteEntry_157 rfl 0 rfl ?_
                refine V.callV (As := [.ref c]) (rest := []) (C := "java/util/TreeMap") cx (m_fixDel l hl g A (E.eraseIdx (ix y)) tm (va_up ka x (ka y)) (va_up va x (va y)) lf2 rt2 pa2 co vl root (n - 1) (md + 1) (up h0 y ce) _ _ _ hD ht2 c (fun r hr => Or.inl (hb r hr)) hc2 none (fun p0 h9 => by cases h9) (fun p0 h9 => by cases h9)) rfl q1643 q1645 qs17 (Rv.of kJ1 (tm_t ht2)) (na := 1) rfl (by decide +kernel) (Nat.le_of_ble_eq_true rfl) (by decide) (by decide) (by decide) rfl dJ1_deleteEntry_158 (fun _ _ _ hx => hx.elim) (fun v11 h12 hp => ?_)
                obtain ⟨rfl, lo', hi', lf', rt', pa', co', root', hI', hb', -, rfl⟩ := hp
                show V g A κ _ _ 0 0 (tmO (E.eraseIdx (ix y)) tm (va_up ka x (ka y)) (va_up va x (va y)) lf' rt' pa' co' vl root' (n - 1) (md + 1) (up h0 y ce)) 161 [(2, .ref c), (0, .ref tm), (1, .ref y)] []
                refine V.goto (tgt := 245) cx dJ1_deleteEntry_161 (by decide) ?_
                exact V.vreturn cx rfl ⟨rfl, y, ce, _, lo', hi', lf', rt', pa', co', root', hyE, hyx, hI', hb', rfl⟩ (by decide) (by decide) dJ1_deleteEntry_245
          · refine V.aload_n cx dJ1_deleteEntry_114 rfl 2 rfl ?_
            refine V.get cx kJ25 (tm_e hyE) 4 (by decide) q1030 rfl rfl dJ1_deleteEntry_115 ?_
            refine V.toq (o' := (some q)) (by rw [va_up_ne _ _ nyc, hpy]) ?_
            show V g A κ _ _ 0 0 (tmO E tm (va_up ka x (ka y)) (va_up va x (va y)) lf rt (va_up pa c (some q)) co vl root (n - 1) (md + 1) h0) 118 [(2, .ref c), (0, .ref tm), (1, .ref y)] [.ref q]
            refine V.aload_n cx dJ1_deleteEntry_118 rfl 0 rfl ?_
            refine V.put (ty := tyJ25 2) cx kJ25 (tm_e hqE) 2 (by decide) rfl (tyJ25_ok 2 (by decide)) rfl rfl (Nat.le_of_ble_eq_true rfl) q1027 rfl dJ1_deleteEntry_119 ?_
            refine V.hto (tm_lf (o := (some c)) hqE) ?_
            show V g A κ _ _ 0 0 (tmO E tm (va_up ka x (ka y)) (va_up va x (va y)) (va_up lf q (some c)) rt (va_up pa c (some q)) co vl root (n - 1) (md + 1) h0) 122 [(2, .ref c), (0, .ref tm), (1, .ref y)] []
            refine V.goto (tgt := 133) cx dJ1_deleteEntry_122 (by decide) ?_
            refine V.aload_n cx dJ1_deleteEntry_133 rfl 2 rfl ?_
            refine V.aload_n cx dJ1_deleteEntry_134 rfl 2 rfl ?_
            refine V.aload_n cx dJ1_deleteEntry_135 rfl 2 rfl ?_
            refine V.null cx dJ1_deleteEntry_136 ?_
            refine V.dup_x1 cx dJ1_deleteEntry_137 rfl rfl ?_
            refine V.put (ty := tyJ25 4) cx kJ25 (tm_e hyE) 4 (by decide) rfl (tyJ25_ok 4 (by decide)) rfl rfl (Nat.le_of_ble_eq_true rfl) q1030 rfl dJ1_deleteEntry_138 ?_
            refine V.hto (tm_pa (o := none) hyE) ?_
            show V g A κ _ _ 0 0 (tmO E tm (va_up ka x (ka y)) (va_up va x (va y)) (va_up lf q (some c)) rt (va_up (va_up pa c (some q)) y none) co vl root (n - 1) (md + 1) h0) 141 [(2, .ref c), (0, .ref tm), (1, .ref y)] [.null, .ref y, .ref y]
            refine V.dup_x1 cx dJ1_deleteEntry_141 rfl rfl ?_
            refine V.put (ty := tyJ25 3) cx kJ25 (tm_e hyE) 3 (by decide) rfl (tyJ25_ok 3 (by decide)) rfl rfl (Nat.le_of_ble_eq_true rfl) q1028 rfl dJ1_deleteEntry_142 ?_
            refine V.hto (tm_rt (o := none) hyE) ?_
            show V g A κ _ _ 0 0 (tmO E tm (va_up ka x (ka y)) (va_up va x (va y)) (va_up lf q (some c)) (va_up rt y none) (va_up (va_up pa c (some q)) y none) co vl root (n - 1) (md + 1) h0) 145 [(2, .ref c), (0, .ref tm), (1, .ref y)] [.null, .ref y]
            refine V.put (ty := tyJ25 2) cx kJ25 (tm_e hyE) 2 (by decide) rfl (tyJ25_ok 2 (by decide)) rfl rfl (Nat.le_of_ble_eq_true rfl) q1027 rfl dJ1_deleteEntry_145 ?_
            refine V.hto (tm_lf (o := none) hyE) ?_
            show V g A κ _ _ 0 0 (tmO E tm (va_up ka x (ka y)) (va_up va x (va y)) (va_up (va_up lf q (some c)) y none) (va_up rt y none) (va_up (va_up pa c (some q)) y none) co vl root (n - 1) (md + 1) h0) 148 [(2, .ref c), (0, .ref tm), (1, .ref y)] []
            rcases (Bool.eq_false_or_eq_true (co y)).symm with hcy | hcy
            · refine V.aload_n cx dJ1_deleteEntry_148 rfl 2 rfl ?_
              refine V.get cx kJ25 (tm_e hyE) 5 (by decide) q1032 rfl rfl dJ1_deleteEntry_149 ?_
              refine V.tob (b := false) (by rw [hcy]) ?_
              show V g A κ _ _ 0 0 (tmO E tm (va_up ka x (ka y)) (va_up va x (va y)) (va_up (va_up lf q (some c)) y none) (va_up rt y none) (va_up (va_up pa c (some q)) y none) co vl root (n - 1) (md + 1) h0) 152 [(2, .ref c), (0, .ref tm), (1, .ref y)] [.int (b2 false)]
              refine V.iconst (v := (nI 1)) cx dJ1_deleteEntry_152 (by decide) ?_
              refine V.icmp_ne (tgt := 245) cx dJ1_deleteEntry_153 (by decide) (fun cz => ?_) (fun cz => ?_)
              · obtain ⟨lf2, hlf2⟩ : ∃ z : Nat → Option Nat, (va_up (va_up lf q (some c)) y none) = z := ⟨_, rfl⟩
                obtain ⟨rt2, hrt2⟩ : ∃ z : Nat → Option Nat, (va_up rt y none) = z := ⟨_, rfl⟩
                obtain ⟨pa2, hpa2⟩ : ∃ z : Nat → Option Nat, (va_up (va_up pa c (some q)) y none) = z := ⟨_, rfl⟩
                refine V.hto (h' := (tmO E tm (va_up ka x (ka y)) (va_up va x (va y)) lf2 rt2 pa2 co vl root (n - 1) (md + 1) h0)) (by rw [hlf2, hrt2, hpa2]) ?_
                show V g A κ _ _ 0 0 (tmO E tm (va_up ka x (ka y)) (va_up va x (va y)) lf2 rt2 pa2 co vl root (n - 1) (md + 1) h0) 245 [(2, .ref c), (0, .ref tm), (1, .ref y)] []
                have hD := Inv.del hI hnd hyE (c := (some c)) (Or.inl ⟨hly, hry⟩) (lf' := lf2) (rt' := rt2) (pa' := pa2) (root' := root)
                  (fun e he hne => by rw [← hlf2]; (try unfold va_up); obtain ⟨i0, i1, i2, i3, i4, i5⟩ := id hI; have k1 := i2 e he; have k2 := i3 e he; have k3 := i4 e he; have k4 := i2 y hyE; have k5 := i3 y hyE; have k6 := i4 y hyE; have k7 := i1 y hyE; have k8 := i1 e he; clear i0 i1 i2 i3 i4 i5; clear hlf2 hrt2 hpa2; grind)
                  (fun e he hne => by rw [← hrt2]; (try unfold va_up); obtain ⟨i0, i1, i2, i3, i4, i5⟩ := id hI; have k1 := i2 e he; have k2 := i3 e he; have k3 := i4 e he; have k4 := i2 y hyE; have k5 := i3 y hyE; have k6 := i4 y hyE; have k7 := i1 y hyE; have k8 := i1 e he; clear i0 i1 i2 i3 i4 i5; clear hlf2 hrt2 hpa2; grind)
                  (fun e he hne => by rw [← hpa2]; (try unfold va_up); obtain ⟨i0, i1, i2, i3, i4, i5⟩ := id hI; have k1 := i2 e he; have k2 := i3 e he; have k3 := i4 e he; have k4 := i2 y hyE; have k5 := i3 y hyE; have k6 := i4 y hyE; have k7 := i1 y hyE; have k8 := i1 e he; clear i0 i1 i2 i3 i4 i5; clear hlf2 hrt2 hpa2; grind) (by rw [if_neg (fun h9 => by have h8 := (hI.2.2.2.2.2.2 y h9).2.1; rw [hpy] at h8; cases h8)])
                obtain ⟨ce, hce⟩ := tm_del' (ka := (va_up ka x (ka y))) (va := (va_up va x (va y))) (lf := lf2) (rt := rt2) (pa := pa2) (co := co) (vl := vl) (root := root) (n := n - 1) (md := md + 1) (h0 := h0) hI.1 hnd hyE ht
                refine V.hto hce ?_
                exact V.vreturn cx rfl ⟨rfl, y, ce, _, _, _, lf2, rt2, pa2, _, _, hyE, hyx, hD, hb, rfl⟩ (by decide) (by decide) dJ1_deleteEntry_245
              · exact absurd cz (by decide)
            · refine V.aload_n cx dJ1_deleteEntry_148 rfl 2 rfl ?_
              refine V.get cx kJ25 (tm_e hyE) 5 (by decide) q1032 rfl rfl dJ1_deleteEntry_149 ?_
              refine V.tob (b := true) (by rw [hcy]) ?_
              show V g A κ _ _ 0 0 (tmO E tm (va_up ka x (ka y)) (va_up va x (va y)) (va_up (va_up lf q (some c)) y none) (va_up rt y none) (va_up (va_up pa c (some q)) y none) co vl root (n - 1) (md + 1) h0) 152 [(2, .ref c), (0, .ref tm), (1, .ref y)] [.int (b2 true)]
              refine V.iconst (v := (nI 1)) cx dJ1_deleteEntry_152 (by decide) ?_
              refine V.icmp_ne (tgt := 245) cx dJ1_deleteEntry_153 (by decide) (fun cz => ?_) (fun cz => ?_)
              · exact absurd rfl cz
              · obtain ⟨lf2, hlf2⟩ : ∃ z : Nat → Option Nat, (va_up (va_up lf q (some c)) y none) = z := ⟨_, rfl⟩
                obtain ⟨rt2, hrt2⟩ : ∃ z : Nat → Option Nat, (va_up rt y none) = z := ⟨_, rfl⟩
                obtain ⟨pa2, hpa2⟩ : ∃ z : Nat → Option Nat, (va_up (va_up pa c (some q)) y none) = z := ⟨_, rfl⟩
                refine V.hto (h' := (tmO E tm (va_up ka x (ka y)) (va_up va x (va y)) lf2 rt2 pa2 co vl root (n - 1) (md + 1) h0)) (by rw [hlf2, hrt2, hpa2]) ?_
                show V g A κ _ _ 0 0 (tmO E tm (va_up ka x (ka y)) (va_up va x (va y)) lf2 rt2 pa2 co vl root (n - 1) (md + 1) h0) 156 [(2, .ref c), (0, .ref tm), (1, .ref y)] []
                have hD := Inv.del hI hnd hyE (c := (some c)) (Or.inl ⟨hly, hry⟩) (lf' := lf2) (rt' := rt2) (pa' := pa2) (root' := root)
                  (fun e he hne => by rw [← hlf2]; (try unfold va_up); obtain ⟨i0, i1, i2, i3, i4, i5⟩ := id hI; have k1 := i2 e he; have k2 := i3 e he; have k3 := i4 e he; have k4 := i2 y hyE; have k5 := i3 y hyE; have k6 := i4 y hyE; have k7 := i1 y hyE; have k8 := i1 e he; clear i0 i1 i2 i3 i4 i5; clear hlf2 hrt2 hpa2; grind)
                  (fun e he hne => by rw [← hrt2]; (try unfold va_up); obtain ⟨i0, i1, i2, i3, i4, i5⟩ := id hI; have k1 := i2 e he; have k2 := i3 e he; have k3 := i4 e he; have k4 := i2 y hyE; have k5 := i3 y hyE; have k6 := i4 y hyE; have k7 := i1 y hyE; have k8 := i1 e he; clear i0 i1 i2 i3 i4 i5; clear hlf2 hrt2 hpa2; grind)
                  (fun e he hne => by rw [← hpa2]; (try unfold va_up); obtain ⟨i0, i1, i2, i3, i4, i5⟩ := id hI; have k1 := i2 e he; have k2 := i3 e he; have k3 := i4 e he; have k4 := i2 y hyE; have k5 := i3 y hyE; have k6 := i4 y hyE; have k7 := i1 y hyE; have k8 := i1 e he; clear i0 i1 i2 i3 i4 i5; clear hlf2 hrt2 hpa2; grind) (by rw [if_neg (fun h9 => by have h8 := (hI.2.2.2.2.2.2 y h9).2.1; rw [hpy] at h8; cases h8)])
                obtain ⟨ce, hce⟩ := tm_del' (ka := (va_up ka x (ka y))) (va := (va_up va x (va y))) (lf := lf2) (rt := rt2) (pa := pa2) (co := co) (vl := vl) (root := root) (n := n - 1) (md := md + 1) (h0 := h0) hI.1 hnd hyE ht
                refine V.hto hce ?_
                have ht2 : tm ∉ E.eraseIdx (ix y) := fun e => ht ((mem_del hI.1 hnd hyE tm).mp e).1
                have hc2 : c ∈ E.eraseIdx (ix y) := (mem_del hI.1 hnd hyE c).mpr ⟨hcE, Ne.symm nyc⟩
                show V g A κ _ _ 0 0 (tmO (E.eraseIdx (ix y)) tm (va_up ka x (ka y)) (va_up va x (va y)) lf2 rt2 pa2 co vl root (n - 1) (md + 1) (up h0 y ce)) 156 [(2, .ref c), (0, .ref tm), (1, .ref y)] []
                refine V.aload_n cx dJ1_deleteEntry_156 rfl 1 rfl ?_
                refine V.aload_n cx dJ1_deleteEntry_157 rfl 0 rfl ?_
                refine V.callV (As := [.ref c]) (rest := []) (C := "java/util/TreeMap") cx (m_fixDel l hl g A (E.eraseIdx (ix y)) tm (va_up ka x (ka y)) (va_up va x (va y)) lf2 rt2 pa2 co vl root (n - 1) (md + 1) (up h0 y ce) _ _ _ hD ht2 c (fun r hr => Or.inl (hb r hr)) hc2 none (fun p0 h9 => by cases h9) (fun p0 h9 => by cases h9)) rfl q1643 q1645 qs17 (Rv.of kJ1 (tm_t ht2)) (na := 1) rfl (by decide +kernel) (Nat.le_of_ble_eq_true rfl) (by decide) (by decide) (by decide) rfl dJ1_deleteEntry_158 (fun _ _ _ hx => hx.elim) (fun v13 h14 hp => ?_)
                obtain ⟨rfl, lo', hi', lf', rt', pa', co', root', hI', hb', -, rfl⟩ := hp
                show V g A κ _ _ 0 0 (tmO (E.eraseIdx (ix y)) tm (va_up ka x (ka y)) (va_up va x (va y)) lf' rt' pa' co' vl root' (n - 1) (md + 1) (up h0 y ce)) 161 [(2, .ref c), (0, .ref tm), (1, .ref y)] []
                refine V.goto (tgt := 245) cx dJ1_deleteEntry_161 (by decide) ?_
                exact V.vreturn cx rfl ⟨rfl, y, ce, _, lo', hi', lf', rt', pa', co', root', hyE, hyx, hI', hb', rfl⟩ (by decide) (by decide) dJ1_deleteEntry_245
    · have hry : rt y = none := hyl.resolve_left (by rw [hly]; simp)
      have k0 := (hI.2.2.1 y hyE).2 c hly
      have hcE := k0.1
      have nyc : y ≠ c := fun e => by have h2 := hI.2.1 y hyE; have h3 := hI.2.1 c hcE; rw [← e] at k0; omega
      refine V.aload_n cx dJ1_deleteEntry_57 rfl 1 rfl ?_
      refine V.get cx kJ25 (tm_e hyE) 2 (by decide) q1027 rfl rfl dJ1_deleteEntry_58 ?_
      refine V.toq (o' := (some c)) (by rw [hly]) ?_
      show V g A κ _ _ 0 0 (tmO E tm (va_up ka x (ka y)) (va_up va x (va y)) lf rt pa co vl root (n - 1) (md + 1) h0) 61 [(0, .ref tm), (1, .ref y)] [.ref c]
      refine V.ifnull cx dJ1_deleteEntry_61 ?_
      refine V.aload_n cx dJ1_deleteEntry_64 rfl 1 rfl ?_
      refine V.get cx kJ25 (tm_e hyE) 2 (by decide) q1027 rfl rfl dJ1_deleteEntry_65 ?_
      refine V.toq (o' := (some c)) (by rw [hly]) ?_
      show V g A κ _ _ 0 0 (tmO E tm (va_up ka x (ka y)) (va_up va x (va y)) lf rt pa co vl root (n - 1) (md + 1) h0) 68 [(0, .ref tm), (1, .ref y)] [.ref c]
      refine V.goto (tgt := 75) cx dJ1_deleteEntry_68 (by decide) ?_
      refine V.astore_n (lv' := [(2, .ref c), (0, .ref tm), (1, .ref y)]) cx dJ1_deleteEntry_75 rfl (by decide) rfl ?_
      refine V.aload_n cx dJ1_deleteEntry_76 rfl 0 rfl ?_
      refine V.ifnull cx dJ1_deleteEntry_77 ?_
      rcases opt_c (pa y) with hpy | ⟨q, hpy⟩
      · refine V.aload_n cx dJ1_deleteEntry_80 rfl 0 rfl ?_
        refine V.aload_n cx dJ1_deleteEntry_81 rfl 2 rfl ?_
        refine V.get cx kJ25 (tm_e hyE) 4 (by decide) q1030 rfl rfl dJ1_deleteEntry_82 ?_
        refine V.toq (o' := none) (by rw [hpy]) ?_
        show V g A κ _ _ 0 0 (tmO E tm (va_up ka x (ka y)) (va_up va x (va y)) lf rt pa co vl root (n - 1) (md + 1) h0) 85 [(2, .ref c), (0, .ref tm), (1, .ref y)] [.null, .ref c]
        refine V.put (ty := tyJ25 4) cx kJ25 (tm_e hcE) 4 (by decide) rfl (tyJ25_ok 4 (by decide)) rfl rfl (Nat.le_of_ble_eq_true rfl) q1030 rfl dJ1_deleteEntry_85 ?_
        refine V.hto (tm_pa (o := none) hcE) ?_
        show V g A κ _ _ 0 0 (tmO E tm (va_up ka x (ka y)) (va_up va x (va y)) lf rt (va_up pa c none) co vl root (n - 1) (md + 1) h0) 88 [(2, .ref c), (0, .ref tm), (1, .ref y)] []
        refine V.aload_n cx dJ1_deleteEntry_88 rfl 2 rfl ?_
        refine V.get cx kJ25 (tm_e hyE) 4 (by decide) q1030 rfl rfl dJ1_deleteEntry_89 ?_
        refine V.toq (o' := none) (by rw [va_up_ne _ _ nyc, hpy]) ?_
        show V g A κ _ _ 0 0 (tmO E tm (va_up ka x (ka y)) (va_up va x (va y)) lf rt (va_up pa c none) co vl root (n - 1) (md + 1) h0) 92 [(2, .ref c), (0, .ref tm), (1, .ref y)] [.null]
        refine V.ifnonnullN cx dJ1_deleteEntry_92 ?_
        refine V.aload_n cx dJ1_deleteEntry_95 rfl 1 rfl ?_
        refine V.aload_n cx dJ1_deleteEntry_96 rfl 0 rfl ?_
        refine V.put (ty := tyJ1 3) cx kJ1 (tm_t ht) 3 (by decide) rfl (tyJ1_ok 3 (by decide)) rfl rfl (Nat.le_of_ble_eq_true rfl) q158 rfl dJ1_deleteEntry_97 ?_
        refine V.hto (tm_tm (vl' := vl) (root' := (some c)) (n' := n - 1) (md' := (md + 1)) ht) ?_
        show V g A κ _ _ 0 0 (tmO E tm (va_up ka x (ka y)) (va_up va x (va y)) lf rt (va_up pa c none) co vl (some c) (n - 1) (md + 1) h0) 100 [(2, .ref c), (0, .ref tm), (1, .ref y)] []
        refine V.goto (tgt := 133) cx dJ1_deleteEntry_100 (by decide) ?_
        refine V.aload_n cx dJ1_deleteEntry_133 rfl 2 rfl ?_
        refine V.aload_n cx dJ1_deleteEntry_134 rfl 2 rfl ?_
        refine V.aload_n cx dJ1_deleteEntry_135 rfl 2 rfl ?_
        refine V.null cx dJ1_deleteEntry_136 ?_
        refine V.dup_x1 cx dJ1_deleteEntry_137 rfl rfl ?_
        refine V.put (ty := tyJ25 4) cx kJ25 (tm_e hyE) 4 (by decide) rfl (tyJ25_ok 4 (by decide)) rfl rfl (Nat.le_of_ble_eq_true rfl) q1030 rfl dJ1_deleteEntry_138 ?_
        refine V.hto (tm_pa (o := none) hyE) ?_
        show V g A κ _ _ 0 0 (tmO E tm (va_up ka x (ka y)) (va_up va x (va y)) lf rt (va_up (va_up pa c none) y none) co vl (some c) (n - 1) (md + 1) h0) 141 [(2, .ref c), (0, .ref tm), (1, .ref y)] [.null, .ref y, .ref y]
        refine V.dup_x1 cx dJ1_deleteEntry_141 rfl rfl ?_
        refine V.put (ty := tyJ25 3) cx kJ25 (tm_e hyE) 3 (by decide) rfl (tyJ25_ok 3 (by decide)) rfl rfl (Nat.le_of_ble_eq_true rfl) q1028 rfl dJ1_deleteEntry_142 ?_
        refine V.hto (tm_rt (o := none) hyE) ?_
        show V g A κ _ _ 0 0 (tmO E tm (va_up ka x (ka y)) (va_up va x (va y)) lf (va_up rt y none) (va_up (va_up pa c none) y none) co vl (some c) (n - 1) (md + 1) h0) 145 [(2, .ref c), (0, .ref tm), (1, .ref y)] [.null, .ref y]
        refine V.put (ty := tyJ25 2) cx kJ25 (tm_e hyE) 2 (by decide) rfl (tyJ25_ok 2 (by decide)) rfl rfl (Nat.le_of_ble_eq_true rfl) q1027 rfl dJ1_deleteEntry_145 ?_
        refine V.hto (tm_lf (o := none) hyE) ?_
        show V g A κ _ _ 0 0 (tmO E tm (va_up ka x (ka y)) (va_up va x (va y)) (va_up lf y none) (va_up rt y none) (va_up (va_up pa c none) y none) co vl (some c) (n - 1) (md + 1) h0) 148 [(2, .ref c), (0, .ref tm), (1, .ref y)] []
        rcases (Bool.eq_false_or_eq_true (co y)).symm with hcy | hcy
        · refine V.aload_n cx dJ1_deleteEntry_148 rfl 2 rfl ?_
          refine V.get cx kJ25 (tm_e hyE) 5 (by decide) q1032 rfl rfl dJ1_deleteEntry_149 ?_
          refine V.tob (b := false) (by rw [hcy]) ?_
          show V g A κ _ _ 0 0 (tmO E tm (va_up ka x (ka y)) (va_up va x (va y)) (va_up lf y none) (va_up rt y none) (va_up (va_up pa c none) y none) co vl (some c) (n - 1) (md + 1) h0) 152 [(2, .ref c), (0, .ref tm), (1, .ref y)] [.int (b2 false)]
          refine V.iconst (v := (nI 1)) cx dJ1_deleteEntry_152 (by decide) ?_
          refine V.icmp_ne (tgt := 245) cx dJ1_deleteEntry_153 (by decide) (fun cz => ?_) (fun cz => ?_)
          · obtain ⟨lf2, hlf2⟩ : ∃ z : Nat → Option Nat, (va_up lf y none) = z := ⟨_, rfl⟩
            obtain ⟨rt2, hrt2⟩ : ∃ z : Nat → Option Nat, (va_up rt y none) = z := ⟨_, rfl⟩
            obtain ⟨pa2, hpa2⟩ : ∃ z : Nat → Option Nat, (va_up (va_up pa c none) y none) = z := ⟨_, rfl⟩
            refine V.hto (h' := (tmO E tm (va_up ka x (ka y)) (va_up va x (va y)) lf2 rt2 pa2 co vl (some c) (n - 1) (md + 1) h0)) (by rw [hlf2, hrt2, hpa2]) ?_
            show V g A κ _ _ 0 0 (tmO E tm (va_up ka x (ka y)) (va_up va x (va y)) lf2 rt2 pa2 co vl (some c) (n - 1) (md + 1) h0) 245 [(2, .ref c), (0, .ref tm), (1, .ref y)] []
            have hD := Inv.del hI hnd hyE (c := (some c)) (Or.inr ⟨hry, hly⟩) (lf' := lf2) (rt' := rt2) (pa' := pa2) (root' := (some c))
              (fun e he hne => by rw [← hlf2]; (try unfold va_up); obtain ⟨i0, i1, i2, i3, i4, i5⟩ := id hI; have k1 := i2 e he; have k2 := i3 e he; have k3 := i4 e he; have k4 := i2 y hyE; have k5 := i3 y hyE; have k6 := i4 y hyE; have k7 := i1 y hyE; have k8 := i1 e he; clear i0 i1 i2 i3 i4 i5; clear hlf2 hrt2 hpa2; grind)
              (fun e he hne => by rw [← hrt2]; (try unfold va_up); obtain ⟨i0, i1, i2, i3, i4, i5⟩ := id hI; have k1 := i2 e he; have k2 := i3 e he; have k3 := i4 e he; have k4 := i2 y hyE; have k5 := i3 y hyE; have k6 := i4 y hyE; have k7 := i1 y hyE; have k8 := i1 e he; clear i0 i1 i2 i3 i4 i5; clear hlf2 hrt2 hpa2; grind)
              (fun e he hne => by rw [← hpa2]; (try unfold va_up); obtain ⟨i0, i1, i2, i3, i4, i5⟩ := id hI; have k1 := i2 e he; have k2 := i3 e he; have k3 := i4 e he; have k4 := i2 y hyE; have k5 := i3 y hyE; have k6 := i4 y hyE; have k7 := i1 y hyE; have k8 := i1 e he; clear i0 i1 i2 i3 i4 i5; clear hlf2 hrt2 hpa2; grind) (by have h9 := (hI.2.2.2.2.1 y hyE).1 hpy; rw [if_pos h9])
            obtain ⟨ce, hce⟩ := tm_del' (ka := (va_up ka x (ka y))) (va := (va_up va x (va y))) (lf := lf2) (rt := rt2) (pa := pa2) (co := co) (vl := vl) (root := (some c)) (n := n - 1) (md := md + 1) (h0 := h0) hI.1 hnd hyE ht
            refine V.hto hce ?_
            exact absurd (hb y ((hI.2.2.2.2.1 y hyE).1 hpy)) (by rw [hcy]; simp)
          · exact absurd cz (by decide)
        · refine V.aload_n cx dJ1_deleteEntry_148 rfl 2 rfl ?_
          refine V.get cx kJ25 (tm_e hyE) 5 (by decide) q1032 rfl rfl dJ1_deleteEntry_149 ?_
          refine V.tob (b := true) (by rw [hcy]) ?_
          show V g A κ _ _ 0 0 (tmO E tm (va_up ka x (ka y)) (va_up va x (va y)) (va_up lf y none) (va_up rt y none) (va_up (va_up pa c none) y none) co vl (some c) (n - 1) (md + 1) h0) 152 [(2, .ref c), (0, .ref tm), (1, .ref y)] [.int (b2 true)]
          refine V.iconst (v := (nI 1)) cx dJ1_deleteEntry_152 (by decide) ?_
          refine V.icmp_ne (tgt := 245) cx dJ1_deleteEntry_153 (by decide) (fun cz => ?_) (fun cz => ?_)
          · exact absurd rfl cz
          · obtain ⟨lf2, hlf2⟩ : ∃ z : Nat → Option Nat, (va_up lf y none) = z := ⟨_, rfl⟩
            obtain ⟨rt2, hrt2⟩ : ∃ z : Nat → Option Nat, (va_up rt y none) = z := ⟨_, rfl⟩
            obtain ⟨pa2, hpa2⟩ : ∃ z : Nat → Option Nat, (va_up (va_up pa c none) y none) = z := ⟨_, rfl⟩
            refine V.hto (h' := (tmO E tm (va_up ka x (ka y)) (va_up va x (va y)) lf2 rt2 pa2 co vl (some c) (n - 1) (md + 1) h0)) (by rw [hlf2, hrt2, hpa2]) ?_
            show V g A κ _ _ 0 0 (tmO E tm (va_up ka x (ka y)) (va_up va x (va y)) lf2 rt2 pa2 co vl (some c) (n - 1) (md + 1) h0) 156 [(2, .ref c), (0, .ref tm), (1, .ref y)] []
            have hD := Inv.del hI hnd hyE (c := (some c)) (Or.inr ⟨hry, hly⟩) (lf' := lf2) (rt' := rt2) (pa' := pa2) (root' := (some c))
              (fun e he hne => by rw [← hlf2]; (try unfold va_up); obtain ⟨i0, i1, i2, i3, i4, i5⟩ := id hI; have k1 := i2 e he; have k2 := i3 e he; have k3 := i4 e he; have k4 := i2 y hyE; have k5 := i3 y hyE; have k6 := i4 y hyE; have k7 := i1 y hyE; have k8 := i1 e he; clear i0 i1 i2 i3 i4 i5; clear hlf2 hrt2 hpa2; grind)
              (fun e he hne => by rw [← hrt2]; (try unfold va_up); obtain ⟨i0, i1, i2, i3, i4, i5⟩ := id hI; have k1 := i2 e he; have k2 := i3 e he; have k3 := i4 e he; have k4 := i2 y hyE; have k5 := i3 y hyE; have k6 := i4 y hyE; have k7 := i1 y hyE; have k8 := i1 e he; clear i0 i1 i2 i3 i4 i5; clear hlf2 hrt2 hpa2; grind)
              (fun e he hne => by rw [← hpa2]; (try unfold va_up); obtain ⟨i0, i1, i2, i3, i4, i5⟩ := id hI; have k1 := i2 e he; have k2 := i3 e he; have k3 := i4 e he; have k4 := i2 y hyE; have k5 := i3 y hyE; have k6 := i4 y hyE; have k7 := i1 y hyE; have k8 := i1 e he; clear i0 i1 i2 i3 i4 i5; clear hlf2 hrt2 hpa2; grind) (by have h9 := (hI.2.2.2.2.1 y hyE).1 hpy; rw [if_pos h9])
            obtain ⟨ce, hce⟩ := tm_del' (ka := (va_up ka x (ka y))) (va := (va_up va x (va y))) (lf := lf2) (rt := rt2) (pa := pa2) (co := co) (vl := vl) (root := (some c)) (n := n - 1) (md := md + 1) (h0 := h0) hI.1 hnd hyE ht
            refine V.hto hce ?_
            have ht2 : tm ∉ E.eraseIdx (ix y) := fun e => ht ((mem_del hI.1 hnd hyE tm).mp e).1
            have hc2 : c ∈ E.eraseIdx (ix y) := (mem_del hI.1 hnd hyE c).mpr ⟨hcE, Ne.symm nyc⟩
            show V g A κ _ _ 0 0 (tmO (E.eraseIdx (ix y)) tm (va_up ka x (ka y)) (va_up va x (va y)) lf2 rt2 pa2 co vl (some c) (n - 1) (md + 1) (up h0 y ce)) 156 [(2, .ref c), (0, .ref tm), (1, .ref y)] []
            refine V.aload_n cx dJ1_deleteEntry_156 rfl 1 rfl ?_
            refine V.aload_n cx dJ1_deleteEntry_157 rfl 0 rfl ?_
            refine V.callV (As := [.ref c]) (rest := []) (C := "java/util/TreeMap") cx (m_fixDel l hl g A (E.eraseIdx (ix y)) tm (va_up ka x (ka y)) (va_up va x (va y)) lf2 rt2 pa2 co vl (some c) (n - 1) (md + 1) (up h0 y ce) _ _ _ hD ht2 c (fun r hr => Or.inr (Option.some.inj hr)) hc2 none (fun p0 h9 => by cases h9) (fun p0 h9 => by cases h9)) rfl q1643 q1645 qs17 (Rv.of kJ1 (tm_t ht2)) (na := 1) rfl (by decide +kernel) (Nat.le_of_ble_eq_true rfl) (by decide) (by decide) (by decide) rfl dJ1_deleteEntry_158 (fun _ _ _ hx => hx.elim) (fun v3 h4 hp => ?_)
            obtain ⟨rfl, lo', hi', lf', rt', pa', co', root', hI', hb', -, rfl⟩ := hp
            show V g A κ _ _ 0 0 (tmO (E.eraseIdx (ix y)) tm (va_up ka x (ka y)) (va_up va x (va y)) lf' rt' pa' co' vl root' (n - 1) (md + 1) (up h0 y ce)) 161 [(2, .ref c), (0, .ref tm), (1, .ref y)] []
            refine V.goto (tgt := 245) cx dJ1_deleteEntry_161 (by decide) ?_
            exact V.vreturn cx rfl ⟨rfl, y, ce, _, lo', hi', lf', rt', pa', co', root', hyE, hyx, hI', hb', rfl⟩ (by decide) (by decide) dJ1_deleteEntry_245
      · have k9 := (hI.2.2.2.2.1 y hyE).2 q hpy
        have hqE := k9.1
        have nqy : q ≠ y := fun e => by have h1 := hI.2.1 y hyE; subst e; rcases k9.2 with h2 | h2; exact absurd ((hI.2.2.1 q hqE).2 q h2).2.2.2 (by omega); exact absurd ((hI.2.2.2.1 q hqE).2 q h2).2.2.1 (by omega)
        have nqc : q ≠ c := fun e => by subst e; have h3 := hI.2.1 y hyE; have h4 := hI.2.1 q hqE; rcases k9.2 with h5 | h5; have h6 := (hI.2.2.1 q hqE).2 y h5; omega; have h6 := (hI.2.2.2.1 q hqE).2 y h5; omega
        refine V.aload_n cx dJ1_deleteEntry_80 rfl 0 rfl ?_
        refine V.aload_n cx dJ1_deleteEntry_81 rfl 2 rfl ?_
        refine V.get cx kJ25 (tm_e hyE) 4 (by decide) q1030 rfl rfl dJ1_deleteEntry_82 ?_
        refine V.toq (o' := (some q)) (by rw [hpy]) ?_
        show V g A κ _ _ 0 0 (tmO E tm (va_up ka x (ka y)) (va_up va x (va y)) lf rt pa co vl root (n - 1) (md + 1) h0) 85 [(2, .ref c), (0, .ref tm), (1, .ref y)] [.ref q, .ref c]
        refine V.put (ty := tyJ25 4) cx kJ25 (tm_e hcE) 4 (by decide) rfl (tyJ25_ok 4 (by decide)) rfl rfl (Nat.le_of_ble_eq_true rfl) q1030 rfl dJ1_deleteEntry_85 ?_
        refine V.hto (tm_pa (o := (some q)) hcE) ?_
        show V g A κ _ _ 0 0 (tmO E tm (va_up ka x (ka y)) (va_up va x (va y)) lf rt (va_up pa c (some q)) co vl root (n - 1) (md + 1) h0) 88 [(2, .ref c), (0, .ref tm), (1, .ref y)] []
        refine V.aload_n cx dJ1_deleteEntry_88 rfl 2 rfl ?_
        refine V.get cx kJ25 (tm_e hyE) 4 (by decide) q1030 rfl rfl dJ1_deleteEntry_89 ?_
        refine V.toq (o' := (some q)) (by rw [va_up_ne _ _ nyc, hpy]) ?_
        show V g A κ _ _ 0 0 (tmO E tm (va_up ka x (ka y)) (va_up va x (va y)) lf rt (va_up pa c (some q)) co vl root (n - 1) (md + 1) h0) 92 [(2, .ref c), (0, .ref tm), (1, .ref y)] [.ref q]
        refine V.ifnonnull (tgt := 103) cx dJ1_deleteEntry_92 (by decide) ?_
        refine V.aload_n cx dJ1_deleteEntry_103 rfl 2 rfl ?_
        refine V.aload_n cx dJ1_deleteEntry_104 rfl 2 rfl ?_
        refine V.get cx kJ25 (tm_e hyE) 4 (by decide) q1030 rfl rfl dJ1_deleteEntry_105 ?_
        refine V.toq (o' := (some q)) (by rw [va_up_ne _ _ nyc, hpy]) ?_
        show V g A κ _ _ 0 0 (tmO E tm (va_up ka x (ka y)) (va_up va x (va y)) lf rt (va_up pa c (some q)) co vl root (n - 1) (md + 1) h0) 108 [(2, .ref c), (0, .ref tm), (1, .ref y)] [.ref q, .ref y]
        refine V.get cx kJ25 (tm_e hqE) 2 (by decide) q1027 rfl rfl dJ1_deleteEntry_108 ?_
        show V g A κ _ _ 0 0 (tmO E tm (va_up ka x (ka y)) (va_up va x (va y)) lf rt (va_up pa c (some q)) co vl root (n - 1) (md + 1) h0) 111 [(2, .ref c), (0, .ref tm), (1, .ref y)] [va_rf (lf q), .ref y]
        refine V.acmp_ne (rx := (some y)) (ry := (lf q)) (tgt := 125) cx dJ1_deleteEntry_111 (by decide) (fun cl => ?_) (fun cl => ?_)
        · refine V.aload_n cx dJ1_deleteEntry_125 rfl 2 rfl ?_
          refine V.get cx kJ25 (tm_e hyE) 4 (by decide) q1030 rfl rfl dJ1_deleteEntry_126 ?_
          refine V.toq (o' := (some q)) (by rw [va_up_ne _ _ nyc, hpy]) ?_
          show V g A κ _ _ 0 0 (tmO E tm (va_up ka x (ka y)) (va_up va x (va y)) lf rt (va_up pa c (some q)) co vl root (n - 1) (md + 1) h0) 129 [(2, .ref c), (0, .ref tm), (1, .ref y)] [.ref q]
          refine V.aload_n cx dJ1_deleteEntry_129 rfl 0 rfl ?_
          refine V.put (ty := tyJ25 3) cx kJ25 (tm_e hqE) 3 (by decide) rfl (tyJ25_ok 3 (by decide)) rfl rfl (Nat.le_of_ble_eq_true rfl) q1028 rfl dJ1_deleteEntry_130 ?_
          refine V.hto (tm_rt (o := (some c)) hqE) ?_
          show V g A κ _ _ 0 0 (tmO E tm (va_up ka x (ka y)) (va_up va x (va y)) lf (va_up rt q (some c)) (va_up pa c (some q)) co vl root (n - 1) (md + 1) h0) 133 [(2, .ref c), (0, .ref tm), (1, .ref y)] []
          refine V.aload_n cx dJ1_deleteEntry_133 rfl 2 rfl ?_
          refine V.aload_n cx dJ1_deleteEntry_134 rfl 2 rfl ?_
          refine V.aload_n cx dJ1_deleteEntry_135 rfl 2 rfl ?_
          refine V.null cx dJ1_deleteEntry_136 ?_
          refine V.dup_x1 cx dJ1_deleteEntry_137 rfl rfl ?_
          refine V.put (ty := tyJ25 4) cx kJ25 (tm_e hyE) 4 (by decide) rfl (tyJ25_ok 4 (by decide)) rfl rfl (Nat.le_of_ble_eq_true rfl) q1030 rfl dJ1_deleteEntry_138 ?_
          refine V.hto (tm_pa (o := none) hyE) ?_
          show V g A κ _ _ 0 0 (tmO E tm (va_up ka x (ka y)) (va_up va x (va y)) lf (va_up rt q (some c)) (va_up (va_up pa c (some q)) y none) co vl root (n - 1) (md + 1) h0) 141 [(2, .ref c), (0, .ref tm), (1, .ref y)] [.null, .ref y, .ref y]
          refine V.dup_x1 cx dJ1_deleteEntry_141 rfl rfl ?_
          refine V.put (ty := tyJ25 3) cx kJ25 (tm_e hyE) 3 (by decide) rfl (tyJ25_ok 3 (by decide)) rfl rfl (Nat.le_of_ble_eq_true rfl) q1028 rfl dJ1_deleteEntry_142 ?_
          refine V.hto (tm_rt (o := none) hyE) ?_
          show V g A κ _ _ 0 0 (tmO E tm (va_up ka x (ka y)) (va_up va x (va y)) lf (va_up (va_up rt q (some c)) y none) (va_up (va_up pa c (some q)) y none) co vl root (n - 1) (md + 1) h0) 145 [(2, .ref c), (0, .ref tm), (1, .ref y)] [.null, .ref y]
          refine V.put (ty := tyJ25 2) cx kJ25 (tm_e hyE) 2 (by decide) rfl (tyJ25_ok 2 (by decide)) rfl rfl (Nat.le_of_ble_eq_true rfl) q1027 rfl dJ1_deleteEntry_145 ?_
          refine V.hto (tm_lf (o := none) hyE) ?_
          show V g A κ _ _ 0 0 (tmO E tm (va_up ka x (ka y)) (va_up va x (va y)) (va_up lf y none) (va_up (va_up rt q (some c)) y none) (va_up (va_up pa c (some q)) y none) co vl root (n - 1) (md + 1) h0) 148 [(2, .ref c), (0, .ref tm), (1, .ref y)] []
          rcases (Bool.eq_false_or_eq_true (co y)).symm with hcy | hcy
          · refine V.aload_n cx dJ1_deleteEntry_148 rfl 2 rfl ?_
            refine V.get cx kJ25 (tm_e hyE) 5 (by decide) q1032 rfl rfl dJ1_deleteEntry_149 ?_
            refine V.tob (b := false) (by rw [hcy]) ?_
            show V g A κ _ _ 0 0 (tmO E tm (va_up ka x (ka y)) (va_up va x (va y)) (va_up lf y none) (va_up (va_up rt q (some c)) y none) (va_up (va_up pa c (some q)) y none) co vl root (n - 1) (md + 1) h0) 152 [(2, .ref c), (0, .ref tm), (1, .ref y)] [.int (b2 false)]
            refine V.iconst (v := (nI 1)) cx dJ1_deleteEntry_152 (by decide) ?_
            refine V.icmp_ne (tgt := 245) cx dJ1_deleteEntry_153 (by decide) (fun cz => ?_) (fun cz => ?_)
            · obtain ⟨lf2, hlf2⟩ : ∃ z : Nat → Option Nat, (va_up lf y none) = z := ⟨_, rfl⟩
              obtain ⟨rt2, hrt2⟩ : ∃ z : Nat → Option Nat, (va_up (va_up rt q (some c)) y none) = z := ⟨_, rfl⟩
              obtain ⟨pa2, hpa2⟩ : ∃ z : Nat → Option Nat, (va_up (va_up pa c (some q)) y none) = z := ⟨_, rfl⟩
              refine V.hto (h' := (tmO E tm (va_up ka x (ka y)) (va_up va x (va y)) lf2 rt2 pa2 co vl root (n - 1) (md + 1) h0)) (by rw [hlf2, hrt2, hpa2]) ?_
              show V g A κ _ _ 0 0 (tmO E tm (va_up ka x (ka y)) (va_up va x (va y)) lf2 rt2 pa2 co vl root (n - 1) (md + 1) h0) 245 [(2, .ref c), (0, .ref tm), (1, .ref y)] []
              have hD := Inv.del hI hnd hyE (c := (some c)) (Or.inr ⟨hry, hly⟩) (lf' := lf2) (rt' := rt2) (pa' := pa2) (root' := root)
                (fun e he hne => by rw [← hlf2]; (try unfold va_up); obtain ⟨i0, i1, i2, i3, i4, i5⟩ := id hI; have k1 := i2 e he; have k2 := i3 e he; have k3 := i4 e he; have k4 := i2 y hyE; have k5 := i3 y hyE; have k6 := i4 y hyE; have k7 := i1 y hyE; have k8 := i1 e he; clear i0 i1 i2 i3 i4 i5; clear hlf2 hrt2 hpa2; grind)
                (fun e he hne => by rw [← hrt2]; (try unfold va_up); obtain ⟨i0, i1, i2, i3, i4, i5⟩ := id hI; have k1 := i2 e he; have k2 := i3 e he; have k3 := i4 e he; have k4 := i2 y hyE; have k5 := i3 y hyE; have k6 := i4 y hyE; have k7 := i1 y hyE; have k8 := i1 e he; clear i0 i1 i2 i3 i4 i5; clear hlf2 hrt2 hpa2; grind)
                (fun e he hne => by rw [← hpa2]; (try unfold va_up); obtain ⟨i0, i1, i2, i3, i4, i5⟩ := id hI; have k1 := i2 e he; have k2 := i3 e he; have k3 := i4 e he; have k4 := i2 y hyE; have k5 := i3 y hyE; have k6 := i4 y hyE; have k7 := i1 y hyE; have k8 := i1 e he; clear i0 i1 i2 i3 i4 i5; clear hlf2 hrt2 hpa2; grind) (by rw [if_neg (fun h9 => by have h8 := (hI.2.2.2.2.2.2 y h9).2.1; rw [hpy] at h8; cases h8)])
              obtain ⟨ce, hce⟩ := tm_del' (ka := (va_up ka x (ka y))) (va := (va_up va x (va y))) (lf := lf2) (rt := rt2) (pa := pa2) (co := co) (vl := vl) (root := root) (n := n - 1) (md := md + 1) (h0 := h0) hI.1 hnd hyE ht
              refine V.hto hce ?_
              exact V.vreturn cx rfl ⟨rfl, y, ce, _, _, _, lf2, rt2, pa2, _, _, hyE, hyx, hD, hb, rfl⟩ (by decide) (by decide) dJ1_deleteEntry_245
            · exact absurd cz (by decide)
          · refine V.aload_n cx dJ1_deleteEntry_148 rfl 2 rfl ?_
            refine V.get cx kJ25 (tm_e hyE) 5 (by decide) q1032 rfl rfl dJ1_deleteEntry_149 ?_
            refine V.tob (b := true) (by rw [hcy]) ?_
            show V g A κ _ _ 0 0 (tmO E tm (va_up ka x (ka y)) (va_up va x (va y)) (va_up lf y none) (va_up (va_up rt q (some c)) y none) (va_up (va_up pa c (some q)) y none) co vl root (n - 1) (md + 1) h0) 152 [(2, .ref c), (0, .ref tm), (1, .ref y)] [.int (b2 true)]
            refine V.iconst (v := (nI 1)) cx dJ1_deleteEntry_152 (by decide) ?_
            refine V.icmp_ne (tgt := 245) cx dJ1_deleteEntry_153 (by decide) (fun cz => ?_) (fun cz => ?_)
            · exact absurd rfl cz
            · obtain ⟨lf2, hlf2⟩ : ∃ z : Nat → Option Nat, (va_up lf y none) = z := ⟨_, rfl⟩
              obtain ⟨rt2, hrt2⟩ : ∃ z : Nat → Option Nat, (va_up (va_up rt q (some c)) y none) = z := ⟨_, rfl⟩
              obtain ⟨pa2, hpa2⟩ : ∃ z : Nat → Option Nat, (va_up (va_up pa c (some q)) y none) = z := ⟨_, rfl⟩
              refine V.hto (h' := (tmO E tm (va_up ka x (ka y)) (va_up va x (va y)) lf2 rt2 pa2 co vl root (n - 1) (md + 1) h0)) (by rw [hlf2, hrt2, hpa2]) ?_
              show V g A κ _ _ 0 0 (tmO E tm (va_up ka x (ka y)) (va_up va x (va y)) lf2 rt2 pa2 co vl root (n - 1) (md + 1) h0) 156 [(2, .ref c), (0, .ref tm), (1, .ref y)] []
              have hD := Inv.del hI hnd hyE (c := (some c)) (Or.inr ⟨hry, hly⟩) (lf' := lf2) (rt' := rt2) (pa' := pa2) (root' := root)
                (fun e he hne => by rw [← hlf2]; (try unfold va_up); obtain ⟨i0, i1, i2, i3, i4, i5⟩ := id hI; have k1 := i2 e he; have k2 := i3 e he; have k3 := i4 e he; have k4 := i2 y hyE; have k5 := i3 y hyE; have k6 := i4 y hyE; have k7 := i1 y hyE; have k8 := i1 e he; clear i0 i1 i2 i3 i4 i5; clear hlf2 hrt2 hpa2; grind)
                (fun e he hne => by rw [← hrt2]; (try unfold va_up); obtain ⟨i0, i1, i2, i3, i4, i5⟩ := id hI; have k1 := i2 e he; have k2 := i3 e he; have k3 := i4 e he; have k4 := i2 y hyE; have k5 := i3 y hyE; have k6 := i4 y hyE; have k7 := i1 y hyE; have k8 := i1 e he; clear i0 i1 i2 i3 i4 i5; clear hlf2 hrt2 hpa2; grind)
                (fun e he hne => by rw [← hpa2]; (try unfold va_up); obtain ⟨i0, i1, i2, i3, i4, i5⟩ := id hI; have k1 := i2 e he; have k2 := i3 e he; have k3 := i4 e he; have k4 := i2 y hyE; have k5 := i3 y hyE; have k6 := i4 y hyE; have k7 := i1 y hyE; have k8 := i1 e he; clear i0 i1 i2 i3 i4 i5; clear hlf2 hrt2 hpa2; grind) (by rw [if_neg (fun h9 => by have h8 := (hI.2.2.2.2.2.2 y h9).2.1; rw [hpy] at h8; cases h8)])
              obtain ⟨ce, hce⟩ := tm_del' (ka := (va_up ka x (ka y))) (va := (va_up va x (va y))) (lf := lf2) (rt := rt2) (pa := pa2) (co := co) (vl := vl) (root := root) (n := n - 1) (md := md + 1) (h0 := h0) hI.1 hnd hyE ht
              refine V.hto hce ?_
              have ht2 : tm ∉ E.eraseIdx (ix y) := fun e => ht ((mem_del hI.1 hnd hyE tm).mp e).1
              have hc2 : c ∈ E.eraseIdx (ix y) := (mem_del hI.1 hnd hyE c).mpr ⟨hcE, Ne.symm nyc⟩
              show V g A κ _ _ 0 0 (tmO (E.eraseIdx (ix y)) tm (va_up ka x (ka y)) (va_up va x (va y)) lf2 rt2 pa2 co vl root (n - 1) (md + 1) (up h0 y ce)) 156 [(2, .ref c), (0, .ref tm), (1, .ref y)] []
              refine V.aload_n cx dJ1_deleteEntry_156 rfl 1 rfl ?_
              refine V.aload_n cx dJ1_deleteEntry_157 rfl 0 rfl ?_
              refine V.callV (As := [.ref c]) (rest := []) (C := "java/util/TreeMap") cx (m_fixDel l hl g A (E.eraseIdx (ix y)) tm (va_up ka x (ka y)) (va_up va x (va y)) lf2 rt2 pa2 co vl root (n - 1) (md + 1) (up h0 y ce) _ _ _ hD ht2 c (fun r hr => Or.inl (hb r hr)) hc2 none (fun p0 h9 => by cases h9) (fun p0 h9 => by cases h9)) rfl q1643 q1645 qs17 (Rv.of kJ1 (tm_t ht2)) (na := 1) rfl (by decide +kernel) (Nat.le_of_ble_eq_true rfl) (by decide) (by decide) (by decide) rfl dJ1_deleteEntry_158 (fun _ _ _ hx => hx.elim) (fun v5 h6 hp => ?_)
              obtain ⟨rfl, lo', hi', lf', rt', pa', co', root', hI', hb', -, rfl⟩ := hp
              show V g A κ _ _ 0 0 (tmO (E.eraseIdx (ix y)) tm (va_up ka x (ka y)) (va_up va x (va y)) lf' rt' pa' co' vl root' (n - 1) (md + 1) (up h0 y ce)) 161 [(2, .ref c), (0, .ref tm), (1, .ref y)] []
              refine V.goto (tgt := 245) cx dJ1_deleteEntry_161 (by decide) ?_
              exact V.vreturn cx rfl ⟨rfl, y, ce, _, lo', hi', lf', rt', pa', co', root', hyE, hyx, hI', hb', rfl⟩ (by decide) (by decide) dJ1_deleteEntry_245
        · refine V.aload_n cx dJ1_deleteEntry_114 rfl 2 rfl ?_
          refine V.get cx kJ25 (tm_e hyE) 4 (by decide) q1030 rfl rfl dJ1_deleteEntry_115 ?_
          refine V.toq (o' := (some q)) (by rw [va_up_ne _ _ nyc, hpy]) ?_
          show V g A κ _ _ 0 0 (tmO E tm (va_up ka x (ka y)) (va_up va x (va y)) lf rt (va_up pa c (some q)) co vl root (n - 1) (md + 1) h0) 118 [(2, .ref c), (0, .ref tm), (1, .ref y)] [.ref q]
          refine V.aload_n cx dJ1_deleteEntry_118 rfl 0 rfl ?_
          refine V.put (ty := tyJ25 2) cx kJ25 (tm_e hqE) 2 (by decide) rfl (tyJ25_ok 2 (by decide)) rfl rfl (Nat.le_of_ble_eq_true rfl) q1027 rfl dJ1_deleteEntry_119 ?_
          refine V.hto (tm_lf (o := (some c)) hqE) ?_
          show V g A κ _ _ 0 0 (tmO E tm (va_up ka x (ka y)) (va_up va x (va y)) (va_up lf q (some c)) rt (va_up pa c (some q)) co vl root (n - 1) (md + 1) h0) 122 [(2, .ref c), (0, .ref tm), (1, .ref y)] []
          refine V.goto (tgt := 133) cx dJ1_deleteEntry_122 (by decide) ?_
          refine V.aload_n cx dJ1_deleteEntry_133 rfl 2 rfl ?_
          refine V.aload_n cx dJ1_deleteEntry_134 rfl 2 rfl ?_
          refine V.aload_n cx dJ1_deleteEntry_135 rfl 2 rfl ?_
          refine V.null cx dJ1_deleteEntry_136 ?_
          refine V.dup_x1 cx dJ1_deleteEntry_137 rfl rfl ?_
          refine V.put (ty := tyJ25 4) cx kJ25 (tm_e hyE) 4 (by decide) rfl (tyJ25_ok 4 (by decide)) rfl rfl (Nat.le_of_ble_eq_true rfl) q1030 rfl dJ1_deleteEntry_138 ?_
          refine V.hto (tm_pa (o := none) hyE) ?_
          show V g A κ _ _ 0 0 (tmO E tm (va_up ka x (ka y)) (va_up va x (va y)) (va_up lf q (some c)) rt (va_up (va_up pa c (some q)) y none) co vl root (n - 1) (md + 1) h0) 141 [(2, .ref c), (0, .ref tm), (1, .ref y)] [.null, .ref y, .ref y]
          refine V.dup_x1 cx dJ1_deleteEntry_141 rfl rfl ?_
          refine V.put (ty := tyJ25 3) cx kJ25 (tm_e hyE) 3 (by decide) rfl (tyJ25_ok 3 (by decide)) rfl rfl (Nat.le_of_ble_eq_true rfl) q1028 rfl dJ1_deleteEntry_142 ?_
          refine V.hto (tm_rt (o := none) hyE) ?_
          show V g A κ _ _ 0 0 (tmO E tm (va_up ka x (ka y)) (va_up va x (va y)) (va_up lf q (some c)) (va_up rt y none) (va_up (va_up pa c (some q)) y none) co vl root (n - 1) (md + 1) h0) 145 [(2, .ref c), (0, .ref tm), (1, .ref y)] [.null, .ref y]
          refine V.put (ty := tyJ25 2) cx kJ25 (tm_e hyE) 2 (by decide) rfl (tyJ25_ok 2 (by decide)) rfl rfl (Nat.le_of_ble_eq_true rfl) q1027 rfl dJ1_deleteEntry_145 ?_
          refine V.hto (tm_lf (o := none) hyE) ?_
          show V g A κ _ _ 0 0 (tmO E tm (va_up ka x (ka y)) (va_up va x (va y)) (va_up (va_up lf q (some c)) y none) (va_up rt y none) (va_up (va_up pa c (some q)) y none) co vl root (n - 1) (md + 1) h0) 148 [(2, .ref c), (0, .ref tm), (1, .ref y)] []
          rcases (Bool.eq_false_or_eq_true (co y)).symm with hcy | hcy
          · refine V.aload_n cx dJ1_deleteEntry_148 rfl 2 rfl ?_
            refine V.get cx kJ25 (tm_e hyE) 5 (by decide) q1032 rfl rfl dJ1_deleteEntry_149 ?_
            refine V.tob (b := false) (by rw [hcy]) ?_
            show V g A κ _ _ 0 0 (tmO E tm (va_up ka x (ka y)) (va_up va x (va y)) (va_up (va_up lf q (some c)) y none) (va_up rt y none) (va_up (va_up pa c (some q)) y none) co vl root (n - 1) (md + 1) h0) 152 [(2, .ref c), (0, .ref tm), (1, .ref y)] [.int (b2 false)]
            refine V.iconst (v := (nI 1)) cx dJ1_deleteEntry_152 (by decide) ?_
            refine V.icmp_ne (tgt := 245) cx dJ1_deleteEntry_153 (by decide) (fun cz => ?_) (fun cz => ?_)
            · obtain ⟨lf2, hlf2⟩ : ∃ z : Nat → Option Nat, (va_up (va_up lf q (some c)) y none) = z := ⟨_, rfl⟩
              obtain ⟨rt2, hrt2⟩ : ∃ z : Nat → Option Nat, (va_up rt y none) = z := ⟨_, rfl⟩
              obtain ⟨pa2, hpa2⟩ : ∃ z : Nat → Option Nat, (va_up (va_up pa c (some q)) y none) = z := ⟨_, rfl⟩
              refine V.hto (h' := (tmO E tm (va_up ka x (ka y)) (va_up va x (va y)) lf2 rt2 pa2 co vl root (n - 1) (md + 1) h0)) (by rw [hlf2, hrt2, hpa2]) ?_
              show V g A κ _ _ 0 0 (tmO E tm (va_up ka x (ka y)) (va_up va x (va y)) lf2 rt2 pa2 co vl root (n - 1) (md + 1) h0) 245 [(2, .ref c), (0, .ref tm), (1, .ref y)] []
              have hD := Inv.del hI hnd hyE (c := (some c)) (Or.inr ⟨hry, hly⟩) (lf' := lf2) (rt' := rt2) (pa' := pa2) (root' := root)
                (fun e he hne => by rw [← hlf2]; (try unfold va_up); obtain ⟨i0, i1, i2, i3, i4, i5⟩ := id hI; have k1 := i2 e he; have k2 := i3 e he; have k3 := i4 e he; have k4 := i2 y hyE; have k5 := i3 y hyE; have k6 := i4 y hyE; have k7 := i1 y hyE; have k8 := i1 e he; clear i0 i1 i2 i3 i4 i5; clear hlf2 hrt2 hpa2; grind)
                (fun e he hne => by rw [← hrt2]; (try unfold va_up); obtain ⟨i0, i1, i2, i3, i4, i5⟩ := id hI; have k1 := i2 e he; have k2 := i3 e he; have k3 := i4 e he; have k4 := i2 y hyE; have k5 := i3 y hyE; have k6 := i4 y hyE; have k7 := i1 y hyE; have k8 := i1 e he; clear i0 i1 i2 i3 i4 i5; clear hlf2 hrt2 hpa2; grind)
                (fun e he hne => by rw [← hpa2]; (try unfold va_up); obtain ⟨i0, i1, i2, i3, i4, i5⟩ := id hI; have k1 := i2 e he; have k2 := i3 e he; have k3 := i4 e he; have k4 := i2 y hyE; have k5 := i3 y hyE; have k6 := i4 y hyE; have k7 := i1 y hyE; have k8 := i1 e he; clear i0 i1 i2 i3 i4 i5; clear hlf2 hrt2 hpa2; grind) (by rw [if_neg (fun h9 => by have h8 := (hI.2.2.2.2.2.2 y h9).2.1; rw [hpy] at h8; cases h8)])
              obtain ⟨ce, hce⟩ := tm_del' (ka := (va_up ka x (ka y))) (va := (va_up va x (va y))) (lf := lf2) (rt := rt2) (pa := pa2) (co := co) (vl := vl) (root := root) (n := n - 1) (md := md + 1) (h0 := h0) hI.1 hnd hyE ht
              refine V.hto hce ?_
              exact V.vreturn cx rfl ⟨rfl, y, ce, _, _, _, lf2, rt2, pa2, _, _, hyE, hyx, hD, hb, rfl⟩ (by decide) (by decide) dJ1_deleteEntry_245
            · exact absurd cz (by decide)
          · refine V.aload_n cx dJ1_deleteEntry_148 rfl 2 rfl ?_
            refine V.get cx kJ25 (tm_e hyE) 5 (by decide) q1032 rfl rfl dJ1_deleteEntry_149 ?_
            refine V.tob (b := true) (by rw [hcy]) ?_
            show V g A κ _ _ 0 0 (tmO E tm (va_up ka x (ka y)) (va_up va x (va y)) (va_up (va_up lf q (some c)) y none) (va_up rt y none) (va_up (va_up pa c (some q)) y none) co vl root (n - 1) (md + 1) h0) 152 [(2, .ref c), (0, .ref tm), (1, .ref y)] [.int (b2 true)]
            refine V.iconst (v := (nI 1)) cx dJ1_deleteEntry_152 (by decide) ?_
            refine V.icmp_ne (tgt := 245) cx dJ1_deleteEntry_153 (by decide) (fun cz => ?_) (fun cz => ?_)
            · exact absurd rfl cz
            · obtain ⟨lf2, hlf2⟩ : ∃ z : Nat → Option Nat, (va_up (va_up lf q (some c)) y none) = z := ⟨_, rfl⟩
              obtain ⟨rt2, hrt2⟩ : ∃ z : Nat → Option Nat, (va_up rt y none) = z := ⟨_, rfl⟩
              obtain ⟨pa2, hpa2⟩ : ∃ z : Nat → Option Nat, (va_up (va_up pa c (some q)) y none) = z := ⟨_, rfl⟩
              refine V.hto (h' := (tmO E tm (va_up ka x (ka y)) (va_up va x (va y)) lf2 rt2 pa2 co vl root (n - 1) (md + 1) h0)) (by rw [hlf2, hrt2, hpa2]) ?_
              show V g A κ _ _ 0 0 (tmO E tm (va_up ka x (ka y)) (va_up va x (va y)) lf2 rt2 pa2 co vl root (n - 1) (md + 1) h0) 156 [(2, .ref c), (0, .ref tm), (1, .ref y)] []
              have hD := Inv.del hI hnd hyE (c := (some c)) (Or.inr ⟨hry, hly⟩) (lf' := lf2) (rt' := rt2) (pa' := pa2) (root' := root)
                (fun e he hne => by rw [← hlf2]; (try unfold va_up); obtain ⟨i0, i1, i2, i3, i4, i5⟩ := id hI; have k1 := i2 e he; have k2 := i3 e he; have k3 := i4 e he; have k4 := i2 y hyE; have k5 := i3 y hyE; have k6 := i4 y hyE; have k7 := i1 y hyE; have k8 := i1 e he; clear i0 i1 i2 i3 i4 i5; clear hlf2 hrt2 hpa2; grind)
                (fun e he hne => by rw [← hrt2]; (try unfold va_up); obtain ⟨i0, i1, i2, i3, i4, i5⟩ := id hI; have k1 := i2 e he; have k2 := i3 e he; have k3 := i4 e he; have k4 := i2 y hyE; have k5 := i3 y hyE; have k6 := i4 y hyE; have k7 := i1 y hyE; have k8 := i1 e he; clear i0 i1 i2 i3 i4 i5; clear hlf2 hrt2 hpa2; grind)
                (fun e he hne => by rw [← hpa2]; (try unfold va_up); obtain ⟨i0, i1, i2, i3, i4, i5⟩ := id hI; have k1 := i2 e he; have k2 := i3 e he; have k3 := i4 e he; have k4 := i2 y hyE; have k5 := i3 y hyE; have k6 := i4 y hyE; have k7 := i1 y hyE; have k8 := i1 e he; clear i0 i1 i2 i3 i4 i5; clear hlf2 hrt2 hpa2; grind) (by rw [if_neg (fun h9 => by have h8 := (hI.2.2.2.2.2.2 y h9).2.1; rw [hpy] at h8; cases h8)])
              obtain ⟨ce, hce⟩ := tm_del' (ka := (va_up ka x (ka y))) (va := (va_up va x (va y))) (lf := lf2) (rt := rt2) (pa := pa2) (co := co) (vl := vl) (root := root) (n := n - 1) (md := md + 1) (h0 := h0) hI.1 hnd hyE ht
              refine V.hto hce ?_
              have ht2 : tm ∉ E.eraseIdx (ix y) := fun e => ht ((mem_del hI.1 hnd hyE tm).mp e).1
              have hc2 : c ∈ E.eraseIdx (ix y) := (mem_del hI.1 hnd hyE c).mpr ⟨hcE, Ne.symm nyc⟩
              show V g A κ _ _ 0 0 (tmO (E.eraseIdx (ix y)) tm (va_up ka x (ka y)) (va_up va x (va y)) lf2 rt2 pa2 co vl root (n - 1) (md + 1) (up h0 y ce)) 156 [(2, .ref c), (0, .ref tm), (1, .ref y)] []
              refine V.aload_n cx dJ1_deleteEntry_156 rfl 1 rfl ?_
              refine V.aload_n cx dJ1_deleteEntry_157 rfl 0 rfl ?_
              refine V.callV (As := [.ref c]) (rest := []) (C := "java/util/TreeMap") cx (m_fixDel l hl g A (E.eraseIdx (ix y)) tm (va_up ka x (ka y)) (va_up va x (va y)) lf2 rt2 pa2 co vl root (n - 1) (md + 1) (up h0 y ce) _ _ _ hD ht2 c (fun r hr => Or.inl (hb r hr)) hc2 none (fun p0 h9 => by cases h9) (fun p0 h9 => by cases h9)) rfl q1643 q1645 qs17 (Rv.of kJ1 (tm_t ht2)) (na := 1) rfl (by decide +kernel) (Nat.le_of_ble_eq_true rfl) (by decide) (by decide) (by decide) rfl dJ1_deleteEntry_158 (fun _ _ _ hx => hx.elim) (fun v7 h8 hp => ?_)
              obtain ⟨rfl, lo', hi', lf', rt', pa', co', root', hI', hb', -, rfl⟩ := hp
              show V g A κ _ _ 0 0 (tmO (E.eraseIdx (ix y)) tm (va_up ka x (ka y)) (va_up va x (va y)) lf' rt' pa' co' vl root' (n - 1) (md + 1) (up h0 y ce)) 161 [(2, .ref c), (0, .ref tm), (1, .ref y)] []
              refine V.goto (tgt := 245) cx dJ1_deleteEntry_161 (by decide) ?_
              exact V.vreturn cx rfl ⟨rfl, y, ce, _, lo', hi', lf', rt', pa', co', root', hyE, hyx, hI', hb', rfl⟩ (by decide) (by decide) dJ1_deleteEntry_245
  · rcases opt_c (lf x) with hlx | ⟨l9, hlx⟩
    · refine V.aload_n cx dJ1_deleteEntry_20 rfl 1 rfl ?_
      refine V.get cx kJ25 (tm_e hx) 2 (by decide) q1027 rfl rfl dJ1_deleteEntry_21 ?_
      refine V.toq (o' := none) (by rw [hlx]) ?_
      show V g A κ _ _ 0 0 (tmO E tm ka va lf rt pa co vl root (n - 1) (md + (nI 1)) h0) 24 [(0, .ref tm), (1, .ref x)] [.null]
      refine V.ifnullN (tgt := 57) cx dJ1_deleteEntry_24 (by decide) ?_
      exact J_ (x, ka, va) (by dsimp only; exact ⟨hx, Or.inl hlx, Or.inl rfl, va_up_id, va_up_id⟩)
    · refine V.aload_n cx dJ1_deleteEntry_20 rfl 1 rfl ?_
      refine V.get cx kJ25 (tm_e hx) 2 (by decide) q1027 rfl rfl dJ1_deleteEntry_21 ?_
      refine V.toq (o' := (some l9)) (by rw [hlx]) ?_
      show V g A κ _ _ 0 0 (tmO E tm ka va lf rt pa co vl root (n - 1) (md + (nI 1)) h0) 24 [(0, .ref tm), (1, .ref x)] [.ref l9]
      refine V.ifnull cx dJ1_deleteEntry_24 ?_
      refine V.aload_n cx dJ1_deleteEntry_27 rfl 1 rfl ?_
      refine V.get cx kJ25 (tm_e hx) 3 (by decide) q1028 rfl rfl dJ1_deleteEntry_28 ?_
      show V g A κ _ _ 0 0 (tmO E tm ka va lf rt pa co vl root (n - 1) (md + (nI 1)) h0) 31 [(0, .ref tm), (1, .ref x)] [va_rf (rt x)]
      rcases opt_c (rt x) with hr | ⟨r9, hr⟩
      · refine V.toq (o' := none) (by rw [hr]) ?_
        show V g A κ _ _ 0 0 (tmO E tm ka va lf rt pa co vl root (n - 1) (md + (nI 1)) h0) 31 [(0, .ref tm), (1, .ref x)] [.null]
        refine V.ifnullN (tgt := 57) cx dJ1_deleteEntry_31 (by decide) ?_
        exact J_ (x, ka, va) (by dsimp only; exact ⟨hx, Or.inr hr, Or.inl rfl, va_up_id, va_up_id⟩)
      · refine V.toq (o' := (some r9)) (by rw [hr]) ?_
        show V g A κ _ _ 0 0 (tmO E tm ka va lf rt pa co vl root (n - 1) (md + (nI 1)) h0) 31 [(0, .ref tm), (1, .ref x)] [.ref r9]
        refine V.ifnull cx dJ1_deleteEntry_31 ?_
        refine V.aload_n cx dJ1_deleteEntry_34 rfl 1 rfl ?_
        refine V.callS (As := [.ref x]) (rest := []) cx (m_succ l hl g A E tm ka va lf rt pa co vl root (n - 1) (md + (nI 1)) h0 ix lo hi hI x hx) q1642 q555 (na := 1) rfl (by decide +kernel) (Nat.le_of_ble_eq_true rfl) (by decide) (by decide) (by decide) rfl dJ1_deleteEntry_35 (fun _ _ _ hx => hx.elim) (fun v1 h2 hp => ?_)
        obtain ⟨rfl, hS, rfl⟩ := hp
        show V g A κ _ _ 0 0 (tmO E tm ka va lf rt pa co vl root (n - 1) (md + (nI 1)) h0) 38 [(0, .ref tm), (1, .ref x)] [va_rf (E[ix x + 1]?)]
        have hls : ix x + 1 < E.length := by have h1 := (hI.2.2.2.1 x hx).2 r9 hr; have h2 := hI.2.1 r9 h1.1; omega
        obtain ⟨s, hs⟩ : ∃ s, E[ix x + 1]? = some s := ⟨_, List.getElem?_eq_getElem hls⟩
        have hsE : s ∈ E := List.mem_of_getElem? hs
        have hS2 := hS s hs
        have hsl : lf s = none := hS2.2 (by rw [hr]; simp)
        refine V.toq (o' := some s) hs ?_
        show V g A κ _ _ 0 0 (tmO E tm ka va lf rt pa co vl root (n - 1) (md + (nI 1)) h0) 38 [(0, .ref tm), (1, .ref x)] [.ref s]
        refine V.astore_n (lv' := [(2, .ref s), (0, .ref tm), (1, .ref x)]) cx dJ1_deleteEntry_38 rfl (by decide) rfl ?_
        refine V.aload_n cx dJ1_deleteEntry_39 rfl 2 rfl ?_
        refine V.aload_n cx dJ1_deleteEntry_40 rfl 0 rfl ?_
        refine V.get cx kJ25 (tm_e hsE) 0 (by decide) q1023 rfl rfl dJ1_deleteEntry_41 ?_
        show V g A κ _ _ 0 0 (tmO E tm ka va lf rt pa co vl root (n - 1) (md + (nI 1)) h0) 44 [(2, .ref s), (0, .ref tm), (1, .ref x)] [.ref (ka s), .ref x]
        refine V.put (ty := tyJ25 0) cx kJ25 (tm_e hx) 0 (by decide) rfl (tyJ25_ok 0 (by decide)) rfl rfl (Nat.le_of_ble_eq_true rfl) q1023 rfl dJ1_deleteEntry_44 ?_
        refine V.hto (tm_ka (b := (ka s)) hx) ?_
        show V g A κ _ _ 0 0 (tmO E tm (va_up ka x (ka s)) va lf rt pa co vl root (n - 1) (md + (nI 1)) h0) 47 [(2, .ref s), (0, .ref tm), (1, .ref x)] []
        refine V.aload_n cx dJ1_deleteEntry_47 rfl 2 rfl ?_
        refine V.aload_n cx dJ1_deleteEntry_48 rfl 0 rfl ?_
        refine V.get cx kJ25 (tm_e hsE) 1 (by decide) q1026 rfl rfl dJ1_deleteEntry_49 ?_
        show V g A κ _ _ 0 0 (tmO E tm (va_up ka x (ka s)) va lf rt pa co vl root (n - 1) (md + (nI 1)) h0) 52 [(2, .ref s), (0, .ref tm), (1, .ref x)] [.ref (va s), .ref x]
        refine V.put (ty := tyJ25 1) cx kJ25 (tm_e hx) 1 (by decide) rfl (tyJ25_ok 1 (by decide)) rfl rfl (Nat.le_of_ble_eq_true rfl) q1026 rfl dJ1_deleteEntry_52 ?_
        refine V.hto (tm_va (b := (va s)) hx) ?_
        show V g A κ _ _ 0 0 (tmO E tm (va_up ka x (ka s)) (va_up va x (va s)) lf rt pa co vl root (n - 1) (md + (nI 1)) h0) 55 [(2, .ref s), (0, .ref tm), (1, .ref x)] []
        refine V.aload_n cx dJ1_deleteEntry_55 rfl 0 rfl ?_
        refine V.astore_n (lv' := [(1, .ref s), (2, .ref s), (0, .ref tm)]) cx dJ1_deleteEntry_56 rfl (by decide) rfl ?_
        refine V.sub [2, 0] rfl ?_
        exact J_ (s, (va_up ka x (ka s)), (va_up va x (va s))) (by dsimp only; exact ⟨hsE, Or.inl hsl, Or.inr hS2.1, rfl, rfl⟩)
