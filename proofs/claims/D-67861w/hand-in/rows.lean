section
-- ===== PART A: goes FIRST, ahead of the names: the tables' words, and 'selects' of the private methods out of them =====
/-- a private method of a class that the tables say can be made, by its rows of tables_1 -/
def lw_okq (q : MethodName × Nat) : Prop := (q.1.cls ≠ "java/lang/invoke/MethodHandle" ∧ q.1.cls ≠ "java/lang/invoke/VarHandle") ∧ Cond.instantiable q.1.cls q.2 ∈ tables_1 ∧ Cond.privateMethod q.1 ∈ tables_1 ∧ Cond.instanceMethod q.1 ∈ tables_1
theorem lw_p0 : lw_okq (⟨"java/lang/Throwable", "fillInStackTrace", "(I)Ljava/lang/Throwable;"⟩, 6) := ⟨⟨by decide +kernel, by decide +kernel⟩, List.mem_of_getElem? (i := 87) (by decide +kernel), List.mem_of_getElem? (i := 85) (by decide +kernel), List.mem_of_getElem? (i := 86) (by decide +kernel)⟩
theorem lw_p1 : lw_okq (⟨"ShadowMath", "come", "(III)V"⟩, 4) := ⟨⟨by decide +kernel, by decide +kernel⟩, List.mem_of_getElem? (i := 9) (by decide +kernel), List.mem_of_getElem? (i := 138) (by decide +kernel), List.mem_of_getElem? (i := 139) (by decide +kernel)⟩
theorem lw_p2 : lw_okq (⟨"ShadowMath", "below", "(IZZZ)V"⟩, 4) := ⟨⟨by decide +kernel, by decide +kernel⟩, List.mem_of_getElem? (i := 9) (by decide +kernel), List.mem_of_getElem? (i := 161) (by decide +kernel), List.mem_of_getElem? (i := 162) (by decide +kernel)⟩
theorem lw_p3 : lw_okq (⟨"ShadowMath", "check", "(III)V"⟩, 4) := ⟨⟨by decide +kernel, by decide +kernel⟩, List.mem_of_getElem? (i := 9) (by decide +kernel), List.mem_of_getElem? (i := 172) (by decide +kernel), List.mem_of_getElem? (i := 173) (by decide +kernel)⟩
theorem lw_p4 : lw_okq (⟨"ShadowMathModel", "fails", "(ZI)Z"⟩, 7) := ⟨⟨by decide +kernel, by decide +kernel⟩, List.mem_of_getElem? (i := 221) (by decide +kernel), List.mem_of_getElem? (i := 261) (by decide +kernel), List.mem_of_getElem? (i := 262) (by decide +kernel)⟩
theorem lw_p5 : lw_okq (⟨"ShadowMathModel", "make", "(I)V"⟩, 7) := ⟨⟨by decide +kernel, by decide +kernel⟩, List.mem_of_getElem? (i := 221) (by decide +kernel), List.mem_of_getElem? (i := 265) (by decide +kernel), List.mem_of_getElem? (i := 266) (by decide +kernel)⟩
theorem lw_p6 : lw_okq (⟨"ShadowMathModel", "give", "(I)V"⟩, 7) := ⟨⟨by decide +kernel, by decide +kernel⟩, List.mem_of_getElem? (i := 221) (by decide +kernel), List.mem_of_getElem? (i := 269) (by decide +kernel), List.mem_of_getElem? (i := 270) (by decide +kernel)⟩
theorem lw_p7 : lw_okq (⟨"ShadowMathModel", "number", "(I)I"⟩, 7) := ⟨⟨by decide +kernel, by decide +kernel⟩, List.mem_of_getElem? (i := 221) (by decide +kernel), List.mem_of_getElem? (i := 277) (by decide +kernel), List.mem_of_getElem? (i := 278) (by decide +kernel)⟩
theorem lw_p8 : lw_okq (⟨"ShadowMathModel", "lowest", "(I)I"⟩, 7) := ⟨⟨by decide +kernel, by decide +kernel⟩, List.mem_of_getElem? (i := 221) (by decide +kernel), List.mem_of_getElem? (i := 281) (by decide +kernel), List.mem_of_getElem? (i := 282) (by decide +kernel)⟩
theorem lw_p9 : lw_okq (⟨"ShadowMathModel", "un", "(II)Z"⟩, 7) := ⟨⟨by decide +kernel, by decide +kernel⟩, List.mem_of_getElem? (i := 221) (by decide +kernel), List.mem_of_getElem? (i := 285) (by decide +kernel), List.mem_of_getElem? (i := 286) (by decide +kernel)⟩
theorem lw_p10 : lw_okq (⟨"ShadowMathModel", "from", "(I)V"⟩, 7) := ⟨⟨by decide +kernel, by decide +kernel⟩, List.mem_of_getElem? (i := 221) (by decide +kernel), List.mem_of_getElem? (i := 289) (by decide +kernel), List.mem_of_getElem? (i := 290) (by decide +kernel)⟩
theorem lw_p11 : lw_okq (⟨"ShadowMathModel", "is", "(II)Z"⟩, 7) := ⟨⟨by decide +kernel, by decide +kernel⟩, List.mem_of_getElem? (i := 221) (by decide +kernel), List.mem_of_getElem? (i := 293) (by decide +kernel), List.mem_of_getElem? (i := 294) (by decide +kernel)⟩
theorem lw_p12 : lw_okq (⟨"ShadowMathModel", "shift", "(IIII)V"⟩, 7) := ⟨⟨by decide +kernel, by decide +kernel⟩, List.mem_of_getElem? (i := 221) (by decide +kernel), List.mem_of_getElem? (i := 297) (by decide +kernel), List.mem_of_getElem? (i := 298) (by decide +kernel)⟩
theorem lw_p13 : lw_okq (⟨"ShadowMathModel", "noughts", "(I)I"⟩, 7) := ⟨⟨by decide +kernel, by decide +kernel⟩, List.mem_of_getElem? (i := 221) (by decide +kernel), List.mem_of_getElem? (i := 301) (by decide +kernel), List.mem_of_getElem? (i := 302) (by decide +kernel)⟩
theorem lw_p14 : lw_okq (⟨"ShadowMathModel", "end", "(IZZ)J"⟩, 7) := ⟨⟨by decide +kernel, by decide +kernel⟩, List.mem_of_getElem? (i := 221) (by decide +kernel), List.mem_of_getElem? (i := 305) (by decide +kernel), List.mem_of_getElem? (i := 306) (by decide +kernel)⟩
theorem lw_p15 : lw_okq (⟨"ShadowMathModel", "choose", "(III)V"⟩, 7) := ⟨⟨by decide +kernel, by decide +kernel⟩, List.mem_of_getElem? (i := 221) (by decide +kernel), List.mem_of_getElem? (i := 310) (by decide +kernel), List.mem_of_getElem? (i := 311) (by decide +kernel)⟩
def lw_privs_1 : List (MethodName × Nat) := [(⟨"java/lang/Throwable", "fillInStackTrace", "(I)Ljava/lang/Throwable;"⟩, 6), (⟨"ShadowMath", "come", "(III)V"⟩, 4), (⟨"ShadowMath", "below", "(IZZZ)V"⟩, 4), (⟨"ShadowMath", "check", "(III)V"⟩, 4), (⟨"ShadowMathModel", "fails", "(ZI)Z"⟩, 7), (⟨"ShadowMathModel", "make", "(I)V"⟩, 7), (⟨"ShadowMathModel", "give", "(I)V"⟩, 7), (⟨"ShadowMathModel", "number", "(I)I"⟩, 7), (⟨"ShadowMathModel", "lowest", "(I)I"⟩, 7), (⟨"ShadowMathModel", "un", "(II)Z"⟩, 7), (⟨"ShadowMathModel", "from", "(I)V"⟩, 7), (⟨"ShadowMathModel", "is", "(II)Z"⟩, 7), (⟨"ShadowMathModel", "shift", "(IIII)V"⟩, 7), (⟨"ShadowMathModel", "noughts", "(I)I"⟩, 7), (⟨"ShadowMathModel", "end", "(IZZ)J"⟩, 7), (⟨"ShadowMathModel", "choose", "(III)V"⟩, 7)]
theorem lw_r1 : ∀ q ∈ lw_privs_1, lw_okq q := List.forall_mem_cons.mpr ⟨lw_p0, List.forall_mem_cons.mpr ⟨lw_p1, List.forall_mem_cons.mpr ⟨lw_p2, List.forall_mem_cons.mpr ⟨lw_p3, List.forall_mem_cons.mpr ⟨lw_p4, List.forall_mem_cons.mpr ⟨lw_p5, List.forall_mem_cons.mpr ⟨lw_p6, List.forall_mem_cons.mpr ⟨lw_p7, List.forall_mem_cons.mpr ⟨lw_p8, List.forall_mem_cons.mpr ⟨lw_p9, List.forall_mem_cons.mpr ⟨lw_p10, List.forall_mem_cons.mpr ⟨lw_p11, List.forall_mem_cons.mpr ⟨lw_p12, List.forall_mem_cons.mpr ⟨lw_p13, List.forall_mem_cons.mpr ⟨lw_p14, List.forall_mem_cons.mpr ⟨lw_p15, fun _ h => absurd h List.not_mem_nil⟩⟩⟩⟩⟩⟩⟩⟩⟩⟩⟩⟩⟩⟩⟩⟩
def lw_privs : List (MethodName × Nat) := lw_privs_1
def lw_tbl : List Cond := k2_sels lw_privs ++ tables_1
theorem lw_privs_ok : ∀ q ∈ lw_privs, lw_okq q := lw_r1
/-! the good words: those that hold in every warmer state -/
def gw_L : List Cond := lw_tbl.filter goodWord
theorem gw_mem {w : Cond} (i : Nat) (h : lw_tbl[i]? = some w) (g : goodWord w = true) : w ∈ gw_L := List.mem_filter.mpr ⟨List.mem_of_getElem? h, g⟩
theorem gw_good : ∀ w ∈ gw_L, (w.onTables && w.keeps) = true ∨ ∃ ty, w = .arrayClass ty := fun w hw => good_of_word (List.mem_filter.mp hw).2
theorem gw_sub : ∀ w ∈ gw_L, w ∈ lw_tbl := fun w hw => (List.mem_filter.mp hw).1
def y_L3 : MethodName := ⟨"ShadowMathLaw", "set", "(LShadowMath;III)I"⟩
abbrev b_L3 : ByteArray := method_3_code
def y_L4 : MethodName := ⟨"ShadowMathLaw", "op", "(LShadowMath;IIII)I"⟩
abbrev b_L4 : ByteArray := method_4_code
def y_L5 : MethodName := ⟨"ShadowMathLaw", "store", "(LShadowMath;III)I"⟩
abbrev b_L5 : ByteArray := method_5_code
def y_L6 : MethodName := ⟨"ShadowMathLaw", "load", "(LShadowMath;IIIZ)I"⟩
abbrev b_L6 : ByteArray := method_6_code
def y_L7 : MethodName := ⟨"ShadowMathLaw", "value", "(LShadowMath;I[J)I"⟩
abbrev b_L7 : ByteArray := method_7_code
def y_L8 : MethodName := ⟨"ShadowMathLaw", "not", "(LShadowMath;I[J)I"⟩
abbrev b_L8 : ByteArray := method_8_code
def y_L9 : MethodName := ⟨"ShadowMathLaw", "least", "(LShadowMath;I[J)I"⟩
abbrev b_L9 : ByteArray := method_9_code
def y_L10 : MethodName := ⟨"ShadowMathLaw", "greatest", "(LShadowMath;I[J)I"⟩
abbrev b_L10 : ByteArray := method_10_code
def y_L11 : MethodName := ⟨"ShadowMathLaw", "octet", "(LShadowMath;I[J)I"⟩
abbrev b_L11 : ByteArray := method_11_code
def y_M1 : MethodName := ⟨"ShadowMathModel", "<init>", "()V"⟩
abbrev b_M1 : ByteArray := prog_3_method_1_code
def y_M2 : MethodName := ⟨"ShadowMathModel", "thrown", "()I"⟩
abbrev b_M2 : ByteArray := prog_3_method_2_code
def y_M3 : MethodName := ⟨"ShadowMathModel", "fails", "(ZI)Z"⟩
abbrev b_M3 : ByteArray := prog_3_method_3_code
def y_M4 : MethodName := ⟨"ShadowMathModel", "none", "(I)Z"⟩
abbrev b_M4 : ByteArray := prog_3_method_4_code
def y_M5 : MethodName := ⟨"ShadowMathModel", "number", "(I)I"⟩
abbrev b_M5 : ByteArray := prog_3_method_5_code
def y_M6 : MethodName := ⟨"ShadowMathModel", "give", "(I)V"⟩
abbrev b_M6 : ByteArray := prog_3_method_6_code
def y_M7 : MethodName := ⟨"ShadowMathModel", "make", "(I)V"⟩
abbrev b_M7 : ByteArray := prog_3_method_7_code
def y_M8 : MethodName := ⟨"ShadowMathModel", "set", "(III)V"⟩
abbrev b_M8 : ByteArray := prog_3_method_8_code
def y_M9 : MethodName := ⟨"ShadowMathModel", "is", "(II)Z"⟩
abbrev b_M9 : ByteArray := prog_3_method_9_code
def y_M10 : MethodName := ⟨"ShadowMathModel", "un", "(II)Z"⟩
abbrev b_M10 : ByteArray := prog_3_method_10_code
def y_M11 : MethodName := ⟨"ShadowMathModel", "lowest", "(I)I"⟩
abbrev b_M11 : ByteArray := prog_3_method_11_code
def y_M12 : MethodName := ⟨"ShadowMathModel", "noughts", "(I)I"⟩
abbrev b_M12 : ByteArray := prog_3_method_12_code
def y_M13 : MethodName := ⟨"ShadowMathModel", "from", "(I)V"⟩
abbrev b_M13 : ByteArray := prog_3_method_13_code
def y_M14 : MethodName := ⟨"ShadowMathModel", "op", "(IIII)V"⟩
abbrev b_M14 : ByteArray := prog_3_method_14_code
def y_M15 : MethodName := ⟨"ShadowMathModel", "shift", "(IIII)V"⟩
abbrev b_M15 : ByteArray := prog_3_method_15_code
def y_M16 : MethodName := ⟨"ShadowMathModel", "end", "(IZZ)J"⟩
abbrev b_M16 : ByteArray := prog_3_method_16_code
def y_M17 : MethodName := ⟨"ShadowMathModel", "choose", "(III)V"⟩
abbrev b_M17 : ByteArray := prog_3_method_17_code
def y_M18 : MethodName := ⟨"ShadowMathModel", "wrong", "(I)Z"⟩
abbrev b_M18 : ByteArray := prog_3_method_18_code
def y_M19 : MethodName := ⟨"ShadowMathModel", "store", "(III)V"⟩
abbrev b_M19 : ByteArray := prog_3_method_19_code
def y_M20 : MethodName := ⟨"ShadowMathModel", "load", "(IIIZ)V"⟩
abbrev b_M20 : ByteArray := prog_3_method_20_code
def y_M21 : MethodName := ⟨"ShadowMathModel", "value", "(I)I"⟩
abbrev b_M21 : ByteArray := prog_3_method_21_code
def y_M22 : MethodName := ⟨"ShadowMathModel", "not", "(I)I"⟩
abbrev b_M22 : ByteArray := prog_3_method_22_code
def y_M23 : MethodName := ⟨"ShadowMathModel", "least", "(I)I"⟩
abbrev b_M23 : ByteArray := prog_3_method_23_code
def y_M24 : MethodName := ⟨"ShadowMathModel", "greatest", "(I)I"⟩
abbrev b_M24 : ByteArray := prog_3_method_24_code
def y_M25 : MethodName := ⟨"ShadowMathModel", "octet", "(I)I"⟩
abbrev b_M25 : ByteArray := prog_3_method_25_code
def y_M26 : MethodName := ⟨"ShadowMathModel", "count", "()I"⟩
abbrev b_M26 : ByteArray := prog_3_method_26_code
def y_X1 : MethodName := ⟨"ShadowMath", "<init>", "()V"⟩
abbrev b_X1 : ByteArray := prog_1_method_1_code
def y_X2 : MethodName := ⟨"ShadowMath", "within", "(Z)V"⟩
abbrev b_X2 : ByteArray := prog_1_method_2_code
def y_X3 : MethodName := ⟨"ShadowMath", "isRegister", "(I)Z"⟩
abbrev b_X3 : ByteArray := prog_1_method_3_code
def y_X4 : MethodName := ⟨"ShadowMath", "set", "(III)V"⟩
abbrev b_X4 : ByteArray := prog_1_method_4_code
def y_X5 : MethodName := ⟨"ShadowMath", "upwards", "(I)I"⟩
abbrev b_X5 : ByteArray := prog_1_method_5_code
def y_X6 : MethodName := ⟨"ShadowMath", "mayBeOne", "(II)I"⟩
abbrev b_X6 : ByteArray := prog_1_method_6_code
def y_X7 : MethodName := ⟨"ShadowMath", "mayBeNone", "(II)I"⟩
abbrev b_X7 : ByteArray := prog_1_method_7_code
def y_X8 : MethodName := ⟨"ShadowMath", "lowZeros", "(I)I"⟩
abbrev b_X8 : ByteArray := prog_1_method_8_code
def y_X9 : MethodName := ⟨"ShadowMath", "lowest", "(II)I"⟩
abbrev b_X9 : ByteArray := prog_1_method_9_code
def y_X10 : MethodName := ⟨"ShadowMath", "highest", "(II)I"⟩
abbrev b_X10 : ByteArray := prog_1_method_10_code
def y_X11 : MethodName := ⟨"ShadowMath", "op", "(IIII)V"⟩
abbrev b_X11 : ByteArray := prog_1_method_11_code
def y_X12 : MethodName := ⟨"ShadowMath", "product", "(II)I"⟩
abbrev b_X12 : ByteArray := prog_1_method_12_code
def y_X13 : MethodName := ⟨"ShadowMath", "below", "(IZZZ)V"⟩
abbrev b_X13 : ByteArray := prog_1_method_13_code
def y_X14 : MethodName := ⟨"ShadowMath", "come", "(III)V"⟩
abbrev b_X14 : ByteArray := prog_1_method_14_code
def y_X15 : MethodName := ⟨"ShadowMath", "check", "(III)V"⟩
abbrev b_X15 : ByteArray := prog_1_method_15_code
def y_X16 : MethodName := ⟨"ShadowMath", "store", "(III)V"⟩
abbrev b_X16 : ByteArray := prog_1_method_16_code
def y_X17 : MethodName := ⟨"ShadowMath", "joined", "([BIIZ)I"⟩
abbrev b_X17 : ByteArray := prog_1_method_17_code
def y_X18 : MethodName := ⟨"ShadowMath", "load", "(IIIZ)V"⟩
abbrev b_X18 : ByteArray := prog_1_method_18_code
def y_X19 : MethodName := ⟨"ShadowMath", "value", "(I)I"⟩
abbrev b_X19 : ByteArray := prog_1_method_19_code
def y_X20 : MethodName := ⟨"ShadowMath", "not", "(I)I"⟩
abbrev b_X20 : ByteArray := prog_1_method_20_code
def y_X21 : MethodName := ⟨"ShadowMath", "least", "(I)I"⟩
abbrev b_X21 : ByteArray := prog_1_method_21_code
def y_X22 : MethodName := ⟨"ShadowMath", "greatest", "(I)I"⟩
abbrev b_X22 : ByteArray := prog_1_method_22_code
def y_X23 : MethodName := ⟨"ShadowMath", "octet", "(I)I"⟩
abbrev b_X23 : ByteArray := prog_1_method_23_code
def y_X24 : MethodName := ⟨"ShadowMath", "count", "()I"⟩
abbrev b_X24 : ByteArray := prog_1_method_24_code
abbrev b_L12 : ByteArray := code
def kc_B (own : String) (ix : Nat) (y : MethodName) (w : Cond) (nn : Nat) : Prop := w ∈ gw_L ∧ Cond.methodLink own ix y ∈ gw_L ∧ Cond.initialized y.cls ∈ gw_L ∧ (y.cls ≠ "java/lang/invoke/MethodHandle" ∧ y.cls ≠ "java/lang/invoke/VarHandle") ∧ (parseMethodDescriptor y.desc).map (fun d => d.parameters.length) = some nn
def kc_S (own : String) (ix : Nat) (y : MethodName) (w : Cond) (nn : Nat) : Prop := kc_B own ix y w nn ∧ Cond.static y ∈ gw_L
def kc_V (own : String) (ix : Nat) (y : MethodName) (w : Cond) (nn : Nat) : Prop := kc_B own ix y w nn ∧ Cond.instanceMethod y ∈ gw_L ∧ Cond.selects y.cls y y ∈ gw_L
def kc_I (own : String) (ix : Nat) (y : MethodName) (w : Cond) (nn : Nat) : Prop := kc_B own ix y w nn ∧ Cond.instanceMethod y ∈ gw_L
theorem gc_L3 : Cond.codeWith y_L3 b_L3 5 (some .int) [(0, 7, 10, 13)] ∈ gw_L := gw_mem 53 rfl (by decide +kernel)
theorem gc_L4 : Cond.codeWith y_L4 b_L4 6 (some .int) [(0, 9, 12, 19), (0, 9, 16, 13)] ∈ gw_L := gw_mem 129 rfl (by decide +kernel)
theorem gc_L5 : Cond.codeWith y_L5 b_L5 5 (some .int) [(0, 7, 10, 19), (0, 7, 14, 13)] ∈ gw_L := gw_mem 182 rfl (by decide +kernel)
theorem gc_L6 : Cond.codeWith y_L6 b_L6 6 (some .int) [(0, 9, 12, 19), (0, 9, 16, 13)] ∈ gw_L := gw_mem 193 rfl (by decide +kernel)
theorem gc_L7 : Cond.codeWith y_L7 b_L7 4 (some .int) [(0, 9, 12, 13)] ∈ gw_L := gw_mem 203 rfl (by decide +kernel)
theorem gc_L8 : Cond.codeWith y_L8 b_L8 4 (some .int) [(0, 9, 12, 13)] ∈ gw_L := gw_mem 210 rfl (by decide +kernel)
theorem gc_L9 : Cond.codeWith y_L9 b_L9 4 (some .int) [(0, 9, 12, 13)] ∈ gw_L := gw_mem 217 rfl (by decide +kernel)
theorem gc_L10 : Cond.codeWith y_L10 b_L10 4 (some .int) [(0, 9, 12, 13)] ∈ gw_L := gw_mem 224 rfl (by decide +kernel)
theorem gc_L11 : Cond.codeWith y_L11 b_L11 4 (some .int) [(0, 9, 12, 13)] ∈ gw_L := gw_mem 231 rfl (by decide +kernel)
theorem gc_M1 : Cond.code y_M1 b_M1 1 none ∈ gw_L := gw_mem 240 rfl (by decide +kernel)
theorem gc_M2 : Cond.code y_M2 b_M2 1 (some .int) ∈ gw_L := gw_mem 268 rfl (by decide +kernel)
theorem gc_M3 : Cond.code y_M3 b_M3 3 (some .boolean) ∈ gw_L := gw_mem 279 rfl (by decide +kernel)
theorem gc_M4 : Cond.code y_M4 b_M4 1 (some .boolean) ∈ gw_L := gw_mem 275 rfl (by decide +kernel)
theorem gc_M5 : Cond.code y_M5 b_M5 4 (some .int) ∈ gw_L := gw_mem 295 rfl (by decide +kernel)
theorem gc_M6 : Cond.code y_M6 b_M6 3 none ∈ gw_L := gw_mem 287 rfl (by decide +kernel)
theorem gc_M7 : Cond.code y_M7 b_M7 3 none ∈ gw_L := gw_mem 283 rfl (by decide +kernel)
theorem gc_M8 : Cond.code y_M8 b_M8 5 none ∈ gw_L := gw_mem 272 rfl (by decide +kernel)
theorem gc_M9 : Cond.code y_M9 b_M9 3 (some .boolean) ∈ gw_L := gw_mem 311 rfl (by decide +kernel)
theorem gc_M10 : Cond.code y_M10 b_M10 3 (some .boolean) ∈ gw_L := gw_mem 303 rfl (by decide +kernel)
theorem gc_M11 : Cond.code y_M11 b_M11 3 (some .int) ∈ gw_L := gw_mem 299 rfl (by decide +kernel)
theorem gc_M12 : Cond.code y_M12 b_M12 3 (some .int) ∈ gw_L := gw_mem 319 rfl (by decide +kernel)
theorem gc_M13 : Cond.code y_M13 b_M13 3 none ∈ gw_L := gw_mem 307 rfl (by decide +kernel)
theorem gc_M14 : Cond.code y_M14 b_M14 11 none ∈ gw_L := gw_mem 291 rfl (by decide +kernel)
theorem gc_M15 : Cond.code y_M15 b_M15 8 none ∈ gw_L := gw_mem 315 rfl (by decide +kernel)
theorem gc_M16 : Cond.code y_M16 b_M16 9 (some .long) ∈ gw_L := gw_mem 323 rfl (by decide +kernel)
theorem gc_M17 : Cond.code y_M17 b_M17 6 none ∈ gw_L := gw_mem 328 rfl (by decide +kernel)
theorem gc_M18 : Cond.code y_M18 b_M18 1 (some .boolean) ∈ gw_L := gw_mem 335 rfl (by decide +kernel)
theorem gc_M19 : Cond.code y_M19 b_M19 5 none ∈ gw_L := gw_mem 332 rfl (by decide +kernel)
theorem gc_M20 : Cond.code y_M20 b_M20 8 none ∈ gw_L := gw_mem 339 rfl (by decide +kernel)
theorem gc_M21 : Cond.code y_M21 b_M21 2 (some .int) ∈ gw_L := gw_mem 343 rfl (by decide +kernel)
theorem gc_M22 : Cond.code y_M22 b_M22 4 (some .int) ∈ gw_L := gw_mem 347 rfl (by decide +kernel)
theorem gc_M23 : Cond.code y_M23 b_M23 2 (some .int) ∈ gw_L := gw_mem 351 rfl (by decide +kernel)
theorem gc_M24 : Cond.code y_M24 b_M24 2 (some .int) ∈ gw_L := gw_mem 355 rfl (by decide +kernel)
theorem gc_M25 : Cond.code y_M25 b_M25 4 (some .int) ∈ gw_L := gw_mem 359 rfl (by decide +kernel)
theorem gc_M26 : Cond.code y_M26 b_M26 3 (some .int) ∈ gw_L := gw_mem 363 rfl (by decide +kernel)
theorem gc_X1 : Cond.code y_X1 b_X1 1 none ∈ gw_L := gw_mem 28 rfl (by decide +kernel)
theorem gc_X2 : Cond.code y_X2 b_X2 1 none ∈ gw_L := gw_mem 64 rfl (by decide +kernel)
theorem gc_X3 : Cond.code y_X3 b_X3 1 (some .boolean) ∈ gw_L := gw_mem 61 rfl (by decide +kernel)
theorem gc_X4 : Cond.code y_X4 b_X4 4 none ∈ gw_L := gw_mem 58 rfl (by decide +kernel)
theorem gc_X5 : Cond.code y_X5 b_X5 1 (some .int) ∈ gw_L := gw_mem 152 rfl (by decide +kernel)
theorem gc_X6 : Cond.code y_X6 b_X6 2 (some .int) ∈ gw_L := gw_mem 159 rfl (by decide +kernel)
theorem gc_X7 : Cond.code y_X7 b_X7 2 (some .int) ∈ gw_L := gw_mem 162 rfl (by decide +kernel)
theorem gc_X8 : Cond.code y_X8 b_X8 3 (some .int) ∈ gw_L := gw_mem 168 rfl (by decide +kernel)
theorem gc_X9 : Cond.code y_X9 b_X9 2 (some .int) ∈ gw_L := gw_mem 175 rfl (by decide +kernel)
theorem gc_X10 : Cond.code y_X10 b_X10 2 (some .int) ∈ gw_L := gw_mem 171 rfl (by decide +kernel)
theorem gc_X11 : Cond.code y_X11 b_X11 13 none ∈ gw_L := gw_mem 134 rfl (by decide +kernel)
theorem gc_X12 : Cond.code y_X12 b_X12 3 (some .int) ∈ gw_L := gw_mem 165 rfl (by decide +kernel)
theorem gc_X13 : Cond.code y_X13 b_X13 5 none ∈ gw_L := gw_mem 179 rfl (by decide +kernel)
theorem gc_X14 : Cond.code y_X14 b_X14 4 none ∈ gw_L := gw_mem 156 rfl (by decide +kernel)
theorem gc_X15 : Cond.code y_X15 b_X15 4 none ∈ gw_L := gw_mem 190 rfl (by decide +kernel)
theorem gc_X16 : Cond.code y_X16 b_X16 5 none ∈ gw_L := gw_mem 186 rfl (by decide +kernel)
theorem gc_X17 : Cond.code y_X17 b_X17 6 (some .int) ∈ gw_L := gw_mem 200 rfl (by decide +kernel)
theorem gc_X18 : Cond.code y_X18 b_X18 5 none ∈ gw_L := gw_mem 197 rfl (by decide +kernel)
theorem gc_X19 : Cond.code y_X19 b_X19 2 (some .int) ∈ gw_L := gw_mem 207 rfl (by decide +kernel)
theorem gc_X20 : Cond.code y_X20 b_X20 2 (some .int) ∈ gw_L := gw_mem 214 rfl (by decide +kernel)
theorem gc_X21 : Cond.code y_X21 b_X21 2 (some .int) ∈ gw_L := gw_mem 221 rfl (by decide +kernel)
theorem gc_X22 : Cond.code y_X22 b_X22 2 (some .int) ∈ gw_L := gw_mem 228 rfl (by decide +kernel)
theorem gc_X23 : Cond.code y_X23 b_X23 2 (some .int) ∈ gw_L := gw_mem 235 rfl (by decide +kernel)
theorem gc_X24 : Cond.code y_X24 b_X24 4 (some .int) ∈ gw_L := gw_mem 50 rfl (by decide +kernel)
theorem k_L7 : kc_V "ShadowMathLaw" 7 y_X4 (.code y_X4 b_X4 4 none) 3 := ⟨⟨gc_X4, gw_mem 55 (by decide +kernel) (by decide +kernel), gw_mem 17 (by decide +kernel) (by decide +kernel), by decide +kernel, by decide +kernel⟩, gw_mem 56 (by decide +kernel) (by decide +kernel), gw_mem 57 (by decide +kernel) (by decide +kernel)⟩
theorem k_L15 : kc_V "ShadowMathLaw" 15 y_X11 (.code y_X11 b_X11 13 none) 4 := ⟨⟨gc_X11, gw_mem 131 (by decide +kernel) (by decide +kernel), gw_mem 17 (by decide +kernel) (by decide +kernel), by decide +kernel, by decide +kernel⟩, gw_mem 132 (by decide +kernel) (by decide +kernel), gw_mem 133 (by decide +kernel) (by decide +kernel)⟩
theorem k_L21 : kc_V "ShadowMathLaw" 21 y_X16 (.code y_X16 b_X16 5 none) 3 := ⟨⟨gc_X16, gw_mem 183 (by decide +kernel) (by decide +kernel), gw_mem 17 (by decide +kernel) (by decide +kernel), by decide +kernel, by decide +kernel⟩, gw_mem 184 (by decide +kernel) (by decide +kernel), gw_mem 185 (by decide +kernel) (by decide +kernel)⟩
theorem k_L24 : kc_V "ShadowMathLaw" 24 y_X18 (.code y_X18 b_X18 5 none) 4 := ⟨⟨gc_X18, gw_mem 194 (by decide +kernel) (by decide +kernel), gw_mem 17 (by decide +kernel) (by decide +kernel), by decide +kernel, by decide +kernel⟩, gw_mem 195 (by decide +kernel) (by decide +kernel), gw_mem 196 (by decide +kernel) (by decide +kernel)⟩
theorem k_L28 : kc_V "ShadowMathLaw" 28 y_X19 (.code y_X19 b_X19 2 (some .int)) 1 := ⟨⟨gc_X19, gw_mem 204 (by decide +kernel) (by decide +kernel), gw_mem 17 (by decide +kernel) (by decide +kernel), by decide +kernel, by decide +kernel⟩, gw_mem 205 (by decide +kernel) (by decide +kernel), gw_mem 206 (by decide +kernel) (by decide +kernel)⟩
theorem k_L32 : kc_V "ShadowMathLaw" 32 y_X20 (.code y_X20 b_X20 2 (some .int)) 1 := ⟨⟨gc_X20, gw_mem 211 (by decide +kernel) (by decide +kernel), gw_mem 17 (by decide +kernel) (by decide +kernel), by decide +kernel, by decide +kernel⟩, gw_mem 212 (by decide +kernel) (by decide +kernel), gw_mem 213 (by decide +kernel) (by decide +kernel)⟩
theorem k_L35 : kc_V "ShadowMathLaw" 35 y_X21 (.code y_X21 b_X21 2 (some .int)) 1 := ⟨⟨gc_X21, gw_mem 218 (by decide +kernel) (by decide +kernel), gw_mem 17 (by decide +kernel) (by decide +kernel), by decide +kernel, by decide +kernel⟩, gw_mem 219 (by decide +kernel) (by decide +kernel), gw_mem 220 (by decide +kernel) (by decide +kernel)⟩
theorem k_L38 : kc_V "ShadowMathLaw" 38 y_X22 (.code y_X22 b_X22 2 (some .int)) 1 := ⟨⟨gc_X22, gw_mem 225 (by decide +kernel) (by decide +kernel), gw_mem 17 (by decide +kernel) (by decide +kernel), by decide +kernel, by decide +kernel⟩, gw_mem 226 (by decide +kernel) (by decide +kernel), gw_mem 227 (by decide +kernel) (by decide +kernel)⟩
theorem k_L41 : kc_V "ShadowMathLaw" 41 y_X23 (.code y_X23 b_X23 2 (some .int)) 1 := ⟨⟨gc_X23, gw_mem 232 (by decide +kernel) (by decide +kernel), gw_mem 17 (by decide +kernel) (by decide +kernel), by decide +kernel, by decide +kernel⟩, gw_mem 233 (by decide +kernel) (by decide +kernel), gw_mem 234 (by decide +kernel) (by decide +kernel)⟩
theorem k_L44 : kc_I "ShadowMathLaw" 44 y_X1 (.code y_X1 b_X1 1 none) 0 := ⟨⟨gc_X1, gw_mem 26 (by decide +kernel) (by decide +kernel), gw_mem 17 (by decide +kernel) (by decide +kernel), by decide +kernel, by decide +kernel⟩, gw_mem 27 (by decide +kernel) (by decide +kernel)⟩
theorem k_L47 : kc_I "ShadowMathLaw" 47 y_M1 (.code y_M1 b_M1 1 none) 0 := ⟨⟨gc_M1, gw_mem 238 (by decide +kernel) (by decide +kernel), gw_mem 18 (by decide +kernel) (by decide +kernel), by decide +kernel, by decide +kernel⟩, gw_mem 239 (by decide +kernel) (by decide +kernel)⟩
theorem k_L48 : kc_S "ShadowMathLaw" 48 y_L3 (.codeWith y_L3 b_L3 5 (some .int) [(0, 7, 10, 13)]) 4 := ⟨⟨gc_L3, gw_mem 51 (by decide +kernel) (by decide +kernel), gw_mem 16 (by decide +kernel) (by decide +kernel), by decide +kernel, by decide +kernel⟩, gw_mem 52 (by decide +kernel) (by decide +kernel)⟩
theorem k_L53 : kc_V "ShadowMathLaw" 53 y_M8 (.code y_M8 b_M8 5 none) 3 := ⟨⟨gc_M8, gw_mem 269 (by decide +kernel) (by decide +kernel), gw_mem 18 (by decide +kernel) (by decide +kernel), by decide +kernel, by decide +kernel⟩, gw_mem 270 (by decide +kernel) (by decide +kernel), gw_mem 271 (by decide +kernel) (by decide +kernel)⟩
theorem k_L54 : kc_V "ShadowMathLaw" 54 y_M2 (.code y_M2 b_M2 1 (some .int)) 0 := ⟨⟨gc_M2, gw_mem 265 (by decide +kernel) (by decide +kernel), gw_mem 18 (by decide +kernel) (by decide +kernel), by decide +kernel, by decide +kernel⟩, gw_mem 266 (by decide +kernel) (by decide +kernel), gw_mem 267 (by decide +kernel) (by decide +kernel)⟩
theorem k_L58 : kc_S "ShadowMathLaw" 58 y_L4 (.codeWith y_L4 b_L4 6 (some .int) [(0, 9, 12, 19), (0, 9, 16, 13)]) 5 := ⟨⟨gc_L4, gw_mem 127 (by decide +kernel) (by decide +kernel), gw_mem 16 (by decide +kernel) (by decide +kernel), by decide +kernel, by decide +kernel⟩, gw_mem 128 (by decide +kernel) (by decide +kernel)⟩
theorem k_L61 : kc_V "ShadowMathLaw" 61 y_M14 (.code y_M14 b_M14 11 none) 4 := ⟨⟨gc_M14, gw_mem 288 (by decide +kernel) (by decide +kernel), gw_mem 18 (by decide +kernel) (by decide +kernel), by decide +kernel, by decide +kernel⟩, gw_mem 289 (by decide +kernel) (by decide +kernel), gw_mem 290 (by decide +kernel) (by decide +kernel)⟩
theorem k_L62 : kc_S "ShadowMathLaw" 62 y_L5 (.codeWith y_L5 b_L5 5 (some .int) [(0, 7, 10, 19), (0, 7, 14, 13)]) 4 := ⟨⟨gc_L5, gw_mem 180 (by decide +kernel) (by decide +kernel), gw_mem 16 (by decide +kernel) (by decide +kernel), by decide +kernel, by decide +kernel⟩, gw_mem 181 (by decide +kernel) (by decide +kernel)⟩
theorem k_L64 : kc_V "ShadowMathLaw" 64 y_M19 (.code y_M19 b_M19 5 none) 3 := ⟨⟨gc_M19, gw_mem 329 (by decide +kernel) (by decide +kernel), gw_mem 18 (by decide +kernel) (by decide +kernel), by decide +kernel, by decide +kernel⟩, gw_mem 330 (by decide +kernel) (by decide +kernel), gw_mem 331 (by decide +kernel) (by decide +kernel)⟩
theorem k_L65 : kc_S "ShadowMathLaw" 65 y_L6 (.codeWith y_L6 b_L6 6 (some .int) [(0, 9, 12, 19), (0, 9, 16, 13)]) 5 := ⟨⟨gc_L6, gw_mem 191 (by decide +kernel) (by decide +kernel), gw_mem 16 (by decide +kernel) (by decide +kernel), by decide +kernel, by decide +kernel⟩, gw_mem 192 (by decide +kernel) (by decide +kernel)⟩
theorem k_L68 : kc_V "ShadowMathLaw" 68 y_M20 (.code y_M20 b_M20 8 none) 4 := ⟨⟨gc_M20, gw_mem 336 (by decide +kernel) (by decide +kernel), gw_mem 18 (by decide +kernel) (by decide +kernel), by decide +kernel, by decide +kernel⟩, gw_mem 337 (by decide +kernel) (by decide +kernel), gw_mem 338 (by decide +kernel) (by decide +kernel)⟩
theorem k_L69 : kc_S "ShadowMathLaw" 69 y_L7 (.codeWith y_L7 b_L7 4 (some .int) [(0, 9, 12, 13)]) 3 := ⟨⟨gc_L7, gw_mem 201 (by decide +kernel) (by decide +kernel), gw_mem 16 (by decide +kernel) (by decide +kernel), by decide +kernel, by decide +kernel⟩, gw_mem 202 (by decide +kernel) (by decide +kernel)⟩
theorem k_L72 : kc_V "ShadowMathLaw" 72 y_M21 (.code y_M21 b_M21 2 (some .int)) 1 := ⟨⟨gc_M21, gw_mem 340 (by decide +kernel) (by decide +kernel), gw_mem 18 (by decide +kernel) (by decide +kernel), by decide +kernel, by decide +kernel⟩, gw_mem 341 (by decide +kernel) (by decide +kernel), gw_mem 342 (by decide +kernel) (by decide +kernel)⟩
theorem k_L73 : kc_S "ShadowMathLaw" 73 y_L8 (.codeWith y_L8 b_L8 4 (some .int) [(0, 9, 12, 13)]) 3 := ⟨⟨gc_L8, gw_mem 208 (by decide +kernel) (by decide +kernel), gw_mem 16 (by decide +kernel) (by decide +kernel), by decide +kernel, by decide +kernel⟩, gw_mem 209 (by decide +kernel) (by decide +kernel)⟩
theorem k_L75 : kc_V "ShadowMathLaw" 75 y_M22 (.code y_M22 b_M22 4 (some .int)) 1 := ⟨⟨gc_M22, gw_mem 344 (by decide +kernel) (by decide +kernel), gw_mem 18 (by decide +kernel) (by decide +kernel), by decide +kernel, by decide +kernel⟩, gw_mem 345 (by decide +kernel) (by decide +kernel), gw_mem 346 (by decide +kernel) (by decide +kernel)⟩
theorem k_L76 : kc_S "ShadowMathLaw" 76 y_L9 (.codeWith y_L9 b_L9 4 (some .int) [(0, 9, 12, 13)]) 3 := ⟨⟨gc_L9, gw_mem 215 (by decide +kernel) (by decide +kernel), gw_mem 16 (by decide +kernel) (by decide +kernel), by decide +kernel, by decide +kernel⟩, gw_mem 216 (by decide +kernel) (by decide +kernel)⟩
theorem k_L78 : kc_V "ShadowMathLaw" 78 y_M23 (.code y_M23 b_M23 2 (some .int)) 1 := ⟨⟨gc_M23, gw_mem 348 (by decide +kernel) (by decide +kernel), gw_mem 18 (by decide +kernel) (by decide +kernel), by decide +kernel, by decide +kernel⟩, gw_mem 349 (by decide +kernel) (by decide +kernel), gw_mem 350 (by decide +kernel) (by decide +kernel)⟩
theorem k_L79 : kc_S "ShadowMathLaw" 79 y_L10 (.codeWith y_L10 b_L10 4 (some .int) [(0, 9, 12, 13)]) 3 := ⟨⟨gc_L10, gw_mem 222 (by decide +kernel) (by decide +kernel), gw_mem 16 (by decide +kernel) (by decide +kernel), by decide +kernel, by decide +kernel⟩, gw_mem 223 (by decide +kernel) (by decide +kernel)⟩
theorem k_L81 : kc_V "ShadowMathLaw" 81 y_M24 (.code y_M24 b_M24 2 (some .int)) 1 := ⟨⟨gc_M24, gw_mem 352 (by decide +kernel) (by decide +kernel), gw_mem 18 (by decide +kernel) (by decide +kernel), by decide +kernel, by decide +kernel⟩, gw_mem 353 (by decide +kernel) (by decide +kernel), gw_mem 354 (by decide +kernel) (by decide +kernel)⟩
theorem k_L82 : kc_S "ShadowMathLaw" 82 y_L11 (.codeWith y_L11 b_L11 4 (some .int) [(0, 9, 12, 13)]) 3 := ⟨⟨gc_L11, gw_mem 229 (by decide +kernel) (by decide +kernel), gw_mem 16 (by decide +kernel) (by decide +kernel), by decide +kernel, by decide +kernel⟩, gw_mem 230 (by decide +kernel) (by decide +kernel)⟩
theorem k_L84 : kc_V "ShadowMathLaw" 84 y_M25 (.code y_M25 b_M25 4 (some .int)) 1 := ⟨⟨gc_M25, gw_mem 356 (by decide +kernel) (by decide +kernel), gw_mem 18 (by decide +kernel) (by decide +kernel), by decide +kernel, by decide +kernel⟩, gw_mem 357 (by decide +kernel) (by decide +kernel), gw_mem 358 (by decide +kernel) (by decide +kernel)⟩
theorem k_L85 : kc_V "ShadowMathLaw" 85 y_X24 (.code y_X24 b_X24 4 (some .int)) 0 := ⟨⟨gc_X24, gw_mem 47 (by decide +kernel) (by decide +kernel), gw_mem 17 (by decide +kernel) (by decide +kernel), by decide +kernel, by decide +kernel⟩, gw_mem 48 (by decide +kernel) (by decide +kernel), gw_mem 49 (by decide +kernel) (by decide +kernel)⟩
theorem k_L88 : kc_V "ShadowMathLaw" 88 y_M26 (.code y_M26 b_M26 3 (some .int)) 0 := ⟨⟨gc_M26, gw_mem 360 (by decide +kernel) (by decide +kernel), gw_mem 18 (by decide +kernel) (by decide +kernel), by decide +kernel, by decide +kernel⟩, gw_mem 361 (by decide +kernel) (by decide +kernel), gw_mem 362 (by decide +kernel) (by decide +kernel)⟩
theorem k_M32 : kc_S "ShadowMathModel" 32 y_M4 (.code y_M4 b_M4 1 (some .boolean)) 1 := ⟨⟨gc_M4, gw_mem 273 (by decide +kernel) (by decide +kernel), gw_mem 18 (by decide +kernel) (by decide +kernel), by decide +kernel, by decide +kernel⟩, gw_mem 274 (by decide +kernel) (by decide +kernel)⟩
theorem k_M36 : kc_V "ShadowMathModel" 36 y_M3 (.code y_M3 b_M3 3 (some .boolean)) 2 := ⟨⟨gc_M3, gw_mem 276 (by decide +kernel) (by decide +kernel), gw_mem 18 (by decide +kernel) (by decide +kernel), by decide +kernel, by decide +kernel⟩, gw_mem 278 (by decide +kernel) (by decide +kernel), gw_mem 4 (by decide +kernel) (by decide +kernel)⟩
theorem k_M40 : kc_V "ShadowMathModel" 40 y_M7 (.code y_M7 b_M7 3 none) 1 := ⟨⟨gc_M7, gw_mem 280 (by decide +kernel) (by decide +kernel), gw_mem 18 (by decide +kernel) (by decide +kernel), by decide +kernel, by decide +kernel⟩, gw_mem 282 (by decide +kernel) (by decide +kernel), gw_mem 5 (by decide +kernel) (by decide +kernel)⟩
theorem k_M44 : kc_V "ShadowMathModel" 44 y_M6 (.code y_M6 b_M6 3 none) 1 := ⟨⟨gc_M6, gw_mem 284 (by decide +kernel) (by decide +kernel), gw_mem 18 (by decide +kernel) (by decide +kernel), by decide +kernel, by decide +kernel⟩, gw_mem 286 (by decide +kernel) (by decide +kernel), gw_mem 6 (by decide +kernel) (by decide +kernel)⟩
theorem k_M47 : kc_V "ShadowMathModel" 47 y_M10 (.code y_M10 b_M10 3 (some .boolean)) 2 := ⟨⟨gc_M10, gw_mem 300 (by decide +kernel) (by decide +kernel), gw_mem 18 (by decide +kernel) (by decide +kernel), by decide +kernel, by decide +kernel⟩, gw_mem 302 (by decide +kernel) (by decide +kernel), gw_mem 9 (by decide +kernel) (by decide +kernel)⟩
theorem k_M51 : kc_V "ShadowMathModel" 51 y_M9 (.code y_M9 b_M9 3 (some .boolean)) 2 := ⟨⟨gc_M9, gw_mem 308 (by decide +kernel) (by decide +kernel), gw_mem 18 (by decide +kernel) (by decide +kernel), by decide +kernel, by decide +kernel⟩, gw_mem 310 (by decide +kernel) (by decide +kernel), gw_mem 11 (by decide +kernel) (by decide +kernel)⟩
theorem k_M54 : kc_V "ShadowMathModel" 54 y_M5 (.code y_M5 b_M5 4 (some .int)) 1 := ⟨⟨gc_M5, gw_mem 292 (by decide +kernel) (by decide +kernel), gw_mem 18 (by decide +kernel) (by decide +kernel), by decide +kernel, by decide +kernel⟩, gw_mem 294 (by decide +kernel) (by decide +kernel), gw_mem 7 (by decide +kernel) (by decide +kernel)⟩
theorem k_M58 : kc_V "ShadowMathModel" 58 y_M11 (.code y_M11 b_M11 3 (some .int)) 1 := ⟨⟨gc_M11, gw_mem 296 (by decide +kernel) (by decide +kernel), gw_mem 18 (by decide +kernel) (by decide +kernel), by decide +kernel, by decide +kernel⟩, gw_mem 298 (by decide +kernel) (by decide +kernel), gw_mem 8 (by decide +kernel) (by decide +kernel)⟩
theorem k_M61 : kc_V "ShadowMathModel" 61 y_M13 (.code y_M13 b_M13 3 none) 1 := ⟨⟨gc_M13, gw_mem 304 (by decide +kernel) (by decide +kernel), gw_mem 18 (by decide +kernel) (by decide +kernel), by decide +kernel, by decide +kernel⟩, gw_mem 306 (by decide +kernel) (by decide +kernel), gw_mem 10 (by decide +kernel) (by decide +kernel)⟩
theorem k_M64 : kc_V "ShadowMathModel" 64 y_M15 (.code y_M15 b_M15 8 none) 4 := ⟨⟨gc_M15, gw_mem 312 (by decide +kernel) (by decide +kernel), gw_mem 18 (by decide +kernel) (by decide +kernel), by decide +kernel, by decide +kernel⟩, gw_mem 314 (by decide +kernel) (by decide +kernel), gw_mem 12 (by decide +kernel) (by decide +kernel)⟩
theorem k_M68 : kc_V "ShadowMathModel" 68 y_M12 (.code y_M12 b_M12 3 (some .int)) 1 := ⟨⟨gc_M12, gw_mem 316 (by decide +kernel) (by decide +kernel), gw_mem 18 (by decide +kernel) (by decide +kernel), by decide +kernel, by decide +kernel⟩, gw_mem 318 (by decide +kernel) (by decide +kernel), gw_mem 13 (by decide +kernel) (by decide +kernel)⟩
theorem k_M71 : kc_V "ShadowMathModel" 71 y_M16 (.code y_M16 b_M16 9 (some .long)) 3 := ⟨⟨gc_M16, gw_mem 320 (by decide +kernel) (by decide +kernel), gw_mem 18 (by decide +kernel) (by decide +kernel), by decide +kernel, by decide +kernel⟩, gw_mem 322 (by decide +kernel) (by decide +kernel), gw_mem 14 (by decide +kernel) (by decide +kernel)⟩
theorem k_M77 : kc_V "ShadowMathModel" 77 y_M17 (.code y_M17 b_M17 6 none) 3 := ⟨⟨gc_M17, gw_mem 325 (by decide +kernel) (by decide +kernel), gw_mem 18 (by decide +kernel) (by decide +kernel), by decide +kernel, by decide +kernel⟩, gw_mem 327 (by decide +kernel) (by decide +kernel), gw_mem 15 (by decide +kernel) (by decide +kernel)⟩
theorem k_M81 : kc_S "ShadowMathModel" 81 y_M18 (.code y_M18 b_M18 1 (some .boolean)) 1 := ⟨⟨gc_M18, gw_mem 333 (by decide +kernel) (by decide +kernel), gw_mem 18 (by decide +kernel) (by decide +kernel), by decide +kernel, by decide +kernel⟩, gw_mem 334 (by decide +kernel) (by decide +kernel)⟩
theorem k_X26 : kc_S "ShadowMath" 26 y_X3 (.code y_X3 b_X3 1 (some .boolean)) 1 := ⟨⟨gc_X3, gw_mem 59 (by decide +kernel) (by decide +kernel), gw_mem 17 (by decide +kernel) (by decide +kernel), by decide +kernel, by decide +kernel⟩, gw_mem 60 (by decide +kernel) (by decide +kernel)⟩
theorem k_X30 : kc_S "ShadowMath" 30 y_X2 (.code y_X2 b_X2 1 none) 1 := ⟨⟨gc_X2, gw_mem 62 (by decide +kernel) (by decide +kernel), gw_mem 17 (by decide +kernel) (by decide +kernel), by decide +kernel, by decide +kernel⟩, gw_mem 63 (by decide +kernel) (by decide +kernel)⟩
theorem k_X40 : kc_S "ShadowMath" 40 y_X5 (.code y_X5 b_X5 1 (some .int)) 1 := ⟨⟨gc_X5, gw_mem 150 (by decide +kernel) (by decide +kernel), gw_mem 17 (by decide +kernel) (by decide +kernel), by decide +kernel, by decide +kernel⟩, gw_mem 151 (by decide +kernel) (by decide +kernel)⟩
theorem k_X44 : kc_V "ShadowMath" 44 y_X14 (.code y_X14 b_X14 4 none) 3 := ⟨⟨gc_X14, gw_mem 153 (by decide +kernel) (by decide +kernel), gw_mem 17 (by decide +kernel) (by decide +kernel), by decide +kernel, by decide +kernel⟩, gw_mem 155 (by decide +kernel) (by decide +kernel), gw_mem 1 (by decide +kernel) (by decide +kernel)⟩
theorem k_X48 : kc_S "ShadowMath" 48 y_X6 (.code y_X6 b_X6 2 (some .int)) 2 := ⟨⟨gc_X6, gw_mem 157 (by decide +kernel) (by decide +kernel), gw_mem 17 (by decide +kernel) (by decide +kernel), by decide +kernel, by decide +kernel⟩, gw_mem 158 (by decide +kernel) (by decide +kernel)⟩
theorem k_X52 : kc_S "ShadowMath" 52 y_X7 (.code y_X7 b_X7 2 (some .int)) 2 := ⟨⟨gc_X7, gw_mem 160 (by decide +kernel) (by decide +kernel), gw_mem 17 (by decide +kernel) (by decide +kernel), by decide +kernel, by decide +kernel⟩, gw_mem 161 (by decide +kernel) (by decide +kernel)⟩
theorem k_X55 : kc_S "ShadowMath" 55 y_X12 (.code y_X12 b_X12 3 (some .int)) 2 := ⟨⟨gc_X12, gw_mem 163 (by decide +kernel) (by decide +kernel), gw_mem 17 (by decide +kernel) (by decide +kernel), by decide +kernel, by decide +kernel⟩, gw_mem 164 (by decide +kernel) (by decide +kernel)⟩
theorem k_X58 : kc_S "ShadowMath" 58 y_X10 (.code y_X10 b_X10 2 (some .int)) 2 := ⟨⟨gc_X10, gw_mem 169 (by decide +kernel) (by decide +kernel), gw_mem 17 (by decide +kernel) (by decide +kernel), by decide +kernel, by decide +kernel⟩, gw_mem 170 (by decide +kernel) (by decide +kernel)⟩
theorem k_X61 : kc_S "ShadowMath" 61 y_X9 (.code y_X9 b_X9 2 (some .int)) 2 := ⟨⟨gc_X9, gw_mem 173 (by decide +kernel) (by decide +kernel), gw_mem 17 (by decide +kernel) (by decide +kernel), by decide +kernel, by decide +kernel⟩, gw_mem 174 (by decide +kernel) (by decide +kernel)⟩
theorem k_X64 : kc_V "ShadowMath" 64 y_X13 (.code y_X13 b_X13 5 none) 4 := ⟨⟨gc_X13, gw_mem 176 (by decide +kernel) (by decide +kernel), gw_mem 17 (by decide +kernel) (by decide +kernel), by decide +kernel, by decide +kernel⟩, gw_mem 178 (by decide +kernel) (by decide +kernel), gw_mem 2 (by decide +kernel) (by decide +kernel)⟩
theorem k_X68 : kc_S "ShadowMath" 68 y_X8 (.code y_X8 b_X8 3 (some .int)) 1 := ⟨⟨gc_X8, gw_mem 166 (by decide +kernel) (by decide +kernel), gw_mem 17 (by decide +kernel) (by decide +kernel), by decide +kernel, by decide +kernel⟩, gw_mem 167 (by decide +kernel) (by decide +kernel)⟩
theorem k_X71 : kc_V "ShadowMath" 71 y_X15 (.code y_X15 b_X15 4 none) 3 := ⟨⟨gc_X15, gw_mem 187 (by decide +kernel) (by decide +kernel), gw_mem 17 (by decide +kernel) (by decide +kernel), by decide +kernel, by decide +kernel⟩, gw_mem 189 (by decide +kernel) (by decide +kernel), gw_mem 3 (by decide +kernel) (by decide +kernel)⟩
theorem k_X74 : kc_S "ShadowMath" 74 y_X17 (.code y_X17 b_X17 6 (some .int)) 4 := ⟨⟨gc_X17, gw_mem 198 (by decide +kernel) (by decide +kernel), gw_mem 17 (by decide +kernel) (by decide +kernel), by decide +kernel, by decide +kernel⟩, gw_mem 199 (by decide +kernel) (by decide +kernel)⟩
def zc_X : String := "ShadowMath"
def zf_X : u_T := fun k => match k with
  | 0 => ("ShadowMath", "v", "[I", true)
  | 1 => ("ShadowMath", "not", "[I", true)
  | 2 => ("ShadowMath", "memory", "[B", true)
  | _ => ("ShadowMath", "hidden", "[B", true)
def zt_X : Nat → FieldType := fun k => match k with
  | 0 => .array .int
  | 1 => .array .int
  | 2 => .array .byte
  | _ => .array .byte
theorem zn_X : ∀ a, a < 4 → ∀ b, b < 4 → a ≠ b → (zf_X a).2.1 ≠ (zf_X b).2.1 := by decide +kernel
theorem zo_X : ∀ k, k < 4 → parseFieldDescriptor (zf_X k).2.2.1 = some (zt_X k) := by decide +kernel
theorem zu_X : ∀ w ∈ u_ws zc_X zf_X 4, w ∈ gw_L := by decide +kernel
theorem zl_X0 : Cond.fieldLink zc_X 9 zc_X (zf_X 0).2.1 (zf_X 0).2.2.1 ∈ gw_L := gw_mem 32 (by decide +kernel) (by decide +kernel)
theorem zl_X1 : Cond.fieldLink zc_X 13 zc_X (zf_X 1).2.1 (zf_X 1).2.2.1 ∈ gw_L := gw_mem 33 (by decide +kernel) (by decide +kernel)
theorem zl_X2 : Cond.fieldLink zc_X 16 zc_X (zf_X 2).2.1 (zf_X 2).2.2.1 ∈ gw_L := gw_mem 34 (by decide +kernel) (by decide +kernel)
theorem zl_X3 : Cond.fieldLink zc_X 20 zc_X (zf_X 3).2.1 (zf_X 3).2.2.1 ∈ gw_L := gw_mem 35 (by decide +kernel) (by decide +kernel)
def zc_M : String := "ShadowMathModel"
def zf_M : u_T := fun k => match k with
  | 0 => ("ShadowMathModel", "err", "I", false)
  | 1 => ("ShadowMathModel", "bit", "[Z", true)
  | 2 => ("ShadowMathModel", "lost", "[Z", true)
  | 3 => ("ShadowMathModel", "octetBit", "[Z", true)
  | 4 => ("ShadowMathModel", "octetLost", "[Z", true)
  | 5 => ("ShadowMathModel", "out", "[Z", true)
  | _ => ("ShadowMathModel", "gone", "[Z", true)
def zt_M : Nat → FieldType := fun k => match k with
  | 0 => .int
  | 1 => .array .boolean
  | 2 => .array .boolean
  | 3 => .array .boolean
  | 4 => .array .boolean
  | 5 => .array .boolean
  | _ => .array .boolean
theorem zn_M : ∀ a, a < 7 → ∀ b, b < 7 → a ≠ b → (zf_M a).2.1 ≠ (zf_M b).2.1 := by decide +kernel
theorem zo_M : ∀ k, k < 7 → parseFieldDescriptor (zf_M k).2.2.1 = some (zt_M k) := by decide +kernel
theorem zu_M : ∀ w ∈ u_ws zc_M zf_M 7, w ∈ gw_L := by decide +kernel
theorem zl_M0 : Cond.fieldLink zc_M 28 zc_M (zf_M 0).2.1 (zf_M 0).2.2.1 ∈ gw_L := gw_mem 242 (by decide +kernel) (by decide +kernel)
theorem zl_M1 : Cond.fieldLink zc_M 7 zc_M (zf_M 1).2.1 (zf_M 1).2.2.1 ∈ gw_L := gw_mem 243 (by decide +kernel) (by decide +kernel)
theorem zl_M2 : Cond.fieldLink zc_M 13 zc_M (zf_M 2).2.1 (zf_M 2).2.2.1 ∈ gw_L := gw_mem 244 (by decide +kernel) (by decide +kernel)
theorem zl_M3 : Cond.fieldLink zc_M 16 zc_M (zf_M 3).2.1 (zf_M 3).2.2.1 ∈ gw_L := gw_mem 245 (by decide +kernel) (by decide +kernel)
theorem zl_M4 : Cond.fieldLink zc_M 19 zc_M (zf_M 4).2.1 (zf_M 4).2.2.1 ∈ gw_L := gw_mem 246 (by decide +kernel) (by decide +kernel)
theorem zl_M5 : Cond.fieldLink zc_M 22 zc_M (zf_M 5).2.1 (zf_M 5).2.2.1 ∈ gw_L := gw_mem 247 (by decide +kernel) (by decide +kernel)
theorem zl_M6 : Cond.fieldLink zc_M 25 zc_M (zf_M 6).2.1 (zf_M 6).2.2.1 ∈ gw_L := gw_mem 248 (by decide +kernel) (by decide +kernel)
abbrev zC : List vw_C := [(zc_X, zf_X, 4), (zc_M, zf_M, 7)]
theorem gx_int : Cond.arrayClass .int ∈ gw_L := gw_mem 45 (by decide +kernel) (by decide +kernel)
theorem gx_byte : Cond.arrayClass .byte ∈ gw_L := gw_mem 46 (by decide +kernel) (by decide +kernel)
theorem gx_bool : Cond.arrayClass .boolean ∈ gw_L := gw_mem 264 (by decide +kernel) (by decide +kernel)
theorem gx_long : Cond.arrayClass .long ∈ gw_L := gw_mem 364 (by decide +kernel) (by decide +kernel)
theorem gx_min : Cond.constant "ShadowMath" 36 (-2147483648) ∈ gw_L := gw_mem 172 (by decide +kernel) (by decide +kernel)
theorem gx_ffff : Cond.constantLong "ShadowMathModel" 75 4294967295 ∈ gw_L := gw_mem 324 (by decide +kernel) (by decide +kernel)
theorem gx_objX : Cond.methodLink "ShadowMath" 1 objectInit ∈ gw_L := gw_mem 29 (by decide +kernel) (by decide +kernel)
theorem gx_objM : Cond.methodLink "ShadowMathModel" 1 objectInit ∈ gw_L := gw_mem 241 (by decide +kernel) (by decide +kernel)
theorem gx_obji : Cond.instanceMethod objectInit ∈ gw_L := gw_mem 30 (by decide +kernel) (by decide +kernel)
theorem gx_objc : Cond.code objectInit ⟨#[0xb1]⟩ 1 none ∈ gw_L := gw_mem 31 (by decide +kernel) (by decide +kernel)
theorem gx_clX : Cond.classLink "ShadowMathLaw" 8 "ShadowMath" ∈ gw_L := gw_mem 24 (by decide +kernel) (by decide +kernel)
theorem gx_clM : Cond.classLink "ShadowMathLaw" 45 "ShadowMathModel" ∈ gw_L := gw_mem 236 (by decide +kernel) (by decide +kernel)
theorem gx_inX : Cond.instantiable "ShadowMath" 4 ∈ gw_L := gw_mem 25 (by decide +kernel) (by decide +kernel)
theorem gx_inM : Cond.instantiable "ShadowMathModel" 7 ∈ gw_L := gw_mem 237 (by decide +kernel) (by decide +kernel)
theorem gx_iniX : Cond.initialized "ShadowMath" ∈ gw_L := gw_mem 17 (by decide +kernel) (by decide +kernel)
theorem gx_iniM : Cond.initialized "ShadowMathModel" ∈ gw_L := gw_mem 18 (by decide +kernel) (by decide +kernel)
theorem gx_l13 : Cond.classLink "ShadowMathLaw" 13 "java/lang/IndexOutOfBoundsException" ∈ gw_L := gw_mem 54 (by decide +kernel) (by decide +kernel)
theorem gx_l19 : Cond.classLink "ShadowMathLaw" 19 "java/lang/IllegalArgumentException" ∈ gw_L := gw_mem 130 (by decide +kernel) (by decide +kernel)
theorem gx_x23 : Cond.classLink "ShadowMath" 23 "java/lang/IndexOutOfBoundsException" ∈ gw_L := gw_mem 65 (by decide +kernel) (by decide +kernel)
theorem gx_x37 : Cond.classLink "ShadowMath" 37 "java/lang/IllegalArgumentException" ∈ gw_L := gw_mem 135 (by decide +kernel) (by decide +kernel)
theorem gx_in_io : Cond.instantiable "java/lang/IndexOutOfBoundsException" 6 ∈ gw_L := gw_mem 66 (by decide +kernel) (by decide +kernel)
theorem gx_ini_io : Cond.initialized "java/lang/IndexOutOfBoundsException" ∈ gw_L := gw_mem 22 (by decide +kernel) (by decide +kernel)
theorem gx_in_ia : Cond.instantiable "java/lang/IllegalArgumentException" 6 ∈ gw_L := gw_mem 136 (by decide +kernel) (by decide +kernel)
theorem gx_ini_ia : Cond.initialized "java/lang/IllegalArgumentException" ∈ gw_L := gw_mem 23 (by decide +kernel) (by decide +kernel)
end
section
/-! rooms by level; a method's words: its own code, then all good words -/
abbrev zw (w : Cond) : List Cond := w :: gw_L
abbrev rmv (k c sl : Nat) : Room := { frames := k, cells := c, slots := sl, locals := 40 * k }
theorem zw_pay {args : Array Value} {s : State} {w0 w1 : Cond} (hts : ∀ w ∈ zw w0, w.before args s = true) (h1 : w1 ∈ gw_L) : ∀ w ∈ zw w1, ∀ (a' : Array Value) (U : State), s.WarmedH U.vm → w.before a' U = true := by
  intro w hw a' U hW
  have hg : w ∈ gw_L := by
    rcases List.mem_cons.mp hw with rfl | h
    · exact h1
    · exact h
  exact word_at hW (gw_good w hg) (hts w (List.mem_cons_of_mem _ hg))
theorem zw_at {args : Array Value} {s : State} {w0 w : Cond} (hts : ∀ w ∈ zw w0, w.before args s = true) (h : w ∈ gw_L) : w.before args s = true := hts w (List.mem_cons_of_mem _ h)
section ZMA
variable {p : Program} {l : Launch} {e : Env} {R : Room} {s : State} {m : MethodId} {args : Array Value} {below : List Frame} {meth : Method} {c : Code} {H : Heap} {locs : List Loc} {cells slots : Nat} {Q : State → Prop}
theorem zm_met {y : MethodName} {b : ByteArray} {n : Nat} {r : Option FieldType} {rm : Room} {Bp : State → Prop} {Qc : Array Value → State → Outcome → State → Prop} {mc ms : Nat} {free : Addr → Prop} (As : List Value) (hy : plainName y.cls = true) (hlen : (lg_sl As).length ≤ n)
    (body : ∀ (p : Program) (e : Env) (s : State) (m : MethodId) (below : List Frame) (meth : Method) (c : Code) (ls : Array Slot), CallFix p m c b n s As.toArray (zw (.code y b n r)) y.cls → meth.sig.returnType = r → meth.locks = false → meth.name = y.name → lv_has ls n (lv_args 0 As) → Bp s →
      W p l e rm s m As.toArray below meth c s.heap [] 0 0 (MQ below Qc As.toArray s mc ms free) (F0 m 0 ls [])) : Met l y (zw (.code y b n r)) rm (va_Pc As Bp) Qc mc ms free := by
  refine Met.ofW (cc := b) (maxL := n) (ret := r) hy rfl ?_
  intro p e s m args below meth c s₁ B hml hv
  obtain ⟨rfl, hB⟩ := hv
  rw [lg_entry_eq]
  exact body p e s m below meth c _ ⟨B.exec, B.bytes, hml, findClass_of_methodNamed B.named, atoms_spec (ws := zw (.code y b n r)) B.pre⟩ B.returns B.notSynchronized (name_of_methodNamed B.named B.method).1 (lv_entry As hlen) hB
theorem zm_metW {y : MethodName} {b : ByteArray} {n : Nat} {r : Option FieldType} {hh : List (Nat × Nat × Nat × Nat)} {rm : Room} {Bp : State → Prop} {Qc : Array Value → State → Outcome → State → Prop} {mc ms : Nat} {free : Addr → Prop} (As : List Value) (hy : plainName y.cls = true) (hlen : (lg_sl As).length ≤ n)
    (body : ∀ (p : Program) (e : Env) (s : State) (m : MethodId) (below : List Frame) (meth : Method) (c : Code) (ls : Array Slot), CallFix p m c b n s As.toArray (zw (.codeWith y b n r hh)) y.cls → meth.sig.returnType = r → meth.locks = false → c.exceptionTable.toList.map (fun h => (h.startPc, h.endPc, h.handlerPc, h.catchType)) = hh → lv_has ls n (lv_args 0 As) → Bp s →
      W p l e rm s m As.toArray below meth c s.heap [] 0 0 (MQ below Qc As.toArray s mc ms free) (F0 m 0 ls [])) : Met l y (zw (.codeWith y b n r hh)) rm (va_Pc As Bp) Qc mc ms free := by
  refine va_MetW (cc := b) (maxL := n) (ret := r) (hh := hh) hy rfl ?_
  intro p e s m args below meth c s₁ B hml hv
  obtain ⟨rfl, hB⟩ := hv
  have hts := atoms_spec (ws := zw (.codeWith y b n r hh)) B.pre
  obtain ⟨m9, meth9, c9, hn9, h1, h2, -, -, h5, -⟩ := Cond.codeWith_spec (hts _ List.mem_cons_self)
  cases B.named.symm.trans hn9
  cases B.method.symm.trans h1
  cases (Stand.of_body B).code.symm.trans h2
  rw [lg_entry_eq]
  exact body p e s m below meth c _ ⟨B.exec, B.bytes, hml, findClass_of_methodNamed B.named, hts⟩ B.returns B.notSynchronized h5 (lv_entry As hlen) hB
/-! calls -/
theorem zc_B {own : String} {ix n nn : Nat} {y : MethodName} {b : ByteArray} {r : Option FieldType} {w0 : Cond} {rm : Room} (hts : ∀ w ∈ zw w0, w.before args s = true) (K : kc_B own ix y (.code y b n r) nn) (hR : rm.frames + 1 ≤ R.frames ∧ 8 + (n + 11) + rm.locals ≤ R.locals) : CallB R s args own ix y b n r (zw (.code y b n r)) rm rm.cells rm.slots nn := by
  obtain ⟨h1, h2, h3, h4, h5⟩ := K
  refine ⟨rfl, rfl, hR.1, hR.2, zw_pay hts h1, List.mem_cons_self, zw_at hts h1, zw_at hts h3, h4, fun sig h => ?_, zw_at hts h2⟩
  rw [h] at h5
  exact (Option.some.inj h5).symm
/-- a static method that only reckons: an int -/
theorem zc_Si {cc : ByteArray} {nL ix n nn pc : Nat} {own : String} {y : MethodName} {b : ByteArray} {r : Option FieldType} {w0 : Cond} {rm : Room} {Bp : State → Prop} {As rest st0 : List Value} {v : Int32} {ls : Array Slot}
    (S : CallFix p m c cc nL s args (zw w0) own) (K : kc_S own ix y (.code y b n r) nn) (hM : Met l y (zw (.code y b n r)) rm (va_Pc As Bp) (vp_Si (fun z => z = v)) 0 0 (fun _ => False)) (hp : PreS s H (va_Pc As Bp) As)
    (hR : rm.frames + 1 ≤ R.frames ∧ 8 + (n + 11) + rm.locals ≤ R.locals) (h0 : rm.cells = 0 ∧ rm.slots = 0) (hn : As.length = nn) (hsize : ls.size = nL) (hst : st0 = As.reverse ++ rest) (hW : (rest.map fun v => v.category).sum ≤ 8) (hdg : decode cc pc = .ok (.invokestatic ix, 3)) (hf : cells ≤ R.cells ∧ slots ≤ R.slots)
    (k : W p l e R s m args below meth c H locs cells slots Q (F0 m (pc + 3) ls (.int v :: rest))) : W p l e R s m args below meth c H locs cells slots Q (F0 m pc ls st0) := by
  have cb := zc_B (R := R) (s := s) (args := args) S.2.2.2.2 K.1 hR
  rw [h0.1, h0.2] at cb
  refine vp_callSi (W.runS (As := As) (rest := rest) S hM ⟨cb, zw_at S.2.2.2.2 K.2⟩ hp rfl hn hsize hst (lv_room hW) hdg hf) (fun z hz => ?_)
  subst hz
  exact k
theorem zp_S {As : List Value} : PreS s H (va_Pc As (fun _ => True)) As := ⟨fun _ _ _ _ q => ⟨q.1, trivial⟩, fun _ _ _ => ⟨rfl, trivial⟩⟩
theorem zc_Sv {cc : ByteArray} {nL ix n nn pc : Nat} {own : String} {y : MethodName} {b : ByteArray} {r : Option FieldType} {w0 : Cond} {rm : Room} {Bp : State → Prop} {As rest st0 : List Value} {ls : Array Slot}
    (S : CallFix p m c cc nL s args (zw w0) own) (K : kc_S own ix y (.code y b n r) nn) (hM : Met l y (zw (.code y b n r)) rm (va_Pc As Bp) (va_Sv (fun _ => True)) 0 0 (fun _ => False)) (hp : PreS s H (va_Pc As Bp) As)
    (hR : rm.frames + 1 ≤ R.frames ∧ 8 + (n + 11) + rm.locals ≤ R.locals) (h0 : rm.cells = 0 ∧ rm.slots = 0) (hn : As.length = nn) (hsize : ls.size = nL) (hst : st0 = As.reverse ++ rest) (hW : (rest.map fun v => v.category).sum ≤ 8) (hdg : decode cc pc = .ok (.invokestatic ix, 3)) (hf : cells ≤ R.cells ∧ slots ≤ R.slots)
    (k : W p l e R s m args below meth c H locs cells slots Q (F0 m (pc + 3) ls rest)) : W p l e R s m args below meth c H locs cells slots Q (F0 m pc ls st0) := by
  have cb := zc_B (R := R) (s := s) (args := args) S.2.2.2.2 K.1 hR
  rw [h0.1, h0.2] at cb
  exact va_csv (W.runS (As := As) (rest := rest) S hM ⟨cb, zw_at S.2.2.2.2 K.2⟩ hp rfl hn hsize hst (lv_room hW) hdg hf) (fun _ => k)
/-- a world at the start of a method -/
def zp_W (D : va_G) (tys : List (ClassId × FieldType)) (ws : va_W) : State → Prop := fun U => va_P D zC ws U.heap ∧ va_K D zC tys U
theorem zp_blind {D : va_G} {tys : List (ClassId × FieldType)} {ws : va_W} {As : List Value} : FrameBlind (va_Pc As (zp_W D tys ws)) := by
  intro a U g mk q
  obtain ⟨q0, qP, qK⟩ := q
  exact ⟨q0, qP, va_K.moved (u := U) (U := U.calling g mk a) (Vm.Alike.refl U.vm) qK⟩
theorem zp_WS {D : va_G} {tys : List (ClassId × FieldType)} {ws : va_W} {As : List Value} (hK : va_K D zC tys s) (hP : va_P D zC ws H) : PreS s H (va_Pc As (zp_W D tys ws)) As :=
  ⟨zp_blind, fun U hU hW => ⟨rfl, by rw [hU]; exact hP, va_K.moved hW.alike hK⟩⟩
theorem zp_WV {D : va_G} {tys : List (ClassId × FieldType)} {ws w2 : va_W} {As : List Value} {b ci : Nat} {fs : List Value} {C : String} {T : u_T} {N : Nat} (hK : va_K D zC tys s) (hP : va_P D zC ws H) (hc : zC[ci]? = some (C, T, N)) (q0 : Nat) (he : ws[q0]? = some (b, .inr (ci, fs))) (hP2 : va_P D zC w2 H) : PreV s H C b (va_Pc (.ref b :: As) (zp_W D tys w2)) As := by
  refine ⟨zp_blind, ?_, fun U hU hW => ⟨rfl, by rw [hU]; exact hP2, va_K.moved hW.alike hK⟩⟩
  exact va_recv hK hP hc he
/-- what a method that writes in place says at its end -/
def zq_w (post : Option Value → Heap → Prop) (A : Nat → Prop) : Array Value → State → Outcome → State → Prop := fun _ st o t => (∃ r : Option Value, o = .returned r ∧ post r t.heap) ∧ t.heap.size = st.heap.size ∧ ∀ q : Nat, ¬ A q → t.heap[q]? = st.heap[q]?
theorem zq_call {post : Option Value → Heap → Prop} {A : Nat → Prop} {a : Array Value} {st0 rest : List Value} {pc : Nat} {ls : Array Slot} {H0 : Heap} (hr : CallRun p l e R s m args below meth c H locs cells slots 0 0 (F0 m pc ls st0) rest (zq_w post A a) A) (hS : va_S A H0 H locs)
    (kk : ∀ (r : Option Value) (H1 : Heap) (locs1 : List Loc), post r H1 → H1.size = H.size → va_S A H0 H1 locs1 → W p l e R s m args below meth c H1 locs1 cells slots Q (F0 m (pc + 3) ls (r.toList ++ rest))) : W p l e R s m args below meth c H locs cells slots Q (F0 m pc ls st0) := by
  intro T hT X
  obtain ⟨v, st₀, t, T', L, h0, X', hL, e1, ⟨⟨r, hv, hp⟩, hz, hk⟩, st⟩ := hr T hT X
  cases hv
  rw [h0] at hz hk
  obtain ⟨t2, a1, b1⟩ := kk v t.heap (locs ++ L) hp hz ⟨by rw [hz]; exact hS.1, fun q h1 h2 => (hk q h2).trans (hS.2.1 q h1 h2), fun q hq => by
    rcases List.mem_append.mp hq with h | h
    · exact hS.2.2 q h
    · exact hL q h⟩ T' e1 X'
  exact ⟨t2, st t2 a1, b1⟩
theorem zq_end {post : Option Value → Heap → Prop} {A : Nat → Prop} {as : Array Value} {t : State} {r : Option Value} (hS : va_S A s.heap H locs) (hz : H.size = s.heap.size) (hp : post r H) (ht : t.heap = H) : zq_w post A as s (.returned r) t := by
  refine ⟨⟨r, rfl, by rw [ht]; exact hp⟩, by rw [ht]; exact hz, fun q hq => ?_⟩
  rw [ht]
  by_cases h : q < s.heap.size
  · exact hS.2.1 q h hq
  · rw [Array.getElem?_eq_none (by omega), Array.getElem?_eq_none (by omega)]
/-- an object's method by invokevirtual: reads only, an int -/
theorem zc_Vi {cc : ByteArray} {nL ix n nn pc b : Nat} {own C : String} {y : MethodName} {by0 : ByteArray} {r : Option FieldType} {w0 : Cond} {rm : Room} {Bp : State → Prop} {As rest st0 : List Value} {v : Int32} {ls : Array Slot}
    (S : CallFix p m c cc nL s args (zw w0) own) (K : kc_V own ix y (.code y by0 n r) nn) (hM : Met l y (zw (.code y by0 n r)) rm (va_Pc (.ref b :: As) Bp) (vp_Si (fun z => z = v)) 0 0 (fun _ => False)) (hC : y.cls = C) (hp : PreV s H C b (va_Pc (.ref b :: As) Bp) As)
    (hR : rm.frames + 1 ≤ R.frames ∧ 8 + (n + 11) + rm.locals ≤ R.locals) (h0 : rm.cells = 0 ∧ rm.slots = 0) (hn : As.length = nn) (hsize : ls.size = nL) (hst : st0 = As.reverse ++ .ref b :: rest) (hW : (rest.map fun v => v.category).sum ≤ 8) (hdg : decode cc pc = .ok (.invokevirtual ix, 3)) (hf : cells ≤ R.cells ∧ slots ≤ R.slots)
    (k : W p l e R s m args below meth c H locs cells slots Q (F0 m (pc + 3) ls (.int v :: rest))) : W p l e R s m args below meth c H locs cells slots Q (F0 m pc ls st0) := by
  subst hC
  have cb := zc_B (R := R) (s := s) (args := args) S.2.2.2.2 K.1 hR
  rw [h0.1, h0.2] at cb
  refine vp_callSi (W.runV (As := As) (rest := rest) S hM ⟨cb, zw_at S.2.2.2.2 K.2.1, zw_at S.2.2.2.2 K.2.2⟩ hp rfl hn hsize hst (lv_room hW) hdg hf) (fun z hz => ?_)
  subst hz
  exact k
theorem zc_Vl {cc : ByteArray} {nL ix n nn pc b : Nat} {own C : String} {y : MethodName} {by0 : ByteArray} {r : Option FieldType} {w0 : Cond} {rm : Room} {Bp : State → Prop} {As rest st0 : List Value} {v : Int64} {ls : Array Slot}
    (S : CallFix p m c cc nL s args (zw w0) own) (K : kc_V own ix y (.code y by0 n r) nn) (hM : Met l y (zw (.code y by0 n r)) rm (va_Pc (.ref b :: As) Bp) (vp_Sl (fun z => z = v)) 0 0 (fun _ => False)) (hC : y.cls = C) (hp : PreV s H C b (va_Pc (.ref b :: As) Bp) As)
    (hR : rm.frames + 1 ≤ R.frames ∧ 8 + (n + 11) + rm.locals ≤ R.locals) (h0 : rm.cells = 0 ∧ rm.slots = 0) (hn : As.length = nn) (hsize : ls.size = nL) (hst : st0 = As.reverse ++ .ref b :: rest) (hW : (rest.map fun v => v.category).sum ≤ 8) (hdg : decode cc pc = .ok (.invokevirtual ix, 3)) (hf : cells ≤ R.cells ∧ slots ≤ R.slots)
    (k : W p l e R s m args below meth c H locs cells slots Q (F0 m (pc + 3) ls (.long v :: rest))) : W p l e R s m args below meth c H locs cells slots Q (F0 m pc ls st0) := by
  subst hC
  have cb := zc_B (R := R) (s := s) (args := args) S.2.2.2.2 K.1 hR
  rw [h0.1, h0.2] at cb
  refine vp_callSl (W.runV (As := As) (rest := rest) S hM ⟨cb, zw_at S.2.2.2.2 K.2.1, zw_at S.2.2.2.2 K.2.2⟩ hp rfl hn hsize hst (lv_room hW) hdg hf) (fun z hz => ?_)
  subst hz
  exact k
/-- an object's method by invokevirtual that writes in place -/
theorem zc_Vw {cc : ByteArray} {nL ix n nn pc b : Nat} {own C : String} {y : MethodName} {by0 : ByteArray} {r : Option FieldType} {w0 : Cond} {rm : Room} {Bp : State → Prop} {As rest st0 : List Value} {ls : Array Slot} {post : Option Value → Heap → Prop} {A : Nat → Prop} {H0 : Heap}
    (S : CallFix p m c cc nL s args (zw w0) own) (K : kc_V own ix y (.code y by0 n r) nn) (hM : Met l y (zw (.code y by0 n r)) rm (va_Pc (.ref b :: As) Bp) (zq_w post A) 0 0 A) (hC : y.cls = C) (hp : PreV s H C b (va_Pc (.ref b :: As) Bp) As)
    (hR : rm.frames + 1 ≤ R.frames ∧ 8 + (n + 11) + rm.locals ≤ R.locals) (h0 : rm.cells = 0 ∧ rm.slots = 0) (hn : As.length = nn) (hsize : ls.size = nL) (hst : st0 = As.reverse ++ .ref b :: rest) (hW : (rest.map fun v => v.category).sum ≤ 8) (hdg : decode cc pc = .ok (.invokevirtual ix, 3)) (hf : cells ≤ R.cells ∧ slots ≤ R.slots) (hS : va_S A H0 H locs)
    (kk : ∀ (r : Option Value) (H1 : Heap) (locs1 : List Loc), post r H1 → H1.size = H.size → va_S A H0 H1 locs1 → W p l e R s m args below meth c H1 locs1 cells slots Q (F0 m (pc + 3) ls (r.toList ++ rest))) : W p l e R s m args below meth c H locs cells slots Q (F0 m pc ls st0) := by
  subst hC
  have cb := zc_B (R := R) (s := s) (args := args) S.2.2.2.2 K.1 hR
  rw [h0.1, h0.2] at cb
  exact zq_call (W.runV (As := As) (rest := rest) S hM ⟨cb, zw_at S.2.2.2.2 K.2.1, zw_at S.2.2.2.2 K.2.2⟩ hp rfl hn hsize hst (lv_room hW) hdg hf) hS kk
/-- a way on that several roads share -/
theorem zj_i {x : Int32} {pc : Nat} {ls : Array Slot} {rest : List Value} {g : JFrame} (J : ∀ z : Int32, z = x → W p l e R s m args below meth c H locs cells slots Q (F0 m pc ls (.int z :: rest))) (k : (∀ z : Int32, z = x → W p l e R s m args below meth c H locs cells slots Q (F0 m pc ls (.int z :: rest))) → W p l e R s m args below meth c H locs cells slots Q g) : W p l e R s m args below meth c H locs cells slots Q g := k J
end ZMA
end
section
/-! exceptions: a new object thrown, passed on, caught -/
abbrev zx_io : String := "java/lang/IndexOutOfBoundsException"
abbrev zx_ia : String := "java/lang/IllegalArgumentException"
abbrev zx_up : List String := ["java/lang/RuntimeException", "java/lang/Exception"]
/-- words that are not among the good ones, but are needed to throw -/
def zx_W : List Cond := [.declares ⟨"java/lang/RuntimeException", "<init>", "()V"⟩, .declares ⟨"java/lang/Exception", "<init>", "()V"⟩, .declares ⟨"java/lang/Throwable", "<init>", "()V"⟩, .castable zx_io zx_io, .castable zx_ia zx_ia, .laysStatic "java/lang/Throwable" "UNASSIGNED_STACK" "[Ljava/lang/StackTraceElement;", .laysStatic "java/lang/Throwable" "SUPPRESSED_SENTINEL" "Ljava/util/List;", .isRef (.static "java/lang/Throwable" "UNASSIGNED_STACK" "[Ljava/lang/StackTraceElement;"), .isRef (.static "java/lang/Throwable" "SUPPRESSED_SENTINEL" "Ljava/util/List;")]
def zx_E (U : State) : Prop := ∀ w ∈ zx_W, w.before #[] U = true
theorem zx_own_io : ∀ w ∈ Bundle.ownAtoms0 "ShadowMath" 25 zx_io zx_up, w ∈ gw_L ∨ w ∈ zx_W := by decide +kernel
theorem zx_own_ia : ∀ w ∈ Bundle.ownAtoms0 "ShadowMath" 39 zx_ia zx_up, w ∈ gw_L ∨ w ∈ zx_W := by decide +kernel
theorem zx_any {U : State} (h : zx_E U) (A : Array Value) : ∀ w ∈ zx_W, w.before A U = true := by
  intro w hw
  have h1 := h w hw
  simp only [zx_W, List.mem_cons, List.not_mem_nil, or_false] at hw
  rcases hw with rfl | rfl | rfl | rfl | rfl | rfl | rfl | rfl | rfl <;> exact h1
theorem zx_lay {A : Array Value} {V U : State} {o n d : String} (hv : V.vm = U.vm) (hk : ∀ (a : Addr) (cell : Cell), V.heap[a]? = some cell → U.heap[a]? = some cell) (h : (Cond.laysStatic o n d).before A V = true) : (Cond.laysStatic o n d).before A U = true := by
  obtain ⟨c, k, i, f, a, cell, h1, h2, h3, h4, h5, h6, h7, h8, h9⟩ := Cond.laysStatic_spec h
  have g1 : U.vm.findClass o = some c := by rw [← hv]; exact h1
  have g2 : U.fieldFound? o n d = some (c, k, i, f) := by rw [← h2]; unfold State.fieldFound?; rw [hv]
  have g5 := hk a cell h5
  simp [Cond.before, Cond.holds, Cond.value, g1, g2, h3, h4, g5, h6, h7, h8, h9]
theorem zx_ref {A : Array Value} {V U : State} {o n d : String} (hv : V.vm = U.vm) (hk : ∀ (a : Addr) (cell : Cell), V.heap[a]? = some cell → U.heap[a]? = some cell) (h : (Cond.isRef (.static o n d)).before A V = true) : (Cond.isRef (.static o n d)).before A U = true := by
  cases hw : (Term.static o n d).eval A V none [] V with
  | none => simp [Cond.before, Cond.holds, Cond.value, hw] at h
  | some w =>
    have hU : (Term.static o n d).eval A U none [] U = some w := by
      simp only [Term.eval, Option.bind_eq_bind, Option.bind_eq_some_iff] at hw
      obtain ⟨⟨c0, k, slot⟩, hfn, a, ha, cell, hc, hw⟩ := hw
      dsimp only at ha hw
      have g : U.fieldNamed? o n d true = some (c0, k, slot) := by
        rw [← hfn]; unfold State.fieldNamed? State.fieldFound?; rw [hv]
      simp only [Term.eval, Option.bind_eq_bind, g, Option.bind_some, ha, hk a cell hc]
      exact hw
    simp only [Cond.before, Cond.holds, Cond.value] at h ⊢
    rw [hw] at h
    rw [hU]
    exact h
theorem zx_moved {s U : State} (h : zx_E s) (hW : s.WarmedH U.vm) (hk : ∀ (a : Addr) (cell : Cell), s.heap[a]? = some cell → U.heap[a]? = some cell) : zx_E U := by
  have h1 : ∀ w ∈ zx_W, w.before #[] (s.setVm U.vm) = true := by
    intro w hw
    refine Cond.before_warmed hW w ?_ (h w hw)
    simp only [zx_W, List.mem_cons, List.not_mem_nil, or_false] at hw
    rcases hw with rfl | rfl | rfl | rfl | rfl | rfl | rfl | rfl | rfl <;> first | trivial | rfl
  have hv : (s.setVm U.vm).vm = U.vm := rfl
  have hk' : ∀ (a : Addr) (cell : Cell), (s.setVm U.vm).heap[a]? = some cell → U.heap[a]? = some cell := hk
  have tb : ∀ w : Cond, w.onTables = true → w.before #[] (s.setVm U.vm) = true → w.before #[] U = true := by
    intro w hw h9
    have h8 := Cond.onTables_vm (A := #[]) (A' := #[]) (U := s) (U' := U) U.vm w hw
    rw [h8, State.setVm_self] at h9
    exact h9
  intro w hw
  have h2 := h1 w hw
  simp only [zx_W, List.mem_cons, List.not_mem_nil, or_false] at hw
  rcases hw with rfl | rfl | rfl | rfl | rfl | rfl | rfl | rfl | rfl
  · exact tb _ rfl h2
  · exact tb _ rfl h2
  · exact tb _ rfl h2
  · exact tb _ rfl h2
  · exact tb _ rfl h2
  · exact zx_lay hv hk' h2
  · exact zx_lay hv hk' h2
  · exact zx_ref hv hk' h2
  · exact zx_ref hv hk' h2
theorem zx_calling {U : State} (h : zx_E U) (g : JFrame) (mk : MethodId) (a : Array Value) : zx_E (U.calling g mk a) := zx_moved h (State.WarmedH.refl U) (fun _ _ h => h)
/-- the end of a method that throws a new object of the class C: nothing old has changed -/
def zx_Q (C : String) (st : State) (o : Outcome) (t : State) : Prop := ∃ (a : Addr) (ce : Cell), o = .threw a ∧ st.WarmedH t.vm ∧ st.sameButNew ({ t with vm := st.vm } : State) [] 1 6 ∧ t.heap[a]? = some ce ∧ ce.vm = .none ∧ st.vm.findClass C = some ce.cls
def MetX (l : Launch) (y : MethodName) (ws : List Cond) (rm : Room) (Pc : Array Value → State → Prop) (C : String) : Prop := MetFree l y (headSpec ws rm) Pc (fun _ _ _ _ _ => True) (fun _ st o t => zx_Q C st o t)
def zx_M (below : List Frame) (C : String) (s : State) : State → Prop := fun t => ∃ o, t.status = .running ∧ Ended t below o ∧ zx_Q C s o t
section ZXA
variable {p : Program} {l : Launch} {e : Env} {R : Room} {s : State} {m : MethodId} {args : Array Value} {below : List Frame} {meth : Method} {c : Code} {H : Heap} {locs : List Loc} {cells slots : Nat} {Q : State → Prop} {T : State}
theorem zx_met {y : MethodName} {b : ByteArray} {n : Nat} {r : Option FieldType} {rm : Room} {Bp : State → Prop} {C : String} (As : List Value) (hy : plainName y.cls = true) (hlen : (lg_sl As).length ≤ n)
    (body : ∀ (p : Program) (e : Env) (s : State) (m : MethodId) (below : List Frame) (meth : Method) (c : Code) (ls : Array Slot), CallFix p m c b n s As.toArray (zw (.code y b n r)) y.cls → meth.locks = false → (∀ x ∈ c.exceptionTable.toList, False) → lv_has ls n (lv_args 0 As) → Bp s →
      W p l e rm s m As.toArray below meth c s.heap [] 0 0 (zx_M below C s) (F0 m 0 ls [])) : MetX l y (zw (.code y b n r)) rm (va_Pc As Bp) C := by
  refine MetFree.of_bodyS (code := b) (maxLocals := n) (ret := r) hy ?_ ?_
  · intro args s m h hn
    obtain ⟨meth, c, h1, h2, h3, h4, h5, h6, -, -⟩ := Cond.code_spec hn (atoms_spec (ws := zw (.code y b n r)) h _ List.mem_cons_self)
    exact ⟨meth, c, h1, h2, h3, h4, h5, h6⟩
  · intro p e s m args below meth c s₁ B hml hP _
    obtain ⟨rfl, hB⟩ := hP
    have hh0 : s₁.heap = s.heap := by rw [B.state]; rfl
    have hts := atoms_spec (ws := zw (.code y b n r)) B.pre
    have hno : ∀ x ∈ c.exceptionTable.toList, False := by
      have h0 := B.noHandlers (hts _ List.mem_cons_self)
      intro x hx
      rw [Array.isEmpty_iff] at h0
      rw [h0] at hx
      cases hx
    have K : W p l e rm s m As.toArray below meth c s.heap [] 0 0 (zx_M below C s) (entryFrame m As.toArray n) := by
      rw [lg_entry_eq]
      exact body p e s m below meth c _ ⟨B.exec, B.bytes, hml, findClass_of_methodNamed B.named, hts⟩ B.notSynchronized hno (lv_entry As hlen) hB
    obtain ⟨t, a1, o, b1, b2, b3⟩ := K s₁ hh0 (Stand.of_body B)
    exact ⟨t, o, a1, b1, b2, b3⟩
/-- from the call's own step to the note that is thrown -/
theorem zx_back {y : MethodName} {b : ByteArray} {n : Nat} {r : Option FieldType} {rm : Room} {Bp : State → Prop} {C : String} {As : List Value} (hM : MetX l y (zw (.code y b n r)) rm (va_Pc As Bp) C) (X : Stand p l e R s m args below meth c T locs cells slots) {g : JFrame} (hg : g.method = m) (hsize : g.locals.size = c.maxLocals) {ig : Instr} {len : Nat} (hdg : decode c.code g.pc = .ok (ig, len))
    (hW : 2 * g.monitorRoom + (g.stack.map fun v => v.category).sum ≤ 8) {mk : MethodId} (hn : T.methodNamed? y = some mk) (hpre : ∀ w ∈ zw (.code y b n r), w.before As.toArray T = true) (hini : (Cond.initialized y.cls).before As.toArray T = true)
    (hR : rm.frames + 1 ≤ R.frames ∧ 8 + (n + 11) + rm.locals ≤ R.locals ∧ cells + rm.cells ≤ R.cells ∧ slots + rm.slots ≤ R.slots) (hB : Bp (T.calling g mk As.toArray)) :
    ∃ (T' : State) (a : Addr) (ce : Cell), Stand p l e R s m args below meth c T' locs (cells + 1) (slots + 6) ∧ T.heap.size ≤ T'.heap.size ∧ (∀ (q : Addr) (cell : Cell), T.heap[q]? = some cell → T'.heap[q]? = some cell) ∧ T'.heap[a]? = some ce ∧ ce.vm = .none ∧ s.vm.findClass C = some ce.cls ∧
      Steps p.tables e below (doInvoke e (T.setTop g) [] mk As.toArray).1 ((T'.setTop g).pushFrame (.throwing a)) := by
  obtain ⟨methY, cY, hmY, hcY, -, hlY, -, -, -, -⟩ := Cond.code_spec hn (hpre _ List.mem_cons_self)
  obtain ⟨kY, hkY, -⟩ := className_of_methodNamed hn
  have hinitY : kY.init = .initialized := Cond.initialized_spec (findClass_of_methodNamed hn) hkY hini
  have h : At T g.method c below := by rw [hg]; exact X.here
  have happ : (headSpec (zw (.code y b n r)) rm).appliesLoose y e.platform (T.calling g mk As.toArray) = true :=
    Spec.appliesLoose_calling (g := g) h hdg hn hkY hinitY (X.room_calling (g := g) (R' := rm) hsize hmY hcY hR.1 (by rw [hlY]; omega) hR.2.2.1 hR.2.2.2) (atoms_intro hpre)
  obtain ⟨mid, hmid⟩ := h.above
  have hfr : (T.setTop g).frames = (.java g :: mid) ++ below := by rw [State.frames_setTop' g h.top, hmid]; rfl
  obtain ⟨o, s₂, hsteps, -, hend, hq⟩ := Steps.callFree hM p X.admits X.cas X.clock (acts := []) hfr happ ⟨rfl, hB⟩ trivial
  rw [State.frames_setTop' g h.top, X.tail] at hend
  obtain ⟨a, ce, rfl, hW2, hsame, hce, hv, hC⟩ := hq
  obtain ⟨T', X', hWT, hS, ht⟩ := X.outOfThrown hg (mk := mk) (a := As.toArray) hend hW2 hsame
  rw [List.append_nil] at X'
  rw [ht] at hsteps hce
  rw [Stand.throwing_heap] at hce
  have hS' : T.sameButNew (T'.setVm T.vm) [] 1 6 := hS
  refine ⟨T', a, ce, X', hS'.2.1, fun q cell hc => kept_of_same hS' (keep := fun _ => True) (fun q hq => by cases hq) q cell trivial hc, hce, hv, ?_, hsteps⟩
  have hal : s.vm.Alike T.vm := X.warmed.alike
  have hC' : T.vm.findClass C = some ce.cls := hC
  rw [hal.findClass] at hC'
  exact hC'
theorem zx_runS {cc : ByteArray} {nL ix n nn : Nat} {own : String} {y : MethodName} {b : ByteArray} {r : Option FieldType} {w0 : Cond} {rm : Room} {Bp : State → Prop} {C : String} {As rest : List Value} {g : JFrame}
    (S : CallFix p m c cc nL s args (zw w0) own) (K : kc_S own ix y (.code y b n r) nn) (hM : MetX l y (zw (.code y b n r)) rm (va_Pc As Bp) C) (hp : PreS s H (va_Pc As Bp) As)
    (hg : g.method = m) (hR : rm.frames + 1 ≤ R.frames ∧ 8 + (n + 11) + rm.locals ≤ R.locals ∧ cells + rm.cells ≤ R.cells ∧ slots + rm.slots ≤ R.slots) (hn : As.length = nn) (hsize : g.locals.size = nL) (hst : g.stack = As.reverse ++ rest) (hW : 2 * g.monitorRoom + (rest.map fun v => v.category).sum ≤ 8) (hdg : decode cc g.pc = .ok (.invokestatic ix, 3)) (hT : T.heap = H) (X : Stand p l e R s m args below meth c T locs cells slots) :
    ∃ (T' : State) (a : Addr) (ce : Cell), Stand p l e R s m args below meth c T' locs (cells + 1) (slots + 6) ∧ H.size ≤ T'.heap.size ∧ (∀ (q : Addr) (cell : Cell), H[q]? = some cell → T'.heap[q]? = some cell) ∧ T'.heap[a]? = some ce ∧ ce.vm = .none ∧ s.vm.findClass C = some ce.cls ∧
      ∀ target, Steps p.tables e below ((T'.setTop { g with stack := rest }).pushFrame (.throwing a)) target → Steps p.tables e below (T.setTop g) target := by
  subst hT
  obtain ⟨hx, hb, hml, hown, hts⟩ := S
  subst hb
  obtain ⟨⟨h1, h2, h3, h4, h5⟩, h6⟩ := K
  have hcode := zw_at hts h1
  obtain ⟨mk, hnamed⟩ := Cond.code_named hcode
  obtain ⟨methM, cM, hmethM, -, -, -, -, -, -, hsigM⟩ := Cond.code_spec hnamed hcode
  have hstatic : methM.isStatic = true := Cond.static_spec hnamed hmethM (zw_at hts h6)
  obtain ⟨kP, hkP, -⟩ := className_of_methodNamed hnamed
  have hinitP : kP.init = .initialized := Cond.initialized_spec (findClass_of_methodNamed hnamed) hkP (zw_at hts h3)
  have hlen : As.length = methM.sig.parameters.length := by
    rw [hsigM] at h5
    exact hn.trans (Option.some.inj h5).symm
  obtain ⟨vm₁, X₁, hstep₁⟩ := X.invokestatic hx hown (zw_at hts h2) hnamed hmethM hstatic hkP hinitP h4 (g := g) hg (argsL := As) (rest := rest) hlen hst hdg
  have hB := (hp.1 As.toArray (T.setVm vm₁) { g with stack := rest } mk (hp.2 (T.setVm vm₁) rfl X₁.warmed)).2
  obtain ⟨T', a, ce, XT, q1, q2, q3, q4, q5, q6⟩ := zx_back hM X₁ (g := { g with stack := rest }) hg (hsize.trans hml.symm) hdg hW (X₁.named hnamed) (fun w hw => zw_pay hts h1 w hw _ _ X₁.warmed) (zw_pay hts h3 _ List.mem_cons_self _ _ X₁.warmed) hR hB
  exact ⟨T', a, ce, XT, q1, q2, q3, q4, q5, fun target h => hstep₁ _ fun acts => by rw [doInvoke_state]; exact q6.trans h⟩
theorem zx_runV {cc : ByteArray} {nL ix n nn v0 : Nat} {own C0 : String} {y : MethodName} {b : ByteArray} {r : Option FieldType} {w0 : Cond} {rm : Room} {Bp : State → Prop} {C : String} {As rest : List Value} {g : JFrame}
    (S : CallFix p m c cc nL s args (zw w0) own) (K : kc_V own ix y (.code y b n r) nn) (hM : MetX l y (zw (.code y b n r)) rm (va_Pc (.ref v0 :: As) Bp) C) (hC0 : y.cls = C0) (hp : PreV s H C0 v0 (va_Pc (.ref v0 :: As) Bp) As)
    (hg : g.method = m) (hR : rm.frames + 1 ≤ R.frames ∧ 8 + (n + 11) + rm.locals ≤ R.locals ∧ cells + rm.cells ≤ R.cells ∧ slots + rm.slots ≤ R.slots) (hn : As.length = nn) (hsize : g.locals.size = nL) (hst : g.stack = As.reverse ++ .ref v0 :: rest) (hW : 2 * g.monitorRoom + (rest.map fun v => v.category).sum ≤ 8) (hdg : decode cc g.pc = .ok (.invokevirtual ix, 3)) (hT : T.heap = H) (X : Stand p l e R s m args below meth c T locs cells slots) :
    ∃ (T' : State) (a : Addr) (ce : Cell), Stand p l e R s m args below meth c T' locs (cells + 1) (slots + 6) ∧ H.size ≤ T'.heap.size ∧ (∀ (q : Addr) (cell : Cell), H[q]? = some cell → T'.heap[q]? = some cell) ∧ T'.heap[a]? = some ce ∧ ce.vm = .none ∧ s.vm.findClass C = some ce.cls ∧
      ∀ target, Steps p.tables e below ((T'.setTop { g with stack := rest }).pushFrame (.throwing a)) target → Steps p.tables e below (T.setTop g) target := by
  subst hT
  subst hC0
  obtain ⟨hx, hb, hml, hown, hts⟩ := S
  subst hb
  obtain ⟨⟨h1, h2, h3, h4, h5⟩, h6, h7⟩ := K
  have hcode := zw_at hts h1
  obtain ⟨mk, methM, hnamed, hmethM, hstM, habM⟩ := Cond.instanceMethod_spec (zw_at hts h6)
  obtain ⟨methM', cM, hmethM', -, -, -, -, -, -, hsigM⟩ := Cond.code_spec hnamed hcode
  cases hmethM.symm.trans hmethM'
  obtain ⟨hbl, ⟨cellB, hcB, hoB, hclB⟩, hPc⟩ := hp
  obtain ⟨c2, r2, m2, q1, q2, q3, q4, kP, hkP, hkPi⟩ := Cond.selects_spec (zw_at hts h7)
  cases hclB.symm.trans q1
  cases (State.methodFound?_of_named hnamed h4).symm.trans q2
  cases hnamed.symm.trans q3
  have hselP : selectMethod e.platform s.vm cellB.cls mk = .method mk := by rw [Launch.admits_selectMethod X.admits]; exact q4
  have hlen : As.length = methM.sig.parameters.length := by
    rw [hsigM] at h5
    exact hn.trans (Option.some.inj h5).symm
  obtain ⟨vm₁, X₁, hstep₁⟩ := X.invokevirtual hx hown (zw_at hts h2) hnamed hmethM hstM hkP hkPi h4 (a := v0) (cell := cellB) hcB
    (fun z h => by rw [h] at hoB; cases hoB) hselP hmethM habM hkP hkPi (g := g) hg (argsL := As) (rest := rest) hlen hst hdg
  have hB := (hbl (Value.ref v0 :: As).toArray (T.setVm vm₁) { g with stack := rest } mk (hPc (T.setVm vm₁) rfl X₁.warmed)).2
  obtain ⟨T', a, ce, XT, q1, q2, q3, q4, q5, q6⟩ := zx_back hM X₁ (g := { g with stack := rest }) hg (hsize.trans hml.symm) hdg hW (X₁.named hnamed) (fun w hw => zw_pay hts h1 w hw _ _ X₁.warmed) (zw_pay hts h3 _ List.mem_cons_self _ _ X₁.warmed) hR hB
  exact ⟨T', a, ce, XT, q1, q2, q3, q4, q5, fun target h => hstep₁ _ fun acts => by rw [doInvoke_state]; exact q6.trans h⟩
/-- out of a method without handlers -/
theorem zx_leave {g : JFrame} {a : Addr} {ce : Cell} {C : String} (X : Stand p l e R s m args below meth c T [] 1 6) (hlk : meth.locks = false) (hno : ∀ x ∈ c.exceptionTable.toList, False) (hg : g.method = m) (hlo : g.locked = none) (hen : g.entered = []) (h1 : T.heap[a]? = some ce) (h2 : ce.vm = .none) (h3 : s.vm.findClass C = some ce.cls) :
    ∃ t, Steps p.tables e below ((T.setTop g).pushFrame (.throwing a)) t ∧ zx_M below C s t := by
  obtain ⟨hst, hrun, hended, hW, hsame⟩ := X.leaveThrown a (g := g) hg hlo hen (fun x hx => (hno x hx).elim) hlk
  exact ⟨_, hst, _, hrun, hended, a, ce, rfl, hW, hsame, h1, h2, h3⟩
theorem zx_passS {cc : ByteArray} {nL ix n nn pc : Nat} {own : String} {y : MethodName} {b : ByteArray} {r : Option FieldType} {w0 : Cond} {rm : Room} {Bp : State → Prop} {C : String} {As rest st0 : List Value} {ls : Array Slot}
    (S : CallFix p m c cc nL s args (zw w0) own) (K : kc_S own ix y (.code y b n r) nn) (hM : MetX l y (zw (.code y b n r)) rm (va_Pc As Bp) C) (hp : PreS s H (va_Pc As Bp) As)
    (hR : rm.frames + 1 ≤ R.frames ∧ 8 + (n + 11) + rm.locals ≤ R.locals ∧ 0 + rm.cells ≤ R.cells ∧ 0 + rm.slots ≤ R.slots) (hn : As.length = nn) (hsize : ls.size = nL) (hst : st0 = As.reverse ++ rest) (hW : (rest.map fun v => v.category).sum ≤ 8) (hdg : decode cc pc = .ok (.invokestatic ix, 3)) (hlk : meth.locks = false) (hno : ∀ x ∈ c.exceptionTable.toList, False) :
    W p l e R s m args below meth c H [] 0 0 (zx_M below C s) (F0 m pc ls st0) := by
  intro T hT X
  obtain ⟨T', a, ce, XT, -, -, q3, q4, q5, q6⟩ := zx_runS (g := F0 m pc ls st0) (rest := rest) S K hM hp rfl hR hn hsize hst (lv_room hW) hdg hT X
  obtain ⟨t, h1, h2⟩ := zx_leave (g := F0 m pc ls rest) XT hlk hno rfl rfl rfl q3 q4 q5
  exact ⟨t, q6 t h1, h2⟩
theorem zx_passV {cc : ByteArray} {nL ix n nn pc v0 : Nat} {own C0 : String} {y : MethodName} {b : ByteArray} {r : Option FieldType} {w0 : Cond} {rm : Room} {Bp : State → Prop} {C : String} {As rest st0 : List Value} {ls : Array Slot}
    (S : CallFix p m c cc nL s args (zw w0) own) (K : kc_V own ix y (.code y b n r) nn) (hM : MetX l y (zw (.code y b n r)) rm (va_Pc (.ref v0 :: As) Bp) C) (hC0 : y.cls = C0) (hp : PreV s H C0 v0 (va_Pc (.ref v0 :: As) Bp) As)
    (hR : rm.frames + 1 ≤ R.frames ∧ 8 + (n + 11) + rm.locals ≤ R.locals ∧ 0 + rm.cells ≤ R.cells ∧ 0 + rm.slots ≤ R.slots) (hn : As.length = nn) (hsize : ls.size = nL) (hst : st0 = As.reverse ++ .ref v0 :: rest) (hW : (rest.map fun v => v.category).sum ≤ 8) (hdg : decode cc pc = .ok (.invokevirtual ix, 3)) (hlk : meth.locks = false) (hno : ∀ x ∈ c.exceptionTable.toList, False) :
    W p l e R s m args below meth c H [] 0 0 (zx_M below C s) (F0 m pc ls st0) := by
  intro T hT X
  obtain ⟨T', a, ce, XT, -, -, q3, q4, q5, q6⟩ := zx_runV (g := F0 m pc ls st0) (rest := rest) S K hM hC0 hp rfl hR hn hsize hst (lv_room hW) hdg hT X
  obtain ⟨t, h1, h2⟩ := zx_leave (g := F0 m pc ls rest) XT hlk hno rfl rfl rfl q3 q4 q5
  exact ⟨t, q6 t h1, h2⟩
/-- new X; dup; X.<init>(); athrow -/
theorem zx_throw {cc : ByteArray} {nL pc ix ic : Nat} {C : String} {w0 : Cond} {ls : Array Slot} (hfl : l.flags = flags0) (S : CallFix p m c cc nL s args (zw w0) "ShadowMath") (hE : zx_E s) (hown : ∀ w ∈ Bundle.ownAtoms0 "ShadowMath" ic C zx_up, w ∈ gw_L ∨ w ∈ zx_W) (hfit : Bundle.fit C = true)
    (hl : Cond.classLink "ShadowMath" ix C ∈ gw_L) (hi : Cond.instantiable C 6 ∈ gw_L) (hini : Cond.initialized C ∈ gw_L) (hsize : ls.size = nL) (hR : 6 ≤ R.frames ∧ 100 ≤ R.locals ∧ 1 ≤ R.cells ∧ 6 ≤ R.slots)
    (d0 : decode cc pc = .ok (.new ix, 3)) (d1 : decode cc (pc + 3) = .ok (.dup, 1)) (d2 : decode cc (pc + 4) = .ok (.invokespecial ic, 3)) (d3 : decode cc (pc + 7) = .ok (.athrow, 1)) (hlk : meth.locks = false) (hno : ∀ x ∈ c.exceptionTable.toList, False) :
    W p l e R s m args below meth c s.heap [] 0 0 (zx_M below C s) (F0 m pc ls []) := by
  obtain ⟨hx, hb, hml, ho, hts⟩ := S
  refine W.newc (g := F0 m pc ls []) hx hb ho (zw_at hts hl) (zw_at hts hi) (zw_at hts hini) rfl d0 (by omega) (by omega) fun cC kC f1 f2 f3 f4 => ?_
  refine lv_dup hx hb d1 rfl ?_
  intro T hT X
  have htr : e.platform.stackTraces = false := Launch.traces_off hfl X.admits
  have hcell : T.heap[s.heap.size]? = some (freshCell cC kC) := by
    rw [hT, Array.getElem?_push, if_pos rfl]
  obtain ⟨U, u1, u2, u3, u4, u5, ce, u6, u7⟩ := X.ctorThrow0 hx htr (own := "ShadowMath") (cls := C) (names := zx_up) (ic := ic) ho hfit (by decide) (fun w hw => by
      rcases hown w hw with h | h
      · exact zw_at hts h
      · exact zx_any hE args w h) (fun x hx => by cases hx) f1 f2 hcell (Nat.le_refl _) (g := F0 m (pc + 4) ls [.ref s.heap.size, .ref s.heap.size]) rfl (hsize.trans hml.symm) rfl rfl (rest := []) rfl (by rw [hb]; exact d2) (by rw [hb]; exact d3) (fun x hx => (hno x hx).elim) (by show 2 + 3 < R.frames; omega) (by
      show 2 * 0 + (1 + 0) + (13 * (2 + 1) + 41) ≤ R.locals
      omega) hlk
  exact ⟨U, u1, _, u2, u3, s.heap.size, ce, rfl, u4, u5, u6, u7.vm, u7.cls⟩
end ZXA
end
section
/-! into a handler: its class may not be resolved yet -/
section ZFA
variable {p : Program} {l : Launch} {e : Env} {R : Room} {s : State} {m : MethodId} {args : Array Value} {below : List Frame} {meth : Method} {c : Code} {H : Heap} {locs : List Loc} {cells slots : Nat} {Q : State → Prop} {T : State}
theorem zf_go {Qh : Handler → Pre} {E : CtlPost} {d : Bool} {acts : List Action} {U : State} {f : JFrame} {a : Addr} {x : ExceptionTableEntry} {t : List ExceptionTableEntry} {k : ClassId} {cell : Cell} (hx : covers x f.pc = true) (h0 : x.catchType ≠ 0)
    (hl : U.vm.ClassLinks e.platform f.method.cls x.catchType k) (hcell : U.heap[a]? = some cell) (hobj : ∀ q, cell.vm ≠ .statics q) (hk : ∃ q, U.vm.classes[cell.cls]? = some q) (hc : ∃ q, U.vm.classes[k]? = some q) (b : Bool) (hfit : U.vm.assignable cell.cls k = b) :
    wp (findHandler.go f a (x :: t)) Qh E e d acts U ↔ if b = true then Qh (.found x.handlerPc) d acts (U.setVm (U.vm.noted f.method.cls x.catchType (.cls k))) else wp (findHandler.go f a t) Qh E e d acts (U.setVm (U.vm.noted f.method.cls x.catchType (.cls k))) := by
  simp only [covers] at hx
  obtain ⟨ha, ht⟩ := (resolveClass_links e.toSetting hl).op (op := VmOp.resolveClass f.method.cls x.catchType) rfl
  have hal : U.vm.Alike (U.vm.noted f.method.cls x.catchType (.cls k)) := (Vm.Alike.refl U.vm).noted _ _ _
  obtain ⟨k1, hk1⟩ := hk
  obtain ⟨k2, hk2⟩ := hc
  obtain ⟨k1', hk1', -⟩ := hal.2.2 _ _ hk1
  obtain ⟨k2', hk2', -⟩ := hal.2.2 _ _ hk2
  have hfit' : (U.vm.noted f.method.cls x.catchType (.cls k)).assignable cell.cls k = b := by rw [hal.assignable]; exact hfit
  cases b <;> simp [findHandler.go, hx, h0, ha, ht, hcell, hobj, hk1', hk2', hfit', VmOp.dirties, VmOp.acts]
/-- what the search gives, and the tables that it leaves -/
def zf_F (e : Env) (U : State) (f : JFrame) (a : Addr) (pc : Nat) (vm' : Vm) : Prop := ∀ (Qh : Handler → Pre) (E : CtlPost) (d : Bool) (acts : List Action), wp (findHandler f a) Qh E e d acts U ↔ Qh (.found pc) d acts (U.setVm vm')
theorem zf_step {U : State} {a : Addr} {f : JFrame} {r : List Frame} {pc : Nat} {vm' : Vm} (hfind : zf_F e U f a pc vm') : (stepThrowing e U a (.java f :: r)).Is ((U.setVm vm').setFrames (.java { f with pc := pc, stack := [.ref a] } :: r)) [] := by
  simp only [stepThrowing, searchFrame, vmDo]
  generalize hr : Sem.go _ e false [] U = res
  obtain ⟨as, rfl, ha⟩ := Sem.eq_ok_of hr (a := Handler.found pc) (s' := U.setVm vm') (acts' := []) (by simp [hfind _ _ _ _])
  exact ⟨rfl, ha⟩
theorem zf_steps {tb : Tables} {U target : State} {g : JFrame} {a : Addr} (h : At U g.method c below) {pc : Nat} {vm' : Vm} (hfind : zf_F e ((U.setTop g).pushFrame (.throwing a)) g a pc vm') (hrest : Steps tb e below ((U.setVm vm').setTop { g with pc := pc, stack := [.ref a] }) target) : Steps tb e below ((U.setTop g).pushFrame (.throwing a)) target := by
  obtain ⟨hgo, hw⟩ := h.throwing a
  refine Steps.head hgo hw ?_
  rw [stepThread_throwing (frames_entered h.top _), (zf_step (U := (U.setTop g).pushFrame (.throwing a)) hfind).1]
  obtain ⟨g₀, hg⟩ := Option.isSome_iff_exists.mp h.top
  obtain ⟨r, hr⟩ := State.topJava?_eq_some.mp hg
  have hr' : (U.setVm vm').frames = .java g₀ :: r := hr
  rw [State.setTop_of_frames _ hr'] at hrest
  have e1 : ∀ (V : State) (F G : List Frame), ((V.setFrames F).setVm vm').setFrames G = (V.setVm vm').setFrames G := fun V F G => by
    have h1 : (V.setFrames F).setVm vm' = (V.setVm vm').setFrames F := rfl
    rw [h1, State.setFrames_setFrames]
  rw [hr, List.tail_cons, State.pushFrame, e1, State.setTop_of_frames _ hr, e1]
  exact hrest
/-- one handler, or the second of two where the first one's class isn't the object's -/
theorem zf_one (X : Stand p l e R s m args below meth c T locs cells slots) (a : Addr) {g : JFrame} (hg : g.method = m) {own C : String} (hown : s.vm.findClass own = some m.cls) {st en hp ct : Nat} {tl : List (Nat × Nat × Nat × Nat)}
    (htab : c.exceptionTable.toList.map (fun h => (h.startPc, h.endPc, h.handlerPc, h.catchType)) = (st, en, hp, ct) :: tl) (hcov : st ≤ g.pc ∧ g.pc < en) (h0 : ct ≠ 0) (hlink : (Cond.classLink own ct C).before args s = true) (hcast : (Cond.castable C C).before args s = true)
    {ce : Cell} (hce : T.heap[a]? = some ce) (hv : ce.vm = .none) (hcl : s.vm.findClass C = some ce.cls) :
    ∃ vm', Stand p l e R s m args below meth c (T.setVm vm') locs cells slots ∧ ∀ target, Steps p.tables e below ((T.setVm vm').setTop { g with pc := hp, stack := [.ref a] }) target → Steps p.tables e below ((T.setTop g).pushFrame (.throwing a)) target := by
  have hpl : e.platform.magicAccessors = ({} : Platform).magicAccessors := by rw [X.admits.platform]
  obtain ⟨k, hk, hlk⟩ := Cond.classLink_spec hown hlink e.platform hpl
  cases hcl.symm.trans hk
  obtain ⟨c3, c4, hc3, hc4, hasg⟩ := Cond.castable_spec hcast
  cases Option.some.inj (hc3.symm.trans hcl)
  cases Option.some.inj (hc4.symm.trans hcl)
  obtain ⟨dk, _, _, kt, hd, _, _, _, _, hkt, _, hopen⟩ := hlk.here
  have hW' : s.WarmedH (T.vm.noted m.cls ct (.cls ce.cls)) := X.warmed.noted hd hopen (State.rightAt_cls hlk)
  have hal := X.warmed.alike
  obtain ⟨kt', hkt', -⟩ := hal.2.2 _ _ hkt
  obtain ⟨x, t, hsp, hxe, -⟩ := List.map_eq_cons_iff.mp htab
  simp only [Prod.mk.injEq] at hxe
  obtain ⟨x1, x2, x3, x4⟩ := hxe
  subst hg
  refine ⟨_, X.noted hW', fun target hrest => zf_steps X.here (pc := hp) (vm' := T.vm.noted g.method.cls ct (.cls ce.cls)) (fun Qh E d acts => ?_) hrest⟩
  rw [Jvm.W.findHandler_eq (s := (T.setTop g).pushFrame (.throwing a)) (meth := meth) (code := c) X.method' X.code, hsp]
  have hx := zf_go (e := e) (Qh := Qh) (E := E) (d := d) (acts := acts) (U := (T.setTop g).pushFrame (.throwing a)) (f := g) (a := a) (x := x) (t := t) (k := ce.cls) (cell := ce) (by simp [covers, x1, x2, hcov.1, hcov.2]) (by rw [x4]; exact h0) (by rw [x4]; exact X.warmed.classLinks hlk) hce (fun q h => by rw [hv] at h; cases h) ⟨kt', hkt'⟩ ⟨kt', hkt'⟩ true (by rw [show ((T.setTop g).pushFrame (.throwing a)).vm = T.vm from rfl, hal.assignable]; exact hasg)
  rw [hx, if_pos rfl, x3, x4]
  exact Iff.rfl
theorem zf_two (X : Stand p l e R s m args below meth c T locs cells slots) (a : Addr) {g : JFrame} (hg : g.method = m) {own C C1 : String} (hown : s.vm.findClass own = some m.cls) {st en hp ct st1 en1 hp1 ct1 : Nat} {tl : List (Nat × Nat × Nat × Nat)}
    (htab : c.exceptionTable.toList.map (fun h => (h.startPc, h.endPc, h.handlerPc, h.catchType)) = (st1, en1, hp1, ct1) :: (st, en, hp, ct) :: tl) (hcov1 : st1 ≤ g.pc ∧ g.pc < en1) (hcov : st ≤ g.pc ∧ g.pc < en) (h01 : ct1 ≠ 0) (h0 : ct ≠ 0) (hlink1 : (Cond.classLink own ct1 C1).before args s = true) (hlink : (Cond.classLink own ct C).before args s = true) (hcast : (Cond.castable C C).before args s = true) (hnc : va_Nc C C1 s)
    {ce : Cell} (hce : T.heap[a]? = some ce) (hv : ce.vm = .none) (hcl : s.vm.findClass C = some ce.cls) :
    ∃ vm', Stand p l e R s m args below meth c (T.setVm vm') locs cells slots ∧ ∀ target, Steps p.tables e below ((T.setVm vm').setTop { g with pc := hp, stack := [.ref a] }) target → Steps p.tables e below ((T.setTop g).pushFrame (.throwing a)) target := by
  have hpl : e.platform.magicAccessors = ({} : Platform).magicAccessors := by rw [X.admits.platform]
  obtain ⟨k, hk, hlk⟩ := Cond.classLink_spec hown hlink e.platform hpl
  cases hcl.symm.trans hk
  obtain ⟨k1, hk1, hlk1⟩ := Cond.classLink_spec hown hlink1 e.platform hpl
  obtain ⟨c5, c6, hc5, hc6, hnas⟩ := hnc
  cases Option.some.inj (hc5.symm.trans hcl)
  cases Option.some.inj (hc6.symm.trans hk1)
  obtain ⟨c3, c4, hc3, hc4, hasg⟩ := Cond.castable_spec hcast
  cases Option.some.inj (hc3.symm.trans hcl)
  cases Option.some.inj (hc4.symm.trans hcl)
  obtain ⟨dk1, _, _, kt1, hd1, _, _, _, _, hkt1, _, hopen1⟩ := hlk1.here
  have hW1 : s.WarmedH (T.vm.noted m.cls ct1 (.cls k1)) := X.warmed.noted hd1 hopen1 (State.rightAt_cls hlk1)
  obtain ⟨dk, _, _, kt, hd, _, _, _, _, hkt, _, hopen⟩ := hlk.here
  have hW2 : s.WarmedH ((T.vm.noted m.cls ct1 (.cls k1)).noted m.cls ct (.cls ce.cls)) := hW1.noted hd hopen (State.rightAt_cls hlk)
  have hal := X.warmed.alike
  have hal1 := hW1.alike
  obtain ⟨kt', hkt', -⟩ := hal.2.2 _ _ hkt
  obtain ⟨kt2, hkt2, -⟩ := hal1.2.2 _ _ hkt
  obtain ⟨kt1', hkt1', -⟩ := hal.2.2 _ _ hkt1
  obtain ⟨x1, t1, hsp1, hxe1, htab2⟩ := List.map_eq_cons_iff.mp htab
  obtain ⟨x, t, hsp, hxe, -⟩ := List.map_eq_cons_iff.mp htab2
  subst hsp
  simp only [Prod.mk.injEq] at hxe hxe1
  obtain ⟨y1, y2, y3, y4⟩ := hxe
  obtain ⟨z1, z2, z3, z4⟩ := hxe1
  subst hg
  refine ⟨_, X.noted hW2, fun target hrest => zf_steps X.here (pc := hp) (vm' := (T.vm.noted g.method.cls ct1 (.cls k1)).noted g.method.cls ct (.cls ce.cls)) (fun Qh E d acts => ?_) hrest⟩
  rw [Jvm.W.findHandler_eq (s := (T.setTop g).pushFrame (.throwing a)) (meth := meth) (code := c) X.method' X.code, hsp1]
  have hx1 := zf_go (e := e) (Qh := Qh) (E := E) (d := d) (acts := acts) (U := (T.setTop g).pushFrame (.throwing a)) (f := g) (a := a) (x := x1) (t := x :: t) (k := k1) (cell := ce) (by simp [covers, z1, z2, hcov1.1, hcov1.2]) (by rw [z4]; exact h01) (by rw [z4]; exact X.warmed.classLinks hlk1) hce (fun q h => by rw [hv] at h; cases h) ⟨kt', hkt'⟩ ⟨kt1', hkt1'⟩ false (by rw [show ((T.setTop g).pushFrame (.throwing a)).vm = T.vm from rfl, hal.assignable]; exact hnas)
  rw [hx1, if_neg (by decide), z4]
  have hx := zf_go (e := e) (Qh := Qh) (E := E) (d := d) (acts := acts) (U := ((T.setTop g).pushFrame (.throwing a)).setVm (T.vm.noted g.method.cls ct1 (.cls k1))) (f := g) (a := a) (x := x) (t := t) (k := ce.cls) (cell := ce) (by simp [covers, y1, y2, hcov.1, hcov.2]) (by rw [y4]; exact h0) (by rw [y4]; exact hW1.classLinks hlk) hce (fun q h => by rw [hv] at h; cases h) ⟨kt2, hkt2⟩ ⟨kt2, hkt2⟩ true (by rw [show (((T.setTop g).pushFrame (.throwing a)).setVm (T.vm.noted g.method.cls ct1 (.cls k1))).vm = T.vm.noted g.method.cls ct1 (.cls k1) from rfl, hal1.assignable]; exact hasg)
  refine Iff.trans hx ?_
  rw [if_pos rfl, y3, y4]
  exact Iff.rfl
/-- a static method with handlers, called -/
theorem zc_Wb {own : String} {ix n nn : Nat} {y : MethodName} {b : ByteArray} {r : Option FieldType} {hh : List (Nat × Nat × Nat × Nat)} {w0 : Cond} {rm : Room} {mc ms : Nat} {Pc : Array Value → State → Prop} {Qc : Array Value → State → Outcome → State → Prop} {free : Addr → Prop} (hts : ∀ w ∈ zw w0, w.before args s = true) (K : kc_B own ix y (.codeWith y b n r hh) nn) (hM : Met l y (zw (.codeWith y b n r hh)) rm Pc Qc mc ms free) (hbl : FrameBlind Pc) (hrc : rm.cells = mc ∧ rm.slots = ms) (hR : rm.frames + 1 ≤ R.frames ∧ 8 + (n + 11) + rm.locals ≤ R.locals) : Back l R p e below s args y 3 8 (PreOf R mc ms Pc) (PostOf Qc mc ms free) :=
  va_backW (hh := hh) (bytes := b) (maxL := n) (ret := r) hM hbl hrc.1 hrc.2 hR.1 hR.2 (zw_pay hts K.1) List.mem_cons_self (fun a' U hW => zw_pay hts K.2.2.1 _ List.mem_cons_self a' U hW)
theorem zc_W {cc : ByteArray} {nL ix n nn : Nat} {own : String} {y : MethodName} {b : ByteArray} {r : Option FieldType} {hh : List (Nat × Nat × Nat × Nat)} {w0 : Cond} {rm : Room} {mc ms : Nat} {Pc : Array Value → State → Prop} {Qc : Array Value → State → Outcome → State → Prop} {free : Addr → Prop} {As rest : List Value} {g : JFrame}
    (S : CallFix p m c cc nL s args (zw w0) own) (K : kc_S own ix y (.codeWith y b n r hh) nn) (hM : Met l y (zw (.codeWith y b n r hh)) rm Pc Qc mc ms free) (hp : PreS s H Pc As) (hrc : rm.cells = mc ∧ rm.slots = ms) (hR : rm.frames + 1 ≤ R.frames ∧ 8 + (n + 11) + rm.locals ≤ R.locals)
    (hg : g.method = m) (hn : As.length = nn) (hsize : g.locals.size = nL) (hst : g.stack = As.reverse ++ rest) (hW : 2 * g.monitorRoom + (rest.map fun v => v.category).sum ≤ 8) (hdg : decode cc g.pc = .ok (.invokestatic ix, 3)) (hf : cells + mc ≤ R.cells ∧ slots + ms ≤ R.slots) :
    va_Run p l e R s m args below meth c H locs cells slots mc ms g rest (Qc As.toArray) free := by
  obtain ⟨hx, hb, hml, hown, hts⟩ := S
  have hK : Back l R p e below s args y 3 8 (PreOf R mc ms Pc) (PostOf Qc mc ms free) := zc_Wb hts K.1 hM hp.1 hrc hR
  obtain ⟨⟨h1, h2, h3, h4, h5⟩, h6⟩ := K
  intro T hT X
  obtain ⟨mk, methM, cM, hnamed, hmethM, -, -, -, -, -, -, hsigM⟩ := Cond.codeWith_spec (zw_at hts h1)
  have hstatic : methM.isStatic = true := Cond.static_spec hnamed hmethM (zw_at hts h6)
  obtain ⟨kP, hkP, -⟩ := className_of_methodNamed hnamed
  have hinitP : kP.init = .initialized := Cond.initialized_spec (findClass_of_methodNamed hnamed) hkP (zw_at hts h3)
  have hlen : As.length = methM.sig.parameters.length := by
    rw [hsigM] at h5
    exact hn.trans (Option.some.inj h5).symm
  obtain ⟨vm₁, X₁, hstep₁⟩ := X.invokestatic hx hown (zw_at hts h2) hnamed hmethM hstatic hkP hinitP h4 (g := g) hg (argsL := As) (rest := rest) hlen hst (by rw [hb]; exact hdg)
  obtain ⟨v, B, X', hpost, hsteps⟩ := hK m meth c ⟨T.setVm vm₁, locs, cells, slots⟩ { g with stack := rest } (.invokestatic ix) mk As.toArray X₁ hg (hsize.trans hml.symm) (by rw [hb]; exact hdg) hW (X₁.named hnamed) ⟨hf.1, hf.2, hp.2 (T.setVm vm₁) hT X₁.warmed⟩
  obtain ⟨U', l2, c2, s2⟩ := B
  obtain ⟨g', mk', t, L, e1, e2, hq, q1, hL, q2, q3⟩ := hpost
  dsimp only [Pt.U, Pt.locs, Pt.cells, Pt.slots] at X' e1 e2 q1 q2 q3 hsteps
  subst q1; subst q2; subst q3
  exact ⟨v, (T.setVm vm₁).calling g' mk' As.toArray, t, U', L, hT, X', hL, e1, e2, hq, fun target h => hstep₁ _ fun acts => by rw [doInvoke_state]; exact hsteps.trans h⟩
end ZFA
end
section
theorem d_X1_0 : decode b_X1 0 = .ok (.aload_n 0, 1) := by decide +kernel
theorem d_X1_1 : decode b_X1 1 = .ok (.invokespecial 1, 3) := by decide +kernel
theorem d_X1_4 : decode b_X1 4 = .ok (.aload_n 0, 1) := by decide +kernel
theorem d_X1_5 : decode b_X1 5 = .ok (.bipush 16, 2) := by decide +kernel
theorem d_X1_7 : decode b_X1 7 = .ok (.newarray .int, 2) := by decide +kernel
theorem d_X1_9 : decode b_X1 9 = .ok (.putfield 9, 3) := by decide +kernel
theorem d_X1_12 : decode b_X1 12 = .ok (.aload_n 0, 1) := by decide +kernel
theorem d_X1_13 : decode b_X1 13 = .ok (.bipush 16, 2) := by decide +kernel
theorem d_X1_15 : decode b_X1 15 = .ok (.newarray .int, 2) := by decide +kernel
theorem d_X1_17 : decode b_X1 17 = .ok (.putfield 13, 3) := by decide +kernel
theorem d_X1_20 : decode b_X1 20 = .ok (.aload_n 0, 1) := by decide +kernel
theorem d_X1_21 : decode b_X1 21 = .ok (.sipush 256, 3) := by decide +kernel
theorem d_X1_24 : decode b_X1 24 = .ok (.newarray .byte, 2) := by decide +kernel
theorem d_X1_26 : decode b_X1 26 = .ok (.putfield 16, 3) := by decide +kernel
theorem d_X1_29 : decode b_X1 29 = .ok (.aload_n 0, 1) := by decide +kernel
theorem d_X1_30 : decode b_X1 30 = .ok (.sipush 256, 3) := by decide +kernel
theorem d_X1_33 : decode b_X1 33 = .ok (.newarray .byte, 2) := by decide +kernel
theorem d_X1_35 : decode b_X1 35 = .ok (.putfield 20, 3) := by decide +kernel
theorem d_X1_38 : decode b_X1 38 = .ok (.return_, 1) := by decide +kernel
theorem d_X2_0 : decode b_X2 0 = .ok (.iload_n 0, 1) := by decide +kernel
theorem d_X2_1 : decode b_X2 1 = .ok (.ifCond .ne 11, 3) := by decide +kernel
theorem d_X2_4 : decode b_X2 4 = .ok (.new 23, 3) := by decide +kernel
theorem d_X2_7 : decode b_X2 7 = .ok (.dup, 1) := by decide +kernel
theorem d_X2_8 : decode b_X2 8 = .ok (.invokespecial 25, 3) := by decide +kernel
theorem d_X2_11 : decode b_X2 11 = .ok (.athrow, 1) := by decide +kernel
theorem d_X2_12 : decode b_X2 12 = .ok (.return_, 1) := by decide +kernel
theorem d_X3_0 : decode b_X3 0 = .ok (.iload_n 0, 1) := by decide +kernel
theorem d_X3_1 : decode b_X3 1 = .ok (.ifCond .lt 13, 3) := by decide +kernel
theorem d_X3_4 : decode b_X3 4 = .ok (.iload_n 0, 1) := by decide +kernel
theorem d_X3_5 : decode b_X3 5 = .ok (.bipush 16, 2) := by decide +kernel
theorem d_X3_7 : decode b_X3 7 = .ok (.if_icmp .ge 7, 3) := by decide +kernel
theorem d_X3_10 : decode b_X3 10 = .ok (.iconst 1, 1) := by decide +kernel
theorem d_X3_11 : decode b_X3 11 = .ok (.goto 4, 3) := by decide +kernel
theorem d_X3_14 : decode b_X3 14 = .ok (.iconst 0, 1) := by decide +kernel
theorem d_X3_15 : decode b_X3 15 = .ok (.ireturn, 1) := by decide +kernel
theorem d_X4_0 : decode b_X4 0 = .ok (.iload_n 1, 1) := by decide +kernel
theorem d_X4_1 : decode b_X4 1 = .ok (.invokestatic 26, 3) := by decide +kernel
theorem d_X4_4 : decode b_X4 4 = .ok (.invokestatic 30, 3) := by decide +kernel
theorem d_X4_7 : decode b_X4 7 = .ok (.aload_n 0, 1) := by decide +kernel
theorem d_X4_8 : decode b_X4 8 = .ok (.getfield 9, 3) := by decide +kernel
theorem d_X4_11 : decode b_X4 11 = .ok (.iload_n 1, 1) := by decide +kernel
theorem d_X4_12 : decode b_X4 12 = .ok (.iload_n 2, 1) := by decide +kernel
theorem d_X4_13 : decode b_X4 13 = .ok (.iastore, 1) := by decide +kernel
theorem d_X4_14 : decode b_X4 14 = .ok (.aload_n 0, 1) := by decide +kernel
theorem d_X4_15 : decode b_X4 15 = .ok (.getfield 13, 3) := by decide +kernel
theorem d_X4_18 : decode b_X4 18 = .ok (.iload_n 1, 1) := by decide +kernel
theorem d_X4_19 : decode b_X4 19 = .ok (.iload_n 3, 1) := by decide +kernel
theorem d_X4_20 : decode b_X4 20 = .ok (.iastore, 1) := by decide +kernel
theorem d_X4_21 : decode b_X4 21 = .ok (.return_, 1) := by decide +kernel
theorem d_X5_0 : decode b_X5 0 = .ok (.iload_n 0, 1) := by decide +kernel
theorem d_X5_1 : decode b_X5 1 = .ok (.iload_n 0, 1) := by decide +kernel
theorem d_X5_2 : decode b_X5 2 = .ok (.ineg, 1) := by decide +kernel
theorem d_X5_3 : decode b_X5 3 = .ok (.ior, 1) := by decide +kernel
theorem d_X5_4 : decode b_X5 4 = .ok (.ireturn, 1) := by decide +kernel
theorem d_X6_0 : decode b_X6 0 = .ok (.iload_n 0, 1) := by decide +kernel
theorem d_X6_1 : decode b_X6 1 = .ok (.iload_n 1, 1) := by decide +kernel
theorem d_X6_2 : decode b_X6 2 = .ok (.ior, 1) := by decide +kernel
theorem d_X6_3 : decode b_X6 3 = .ok (.ireturn, 1) := by decide +kernel
theorem d_X7_0 : decode b_X7 0 = .ok (.iload_n 0, 1) := by decide +kernel
theorem d_X7_1 : decode b_X7 1 = .ok (.iconst (-1), 1) := by decide +kernel
theorem d_X7_2 : decode b_X7 2 = .ok (.ixor, 1) := by decide +kernel
theorem d_X7_3 : decode b_X7 3 = .ok (.iload_n 1, 1) := by decide +kernel
theorem d_X7_4 : decode b_X7 4 = .ok (.ior, 1) := by decide +kernel
theorem d_X7_5 : decode b_X7 5 = .ok (.ireturn, 1) := by decide +kernel
theorem d_X8_0 : decode b_X8 0 = .ok (.iconst 0, 1) := by decide +kernel
theorem d_X8_1 : decode b_X8 1 = .ok (.istore_n 1, 1) := by decide +kernel
theorem d_X8_2 : decode b_X8 2 = .ok (.iload_n 0, 1) := by decide +kernel
theorem d_X8_3 : decode b_X8 3 = .ok (.istore_n 2, 1) := by decide +kernel
theorem d_X8_4 : decode b_X8 4 = .ok (.iload_n 1, 1) := by decide +kernel
theorem d_X8_5 : decode b_X8 5 = .ok (.bipush 32, 2) := by decide +kernel
theorem d_X8_7 : decode b_X8 7 = .ok (.if_icmp .ge 19, 3) := by decide +kernel
theorem d_X8_10 : decode b_X8 10 = .ok (.iload_n 2, 1) := by decide +kernel
theorem d_X8_11 : decode b_X8 11 = .ok (.iconst 1, 1) := by decide +kernel
theorem d_X8_12 : decode b_X8 12 = .ok (.iand, 1) := by decide +kernel
theorem d_X8_13 : decode b_X8 13 = .ok (.ifCond .ne 13, 3) := by decide +kernel
theorem d_X8_16 : decode b_X8 16 = .ok (.iinc 1 1, 3) := by decide +kernel
theorem d_X8_19 : decode b_X8 19 = .ok (.iload_n 2, 1) := by decide +kernel
theorem d_X8_20 : decode b_X8 20 = .ok (.iconst 1, 1) := by decide +kernel
theorem d_X8_21 : decode b_X8 21 = .ok (.iushr, 1) := by decide +kernel
theorem d_X8_22 : decode b_X8 22 = .ok (.istore_n 2, 1) := by decide +kernel
theorem d_X8_23 : decode b_X8 23 = .ok (.goto (-19), 3) := by decide +kernel
theorem d_X8_26 : decode b_X8 26 = .ok (.iload_n 1, 1) := by decide +kernel
theorem d_X8_27 : decode b_X8 27 = .ok (.ireturn, 1) := by decide +kernel
theorem d_X9_0 : decode b_X9 0 = .ok (.iload_n 0, 1) := by decide +kernel
theorem d_X9_1 : decode b_X9 1 = .ok (.iload_n 1, 1) := by decide +kernel
theorem d_X9_2 : decode b_X9 2 = .ok (.iconst (-1), 1) := by decide +kernel
theorem d_X9_3 : decode b_X9 3 = .ok (.ixor, 1) := by decide +kernel
theorem d_X9_4 : decode b_X9 4 = .ok (.iand, 1) := by decide +kernel
theorem d_X9_5 : decode b_X9 5 = .ok (.iload_n 1, 1) := by decide +kernel
theorem d_X9_6 : decode b_X9 6 = .ok (.ldc 36, 2) := by decide +kernel
theorem d_X9_8 : decode b_X9 8 = .ok (.iand, 1) := by decide +kernel
theorem d_X9_9 : decode b_X9 9 = .ok (.ior, 1) := by decide +kernel
theorem d_X9_10 : decode b_X9 10 = .ok (.ireturn, 1) := by decide +kernel
theorem d_X10_0 : decode b_X10 0 = .ok (.iload_n 0, 1) := by decide +kernel
theorem d_X10_1 : decode b_X10 1 = .ok (.iload_n 1, 1) := by decide +kernel
theorem d_X10_2 : decode b_X10 2 = .ok (.ior, 1) := by decide +kernel
theorem d_X10_3 : decode b_X10 3 = .ok (.iload_n 1, 1) := by decide +kernel
theorem d_X10_4 : decode b_X10 4 = .ok (.ldc 36, 2) := by decide +kernel
theorem d_X10_6 : decode b_X10 6 = .ok (.iand, 1) := by decide +kernel
theorem d_X10_7 : decode b_X10 7 = .ok (.iconst (-1), 1) := by decide +kernel
theorem d_X10_8 : decode b_X10 8 = .ok (.ixor, 1) := by decide +kernel
theorem d_X10_9 : decode b_X10 9 = .ok (.iand, 1) := by decide +kernel
theorem d_X10_10 : decode b_X10 10 = .ok (.ireturn, 1) := by decide +kernel
theorem d_X12_0 : decode b_X12 0 = .ok (.iload_n 0, 1) := by decide +kernel
theorem d_X12_1 : decode b_X12 1 = .ok (.ifCond .ne 8, 3) := by decide +kernel
theorem d_X12_4 : decode b_X12 4 = .ok (.bipush 32, 2) := by decide +kernel
theorem d_X12_6 : decode b_X12 6 = .ok (.goto 12, 3) := by decide +kernel
theorem d_X12_9 : decode b_X12 9 = .ok (.iload_n 0, 1) := by decide +kernel
theorem d_X12_10 : decode b_X12 10 = .ok (.invokestatic 68, 3) := by decide +kernel
theorem d_X12_13 : decode b_X12 13 = .ok (.iload_n 1, 1) := by decide +kernel
theorem d_X12_14 : decode b_X12 14 = .ok (.invokestatic 68, 3) := by decide +kernel
theorem d_X12_17 : decode b_X12 17 = .ok (.iadd, 1) := by decide +kernel
theorem d_X12_18 : decode b_X12 18 = .ok (.istore_n 2, 1) := by decide +kernel
theorem d_X12_19 : decode b_X12 19 = .ok (.iload_n 2, 1) := by decide +kernel
theorem d_X12_20 : decode b_X12 20 = .ok (.bipush 32, 2) := by decide +kernel
theorem d_X12_22 : decode b_X12 22 = .ok (.if_icmp .lt 7, 3) := by decide +kernel
theorem d_X12_25 : decode b_X12 25 = .ok (.iconst 0, 1) := by decide +kernel
theorem d_X12_26 : decode b_X12 26 = .ok (.goto 6, 3) := by decide +kernel
theorem d_X12_29 : decode b_X12 29 = .ok (.iconst (-1), 1) := by decide +kernel
theorem d_X12_30 : decode b_X12 30 = .ok (.iload_n 2, 1) := by decide +kernel
theorem d_X12_31 : decode b_X12 31 = .ok (.ishl, 1) := by decide +kernel
theorem d_X12_32 : decode b_X12 32 = .ok (.ireturn, 1) := by decide +kernel
theorem d_X13_0 : decode b_X13 0 = .ok (.aload_n 0, 1) := by decide +kernel
theorem d_X13_1 : decode b_X13 1 = .ok (.iload_n 1, 1) := by decide +kernel
theorem d_X13_2 : decode b_X13 2 = .ok (.iload_n 2, 1) := by decide +kernel
theorem d_X13_3 : decode b_X13 3 = .ok (.ifCond .eq 7, 3) := by decide +kernel
theorem d_X13_6 : decode b_X13 6 = .ok (.iconst 1, 1) := by decide +kernel
theorem d_X13_7 : decode b_X13 7 = .ok (.goto 4, 3) := by decide +kernel
theorem d_X13_10 : decode b_X13 10 = .ok (.iconst 0, 1) := by decide +kernel
theorem d_X13_11 : decode b_X13 11 = .ok (.iload_n 3, 1) := by decide +kernel
theorem d_X13_12 : decode b_X13 12 = .ok (.ifCond .ne 8, 3) := by decide +kernel
theorem d_X13_15 : decode b_X13 15 = .ok (.iload 4, 2) := by decide +kernel
theorem d_X13_17 : decode b_X13 17 = .ok (.ifCond .ne 7, 3) := by decide +kernel
theorem d_X13_20 : decode b_X13 20 = .ok (.iconst 0, 1) := by decide +kernel
theorem d_X13_21 : decode b_X13 21 = .ok (.goto 4, 3) := by decide +kernel
theorem d_X13_24 : decode b_X13 24 = .ok (.iconst 1, 1) := by decide +kernel
theorem d_X13_25 : decode b_X13 25 = .ok (.invokevirtual 44, 3) := by decide +kernel
theorem d_X13_28 : decode b_X13 28 = .ok (.return_, 1) := by decide +kernel
theorem d_X14_0 : decode b_X14 0 = .ok (.aload_n 0, 1) := by decide +kernel
theorem d_X14_1 : decode b_X14 1 = .ok (.getfield 9, 3) := by decide +kernel
theorem d_X14_4 : decode b_X14 4 = .ok (.iload_n 1, 1) := by decide +kernel
theorem d_X14_5 : decode b_X14 5 = .ok (.iload_n 2, 1) := by decide +kernel
theorem d_X14_6 : decode b_X14 6 = .ok (.iastore, 1) := by decide +kernel
theorem d_X14_7 : decode b_X14 7 = .ok (.aload_n 0, 1) := by decide +kernel
theorem d_X14_8 : decode b_X14 8 = .ok (.getfield 13, 3) := by decide +kernel
theorem d_X14_11 : decode b_X14 11 = .ok (.iload_n 1, 1) := by decide +kernel
theorem d_X14_12 : decode b_X14 12 = .ok (.iload_n 3, 1) := by decide +kernel
theorem d_X14_13 : decode b_X14 13 = .ok (.iastore, 1) := by decide +kernel
theorem d_X14_14 : decode b_X14 14 = .ok (.return_, 1) := by decide +kernel
theorem d_X15_0 : decode b_X15 0 = .ok (.iload_n 3, 1) := by decide +kernel
theorem d_X15_1 : decode b_X15 1 = .ok (.iconst 1, 1) := by decide +kernel
theorem d_X15_2 : decode b_X15 2 = .ok (.if_icmp .eq 21, 3) := by decide +kernel
theorem d_X15_5 : decode b_X15 5 = .ok (.iload_n 3, 1) := by decide +kernel
theorem d_X15_6 : decode b_X15 6 = .ok (.iconst 2, 1) := by decide +kernel
theorem d_X15_7 : decode b_X15 7 = .ok (.if_icmp .eq 16, 3) := by decide +kernel
theorem d_X15_10 : decode b_X15 10 = .ok (.iload_n 3, 1) := by decide +kernel
theorem d_X15_11 : decode b_X15 11 = .ok (.iconst 4, 1) := by decide +kernel
theorem d_X15_12 : decode b_X15 12 = .ok (.if_icmp .eq 11, 3) := by decide +kernel
theorem d_X15_15 : decode b_X15 15 = .ok (.new 37, 3) := by decide +kernel
theorem d_X15_18 : decode b_X15 18 = .ok (.dup, 1) := by decide +kernel
theorem d_X15_19 : decode b_X15 19 = .ok (.invokespecial 39, 3) := by decide +kernel
theorem d_X15_22 : decode b_X15 22 = .ok (.athrow, 1) := by decide +kernel
theorem d_X15_23 : decode b_X15 23 = .ok (.iload_n 1, 1) := by decide +kernel
theorem d_X15_24 : decode b_X15 24 = .ok (.invokestatic 26, 3) := by decide +kernel
theorem d_X15_27 : decode b_X15 27 = .ok (.ifCond .eq 20, 3) := by decide +kernel
theorem d_X15_30 : decode b_X15 30 = .ok (.iload_n 2, 1) := by decide +kernel
theorem d_X15_31 : decode b_X15 31 = .ok (.ifCond .lt 16, 3) := by decide +kernel
theorem d_X15_34 : decode b_X15 34 = .ok (.iload_n 2, 1) := by decide +kernel
theorem d_X15_35 : decode b_X15 35 = .ok (.sipush 256, 3) := by decide +kernel
theorem d_X15_38 : decode b_X15 38 = .ok (.iload_n 3, 1) := by decide +kernel
theorem d_X15_39 : decode b_X15 39 = .ok (.isub, 1) := by decide +kernel
theorem d_X15_40 : decode b_X15 40 = .ok (.if_icmp .gt 7, 3) := by decide +kernel
theorem d_X15_43 : decode b_X15 43 = .ok (.iconst 1, 1) := by decide +kernel
theorem d_X15_44 : decode b_X15 44 = .ok (.goto 4, 3) := by decide +kernel
theorem d_X15_47 : decode b_X15 47 = .ok (.iconst 0, 1) := by decide +kernel
theorem d_X15_48 : decode b_X15 48 = .ok (.invokestatic 30, 3) := by decide +kernel
theorem d_X15_51 : decode b_X15 51 = .ok (.return_, 1) := by decide +kernel
theorem d_X16_0 : decode b_X16 0 = .ok (.aload_n 0, 1) := by decide +kernel
theorem d_X16_1 : decode b_X16 1 = .ok (.iload_n 1, 1) := by decide +kernel
theorem d_X16_2 : decode b_X16 2 = .ok (.iload_n 2, 1) := by decide +kernel
theorem d_X16_3 : decode b_X16 3 = .ok (.iload_n 3, 1) := by decide +kernel
theorem d_X16_4 : decode b_X16 4 = .ok (.invokevirtual 71, 3) := by decide +kernel
theorem d_X16_7 : decode b_X16 7 = .ok (.iconst 0, 1) := by decide +kernel
theorem d_X16_8 : decode b_X16 8 = .ok (.istore 4, 2) := by decide +kernel
theorem d_X16_10 : decode b_X16 10 = .ok (.iload 4, 2) := by decide +kernel
theorem d_X16_12 : decode b_X16 12 = .ok (.iload_n 3, 1) := by decide +kernel
theorem d_X16_13 : decode b_X16 13 = .ok (.if_icmp .ge 53, 3) := by decide +kernel
theorem d_X16_16 : decode b_X16 16 = .ok (.aload_n 0, 1) := by decide +kernel
theorem d_X16_17 : decode b_X16 17 = .ok (.getfield 16, 3) := by decide +kernel
theorem d_X16_20 : decode b_X16 20 = .ok (.iload_n 2, 1) := by decide +kernel
theorem d_X16_21 : decode b_X16 21 = .ok (.iload 4, 2) := by decide +kernel
theorem d_X16_23 : decode b_X16 23 = .ok (.iadd, 1) := by decide +kernel
theorem d_X16_24 : decode b_X16 24 = .ok (.aload_n 0, 1) := by decide +kernel
theorem d_X16_25 : decode b_X16 25 = .ok (.getfield 9, 3) := by decide +kernel
theorem d_X16_28 : decode b_X16 28 = .ok (.iload_n 1, 1) := by decide +kernel
theorem d_X16_29 : decode b_X16 29 = .ok (.iaload, 1) := by decide +kernel
theorem d_X16_30 : decode b_X16 30 = .ok (.bipush 8, 2) := by decide +kernel
theorem d_X16_32 : decode b_X16 32 = .ok (.iload 4, 2) := by decide +kernel
theorem d_X16_34 : decode b_X16 34 = .ok (.imul, 1) := by decide +kernel
theorem d_X16_35 : decode b_X16 35 = .ok (.ishr, 1) := by decide +kernel
theorem d_X16_36 : decode b_X16 36 = .ok (.i2b, 1) := by decide +kernel
theorem d_X16_37 : decode b_X16 37 = .ok (.bastore, 1) := by decide +kernel
theorem d_X16_38 : decode b_X16 38 = .ok (.aload_n 0, 1) := by decide +kernel
theorem d_X16_39 : decode b_X16 39 = .ok (.getfield 20, 3) := by decide +kernel
theorem d_X16_42 : decode b_X16 42 = .ok (.iload_n 2, 1) := by decide +kernel
theorem d_X16_43 : decode b_X16 43 = .ok (.iload 4, 2) := by decide +kernel
theorem d_X16_45 : decode b_X16 45 = .ok (.iadd, 1) := by decide +kernel
theorem d_X16_46 : decode b_X16 46 = .ok (.aload_n 0, 1) := by decide +kernel
theorem d_X16_47 : decode b_X16 47 = .ok (.getfield 13, 3) := by decide +kernel
theorem d_X16_50 : decode b_X16 50 = .ok (.iload_n 1, 1) := by decide +kernel
theorem d_X16_51 : decode b_X16 51 = .ok (.iaload, 1) := by decide +kernel
theorem d_X16_52 : decode b_X16 52 = .ok (.bipush 8, 2) := by decide +kernel
theorem d_X16_54 : decode b_X16 54 = .ok (.iload 4, 2) := by decide +kernel
theorem d_X16_56 : decode b_X16 56 = .ok (.imul, 1) := by decide +kernel
theorem d_X16_57 : decode b_X16 57 = .ok (.ishr, 1) := by decide +kernel
theorem d_X16_58 : decode b_X16 58 = .ok (.i2b, 1) := by decide +kernel
theorem d_X16_59 : decode b_X16 59 = .ok (.bastore, 1) := by decide +kernel
theorem d_X16_60 : decode b_X16 60 = .ok (.iinc 4 1, 3) := by decide +kernel
theorem d_X16_63 : decode b_X16 63 = .ok (.goto (-53), 3) := by decide +kernel
theorem d_X16_66 : decode b_X16 66 = .ok (.return_, 1) := by decide +kernel
theorem d_X17_0 : decode b_X17 0 = .ok (.iload_n 3, 1) := by decide +kernel
theorem d_X17_1 : decode b_X17 1 = .ok (.ifCond .eq 13, 3) := by decide +kernel
theorem d_X17_4 : decode b_X17 4 = .ok (.aload_n 0, 1) := by decide +kernel
theorem d_X17_5 : decode b_X17 5 = .ok (.iload_n 1, 1) := by decide +kernel
theorem d_X17_6 : decode b_X17 6 = .ok (.iload_n 2, 1) := by decide +kernel
theorem d_X17_7 : decode b_X17 7 = .ok (.iadd, 1) := by decide +kernel
theorem d_X17_8 : decode b_X17 8 = .ok (.iconst 1, 1) := by decide +kernel
theorem d_X17_9 : decode b_X17 9 = .ok (.isub, 1) := by decide +kernel
theorem d_X17_10 : decode b_X17 10 = .ok (.baload, 1) := by decide +kernel
theorem d_X17_11 : decode b_X17 11 = .ok (.goto 14, 3) := by decide +kernel
theorem d_X17_14 : decode b_X17 14 = .ok (.aload_n 0, 1) := by decide +kernel
theorem d_X17_15 : decode b_X17 15 = .ok (.iload_n 1, 1) := by decide +kernel
theorem d_X17_16 : decode b_X17 16 = .ok (.iload_n 2, 1) := by decide +kernel
theorem d_X17_17 : decode b_X17 17 = .ok (.iadd, 1) := by decide +kernel
theorem d_X17_18 : decode b_X17 18 = .ok (.iconst 1, 1) := by decide +kernel
theorem d_X17_19 : decode b_X17 19 = .ok (.isub, 1) := by decide +kernel
theorem d_X17_20 : decode b_X17 20 = .ok (.baload, 1) := by decide +kernel
theorem d_X17_21 : decode b_X17 21 = .ok (.sipush 255, 3) := by decide +kernel
theorem d_X17_24 : decode b_X17 24 = .ok (.iand, 1) := by decide +kernel
theorem d_X17_25 : decode b_X17 25 = .ok (.istore 4, 2) := by decide +kernel
theorem d_X17_27 : decode b_X17 27 = .ok (.iload_n 2, 1) := by decide +kernel
theorem d_X17_28 : decode b_X17 28 = .ok (.iconst 2, 1) := by decide +kernel
theorem d_X17_29 : decode b_X17 29 = .ok (.isub, 1) := by decide +kernel
theorem d_X17_30 : decode b_X17 30 = .ok (.istore 5, 2) := by decide +kernel
theorem d_X17_32 : decode b_X17 32 = .ok (.iload 5, 2) := by decide +kernel
theorem d_X17_34 : decode b_X17 34 = .ok (.ifCond .lt 27, 3) := by decide +kernel
theorem d_X17_37 : decode b_X17 37 = .ok (.iload 4, 2) := by decide +kernel
theorem d_X17_39 : decode b_X17 39 = .ok (.bipush 8, 2) := by decide +kernel
theorem d_X17_41 : decode b_X17 41 = .ok (.ishl, 1) := by decide +kernel
theorem d_X17_42 : decode b_X17 42 = .ok (.aload_n 0, 1) := by decide +kernel
theorem d_X17_43 : decode b_X17 43 = .ok (.iload_n 1, 1) := by decide +kernel
theorem d_X17_44 : decode b_X17 44 = .ok (.iload 5, 2) := by decide +kernel
theorem d_X17_46 : decode b_X17 46 = .ok (.iadd, 1) := by decide +kernel
theorem d_X17_47 : decode b_X17 47 = .ok (.baload, 1) := by decide +kernel
theorem d_X17_48 : decode b_X17 48 = .ok (.sipush 255, 3) := by decide +kernel
theorem d_X17_51 : decode b_X17 51 = .ok (.iand, 1) := by decide +kernel
theorem d_X17_52 : decode b_X17 52 = .ok (.ior, 1) := by decide +kernel
theorem d_X17_53 : decode b_X17 53 = .ok (.istore 4, 2) := by decide +kernel
theorem d_X17_55 : decode b_X17 55 = .ok (.iinc 5 (-1), 3) := by decide +kernel
theorem d_X17_58 : decode b_X17 58 = .ok (.goto (-26), 3) := by decide +kernel
theorem d_X17_61 : decode b_X17 61 = .ok (.iload 4, 2) := by decide +kernel
theorem d_X17_63 : decode b_X17 63 = .ok (.ireturn, 1) := by decide +kernel
theorem d_X18_0 : decode b_X18 0 = .ok (.aload_n 0, 1) := by decide +kernel
theorem d_X18_1 : decode b_X18 1 = .ok (.iload_n 1, 1) := by decide +kernel
theorem d_X18_2 : decode b_X18 2 = .ok (.iload_n 2, 1) := by decide +kernel
theorem d_X18_3 : decode b_X18 3 = .ok (.iload_n 3, 1) := by decide +kernel
theorem d_X18_4 : decode b_X18 4 = .ok (.invokevirtual 71, 3) := by decide +kernel
theorem d_X18_7 : decode b_X18 7 = .ok (.aload_n 0, 1) := by decide +kernel
theorem d_X18_8 : decode b_X18 8 = .ok (.iload_n 1, 1) := by decide +kernel
theorem d_X18_9 : decode b_X18 9 = .ok (.aload_n 0, 1) := by decide +kernel
theorem d_X18_10 : decode b_X18 10 = .ok (.getfield 16, 3) := by decide +kernel
theorem d_X18_13 : decode b_X18 13 = .ok (.iload_n 2, 1) := by decide +kernel
theorem d_X18_14 : decode b_X18 14 = .ok (.iload_n 3, 1) := by decide +kernel
theorem d_X18_15 : decode b_X18 15 = .ok (.iload 4, 2) := by decide +kernel
theorem d_X18_17 : decode b_X18 17 = .ok (.invokestatic 74, 3) := by decide +kernel
theorem d_X18_20 : decode b_X18 20 = .ok (.aload_n 0, 1) := by decide +kernel
theorem d_X18_21 : decode b_X18 21 = .ok (.getfield 20, 3) := by decide +kernel
theorem d_X18_24 : decode b_X18 24 = .ok (.iload_n 2, 1) := by decide +kernel
theorem d_X18_25 : decode b_X18 25 = .ok (.iload_n 3, 1) := by decide +kernel
theorem d_X18_26 : decode b_X18 26 = .ok (.iload 4, 2) := by decide +kernel
theorem d_X18_28 : decode b_X18 28 = .ok (.invokestatic 74, 3) := by decide +kernel
theorem d_X18_31 : decode b_X18 31 = .ok (.invokevirtual 44, 3) := by decide +kernel
theorem d_X18_34 : decode b_X18 34 = .ok (.return_, 1) := by decide +kernel
theorem d_X19_0 : decode b_X19 0 = .ok (.iload_n 1, 1) := by decide +kernel
theorem d_X19_1 : decode b_X19 1 = .ok (.invokestatic 26, 3) := by decide +kernel
theorem d_X19_4 : decode b_X19 4 = .ok (.invokestatic 30, 3) := by decide +kernel
theorem d_X19_7 : decode b_X19 7 = .ok (.aload_n 0, 1) := by decide +kernel
theorem d_X19_8 : decode b_X19 8 = .ok (.getfield 9, 3) := by decide +kernel
theorem d_X19_11 : decode b_X19 11 = .ok (.iload_n 1, 1) := by decide +kernel
theorem d_X19_12 : decode b_X19 12 = .ok (.iaload, 1) := by decide +kernel
theorem d_X19_13 : decode b_X19 13 = .ok (.ireturn, 1) := by decide +kernel
theorem d_X20_0 : decode b_X20 0 = .ok (.iload_n 1, 1) := by decide +kernel
theorem d_X20_1 : decode b_X20 1 = .ok (.invokestatic 26, 3) := by decide +kernel
theorem d_X20_4 : decode b_X20 4 = .ok (.invokestatic 30, 3) := by decide +kernel
theorem d_X20_7 : decode b_X20 7 = .ok (.aload_n 0, 1) := by decide +kernel
theorem d_X20_8 : decode b_X20 8 = .ok (.getfield 13, 3) := by decide +kernel
theorem d_X20_11 : decode b_X20 11 = .ok (.iload_n 1, 1) := by decide +kernel
theorem d_X20_12 : decode b_X20 12 = .ok (.iaload, 1) := by decide +kernel
theorem d_X20_13 : decode b_X20 13 = .ok (.ireturn, 1) := by decide +kernel
theorem d_X21_0 : decode b_X21 0 = .ok (.iload_n 1, 1) := by decide +kernel
theorem d_X21_1 : decode b_X21 1 = .ok (.invokestatic 26, 3) := by decide +kernel
theorem d_X21_4 : decode b_X21 4 = .ok (.invokestatic 30, 3) := by decide +kernel
theorem d_X21_7 : decode b_X21 7 = .ok (.aload_n 0, 1) := by decide +kernel
theorem d_X21_8 : decode b_X21 8 = .ok (.getfield 9, 3) := by decide +kernel
theorem d_X21_11 : decode b_X21 11 = .ok (.iload_n 1, 1) := by decide +kernel
theorem d_X21_12 : decode b_X21 12 = .ok (.iaload, 1) := by decide +kernel
theorem d_X21_13 : decode b_X21 13 = .ok (.aload_n 0, 1) := by decide +kernel
theorem d_X21_14 : decode b_X21 14 = .ok (.getfield 13, 3) := by decide +kernel
theorem d_X21_17 : decode b_X21 17 = .ok (.iload_n 1, 1) := by decide +kernel
theorem d_X21_18 : decode b_X21 18 = .ok (.iaload, 1) := by decide +kernel
theorem d_X21_19 : decode b_X21 19 = .ok (.invokestatic 61, 3) := by decide +kernel
theorem d_X21_22 : decode b_X21 22 = .ok (.ireturn, 1) := by decide +kernel
theorem d_X22_0 : decode b_X22 0 = .ok (.iload_n 1, 1) := by decide +kernel
theorem d_X22_1 : decode b_X22 1 = .ok (.invokestatic 26, 3) := by decide +kernel
theorem d_X22_4 : decode b_X22 4 = .ok (.invokestatic 30, 3) := by decide +kernel
theorem d_X22_7 : decode b_X22 7 = .ok (.aload_n 0, 1) := by decide +kernel
theorem d_X22_8 : decode b_X22 8 = .ok (.getfield 9, 3) := by decide +kernel
theorem d_X22_11 : decode b_X22 11 = .ok (.iload_n 1, 1) := by decide +kernel
theorem d_X22_12 : decode b_X22 12 = .ok (.iaload, 1) := by decide +kernel
theorem d_X22_13 : decode b_X22 13 = .ok (.aload_n 0, 1) := by decide +kernel
theorem d_X22_14 : decode b_X22 14 = .ok (.getfield 13, 3) := by decide +kernel
theorem d_X22_17 : decode b_X22 17 = .ok (.iload_n 1, 1) := by decide +kernel
theorem d_X22_18 : decode b_X22 18 = .ok (.iaload, 1) := by decide +kernel
theorem d_X22_19 : decode b_X22 19 = .ok (.invokestatic 58, 3) := by decide +kernel
theorem d_X22_22 : decode b_X22 22 = .ok (.ireturn, 1) := by decide +kernel
theorem d_X23_0 : decode b_X23 0 = .ok (.iload_n 1, 1) := by decide +kernel
theorem d_X23_1 : decode b_X23 1 = .ok (.ifCond .lt 14, 3) := by decide +kernel
theorem d_X23_4 : decode b_X23 4 = .ok (.iload_n 1, 1) := by decide +kernel
theorem d_X23_5 : decode b_X23 5 = .ok (.sipush 256, 3) := by decide +kernel
theorem d_X23_8 : decode b_X23 8 = .ok (.if_icmp .ge 7, 3) := by decide +kernel
theorem d_X23_11 : decode b_X23 11 = .ok (.iconst 1, 1) := by decide +kernel
theorem d_X23_12 : decode b_X23 12 = .ok (.goto 4, 3) := by decide +kernel
theorem d_X23_15 : decode b_X23 15 = .ok (.iconst 0, 1) := by decide +kernel
theorem d_X23_16 : decode b_X23 16 = .ok (.invokestatic 30, 3) := by decide +kernel
theorem d_X23_19 : decode b_X23 19 = .ok (.aload_n 0, 1) := by decide +kernel
theorem d_X23_20 : decode b_X23 20 = .ok (.getfield 16, 3) := by decide +kernel
theorem d_X23_23 : decode b_X23 23 = .ok (.iload_n 1, 1) := by decide +kernel
theorem d_X23_24 : decode b_X23 24 = .ok (.baload, 1) := by decide +kernel
theorem d_X23_25 : decode b_X23 25 = .ok (.sipush 255, 3) := by decide +kernel
theorem d_X23_28 : decode b_X23 28 = .ok (.iand, 1) := by decide +kernel
theorem d_X23_29 : decode b_X23 29 = .ok (.aload_n 0, 1) := by decide +kernel
theorem d_X23_30 : decode b_X23 30 = .ok (.getfield 20, 3) := by decide +kernel
theorem d_X23_33 : decode b_X23 33 = .ok (.iload_n 1, 1) := by decide +kernel
theorem d_X23_34 : decode b_X23 34 = .ok (.baload, 1) := by decide +kernel
theorem d_X23_35 : decode b_X23 35 = .ok (.sipush 255, 3) := by decide +kernel
theorem d_X23_38 : decode b_X23 38 = .ok (.iand, 1) := by decide +kernel
theorem d_X23_39 : decode b_X23 39 = .ok (.bipush 8, 2) := by decide +kernel
theorem d_X23_41 : decode b_X23 41 = .ok (.ishl, 1) := by decide +kernel
theorem d_X23_42 : decode b_X23 42 = .ok (.ior, 1) := by decide +kernel
theorem d_X23_43 : decode b_X23 43 = .ok (.ireturn, 1) := by decide +kernel
theorem d_X24_0 : decode b_X24 0 = .ok (.iconst 0, 1) := by decide +kernel
theorem d_X24_1 : decode b_X24 1 = .ok (.istore_n 1, 1) := by decide +kernel
theorem d_X24_2 : decode b_X24 2 = .ok (.iconst 0, 1) := by decide +kernel
theorem d_X24_3 : decode b_X24 3 = .ok (.istore_n 2, 1) := by decide +kernel
theorem d_X24_4 : decode b_X24 4 = .ok (.iload_n 2, 1) := by decide +kernel
theorem d_X24_5 : decode b_X24 5 = .ok (.bipush 16, 2) := by decide +kernel
theorem d_X24_7 : decode b_X24 7 = .ok (.if_icmp .ge 32, 3) := by decide +kernel
theorem d_X24_10 : decode b_X24 10 = .ok (.aload_n 0, 1) := by decide +kernel
theorem d_X24_11 : decode b_X24 11 = .ok (.getfield 13, 3) := by decide +kernel
theorem d_X24_14 : decode b_X24 14 = .ok (.iload_n 2, 1) := by decide +kernel
theorem d_X24_15 : decode b_X24 15 = .ok (.iaload, 1) := by decide +kernel
theorem d_X24_16 : decode b_X24 16 = .ok (.istore_n 3, 1) := by decide +kernel
theorem d_X24_17 : decode b_X24 17 = .ok (.iload_n 3, 1) := by decide +kernel
theorem d_X24_18 : decode b_X24 18 = .ok (.ifCond .eq 15, 3) := by decide +kernel
theorem d_X24_21 : decode b_X24 21 = .ok (.iinc 1 1, 3) := by decide +kernel
theorem d_X24_24 : decode b_X24 24 = .ok (.iload_n 3, 1) := by decide +kernel
theorem d_X24_25 : decode b_X24 25 = .ok (.iload_n 3, 1) := by decide +kernel
theorem d_X24_26 : decode b_X24 26 = .ok (.iconst 1, 1) := by decide +kernel
theorem d_X24_27 : decode b_X24 27 = .ok (.isub, 1) := by decide +kernel
theorem d_X24_28 : decode b_X24 28 = .ok (.iand, 1) := by decide +kernel
theorem d_X24_29 : decode b_X24 29 = .ok (.istore_n 3, 1) := by decide +kernel
theorem d_X24_30 : decode b_X24 30 = .ok (.goto (-13), 3) := by decide +kernel
theorem d_X24_33 : decode b_X24 33 = .ok (.iinc 2 1, 3) := by decide +kernel
theorem d_X24_36 : decode b_X24 36 = .ok (.goto (-32), 3) := by decide +kernel
theorem d_X24_39 : decode b_X24 39 = .ok (.iload_n 1, 1) := by decide +kernel
theorem d_X24_40 : decode b_X24 40 = .ok (.ireturn, 1) := by decide +kernel
end
section
theorem d_M1_0 : decode b_M1 0 = .ok (.aload_n 0, 1) := by decide +kernel
theorem d_M1_1 : decode b_M1 1 = .ok (.invokespecial 1, 3) := by decide +kernel
theorem d_M1_4 : decode b_M1 4 = .ok (.aload_n 0, 1) := by decide +kernel
theorem d_M1_5 : decode b_M1 5 = .ok (.sipush 512, 3) := by decide +kernel
theorem d_M1_8 : decode b_M1 8 = .ok (.newarray .boolean, 2) := by decide +kernel
theorem d_M1_10 : decode b_M1 10 = .ok (.putfield 7, 3) := by decide +kernel
theorem d_M1_13 : decode b_M1 13 = .ok (.aload_n 0, 1) := by decide +kernel
theorem d_M1_14 : decode b_M1 14 = .ok (.sipush 512, 3) := by decide +kernel
theorem d_M1_17 : decode b_M1 17 = .ok (.newarray .boolean, 2) := by decide +kernel
theorem d_M1_19 : decode b_M1 19 = .ok (.putfield 13, 3) := by decide +kernel
theorem d_M1_22 : decode b_M1 22 = .ok (.aload_n 0, 1) := by decide +kernel
theorem d_M1_23 : decode b_M1 23 = .ok (.sipush 2048, 3) := by decide +kernel
theorem d_M1_26 : decode b_M1 26 = .ok (.newarray .boolean, 2) := by decide +kernel
theorem d_M1_28 : decode b_M1 28 = .ok (.putfield 16, 3) := by decide +kernel
theorem d_M1_31 : decode b_M1 31 = .ok (.aload_n 0, 1) := by decide +kernel
theorem d_M1_32 : decode b_M1 32 = .ok (.sipush 2048, 3) := by decide +kernel
theorem d_M1_35 : decode b_M1 35 = .ok (.newarray .boolean, 2) := by decide +kernel
theorem d_M1_37 : decode b_M1 37 = .ok (.putfield 19, 3) := by decide +kernel
theorem d_M1_40 : decode b_M1 40 = .ok (.aload_n 0, 1) := by decide +kernel
theorem d_M1_41 : decode b_M1 41 = .ok (.bipush 32, 2) := by decide +kernel
theorem d_M1_43 : decode b_M1 43 = .ok (.newarray .boolean, 2) := by decide +kernel
theorem d_M1_45 : decode b_M1 45 = .ok (.putfield 22, 3) := by decide +kernel
theorem d_M1_48 : decode b_M1 48 = .ok (.aload_n 0, 1) := by decide +kernel
theorem d_M1_49 : decode b_M1 49 = .ok (.bipush 32, 2) := by decide +kernel
theorem d_M1_51 : decode b_M1 51 = .ok (.newarray .boolean, 2) := by decide +kernel
theorem d_M1_53 : decode b_M1 53 = .ok (.putfield 25, 3) := by decide +kernel
theorem d_M1_56 : decode b_M1 56 = .ok (.return_, 1) := by decide +kernel
theorem d_M2_0 : decode b_M2 0 = .ok (.aload_n 0, 1) := by decide +kernel
theorem d_M2_1 : decode b_M2 1 = .ok (.getfield 28, 3) := by decide +kernel
theorem d_M2_4 : decode b_M2 4 = .ok (.ireturn, 1) := by decide +kernel
theorem d_M3_0 : decode b_M3 0 = .ok (.aload_n 0, 1) := by decide +kernel
theorem d_M3_1 : decode b_M3 1 = .ok (.iload_n 1, 1) := by decide +kernel
theorem d_M3_2 : decode b_M3 2 = .ok (.ifCond .eq 7, 3) := by decide +kernel
theorem d_M3_5 : decode b_M3 5 = .ok (.iload_n 2, 1) := by decide +kernel
theorem d_M3_6 : decode b_M3 6 = .ok (.goto 4, 3) := by decide +kernel
theorem d_M3_9 : decode b_M3 9 = .ok (.iconst 0, 1) := by decide +kernel
theorem d_M3_10 : decode b_M3 10 = .ok (.putfield 28, 3) := by decide +kernel
theorem d_M3_13 : decode b_M3 13 = .ok (.iload_n 1, 1) := by decide +kernel
theorem d_M3_14 : decode b_M3 14 = .ok (.ireturn, 1) := by decide +kernel
theorem d_M4_0 : decode b_M4 0 = .ok (.iload_n 0, 1) := by decide +kernel
theorem d_M4_1 : decode b_M4 1 = .ok (.ifCond .lt 9, 3) := by decide +kernel
theorem d_M4_4 : decode b_M4 4 = .ok (.iload_n 0, 1) := by decide +kernel
theorem d_M4_5 : decode b_M4 5 = .ok (.bipush 16, 2) := by decide +kernel
theorem d_M4_7 : decode b_M4 7 = .ok (.if_icmp .lt 7, 3) := by decide +kernel
theorem d_M4_10 : decode b_M4 10 = .ok (.iconst 1, 1) := by decide +kernel
theorem d_M4_11 : decode b_M4 11 = .ok (.goto 4, 3) := by decide +kernel
theorem d_M4_14 : decode b_M4 14 = .ok (.iconst 0, 1) := by decide +kernel
theorem d_M4_15 : decode b_M4 15 = .ok (.ireturn, 1) := by decide +kernel
theorem d_M5_0 : decode b_M5 0 = .ok (.iconst 0, 1) := by decide +kernel
theorem d_M5_1 : decode b_M5 1 = .ok (.istore_n 2, 1) := by decide +kernel
theorem d_M5_2 : decode b_M5 2 = .ok (.iconst 0, 1) := by decide +kernel
theorem d_M5_3 : decode b_M5 3 = .ok (.istore_n 3, 1) := by decide +kernel
theorem d_M5_4 : decode b_M5 4 = .ok (.iload_n 3, 1) := by decide +kernel
theorem d_M5_5 : decode b_M5 5 = .ok (.bipush 32, 2) := by decide +kernel
theorem d_M5_7 : decode b_M5 7 = .ok (.if_icmp .ge 29, 3) := by decide +kernel
theorem d_M5_10 : decode b_M5 10 = .ok (.aload_n 0, 1) := by decide +kernel
theorem d_M5_11 : decode b_M5 11 = .ok (.getfield 7, 3) := by decide +kernel
theorem d_M5_14 : decode b_M5 14 = .ok (.bipush 32, 2) := by decide +kernel
theorem d_M5_16 : decode b_M5 16 = .ok (.iload_n 1, 1) := by decide +kernel
theorem d_M5_17 : decode b_M5 17 = .ok (.imul, 1) := by decide +kernel
theorem d_M5_18 : decode b_M5 18 = .ok (.iload_n 3, 1) := by decide +kernel
theorem d_M5_19 : decode b_M5 19 = .ok (.iadd, 1) := by decide +kernel
theorem d_M5_20 : decode b_M5 20 = .ok (.baload, 1) := by decide +kernel
theorem d_M5_21 : decode b_M5 21 = .ok (.ifCond .eq 9, 3) := by decide +kernel
theorem d_M5_24 : decode b_M5 24 = .ok (.iload_n 2, 1) := by decide +kernel
theorem d_M5_25 : decode b_M5 25 = .ok (.iconst 1, 1) := by decide +kernel
theorem d_M5_26 : decode b_M5 26 = .ok (.iload_n 3, 1) := by decide +kernel
theorem d_M5_27 : decode b_M5 27 = .ok (.ishl, 1) := by decide +kernel
theorem d_M5_28 : decode b_M5 28 = .ok (.ior, 1) := by decide +kernel
theorem d_M5_29 : decode b_M5 29 = .ok (.istore_n 2, 1) := by decide +kernel
theorem d_M5_30 : decode b_M5 30 = .ok (.iinc 3 1, 3) := by decide +kernel
theorem d_M5_33 : decode b_M5 33 = .ok (.goto (-29), 3) := by decide +kernel
theorem d_M5_36 : decode b_M5 36 = .ok (.iload_n 2, 1) := by decide +kernel
theorem d_M5_37 : decode b_M5 37 = .ok (.ireturn, 1) := by decide +kernel
theorem d_M6_0 : decode b_M6 0 = .ok (.iconst 0, 1) := by decide +kernel
theorem d_M6_1 : decode b_M6 1 = .ok (.istore_n 2, 1) := by decide +kernel
theorem d_M6_2 : decode b_M6 2 = .ok (.iload_n 2, 1) := by decide +kernel
theorem d_M6_3 : decode b_M6 3 = .ok (.bipush 32, 2) := by decide +kernel
theorem d_M6_5 : decode b_M6 5 = .ok (.if_icmp .ge 43, 3) := by decide +kernel
theorem d_M6_8 : decode b_M6 8 = .ok (.aload_n 0, 1) := by decide +kernel
theorem d_M6_9 : decode b_M6 9 = .ok (.getfield 7, 3) := by decide +kernel
theorem d_M6_12 : decode b_M6 12 = .ok (.bipush 32, 2) := by decide +kernel
theorem d_M6_14 : decode b_M6 14 = .ok (.iload_n 1, 1) := by decide +kernel
theorem d_M6_15 : decode b_M6 15 = .ok (.imul, 1) := by decide +kernel
theorem d_M6_16 : decode b_M6 16 = .ok (.iload_n 2, 1) := by decide +kernel
theorem d_M6_17 : decode b_M6 17 = .ok (.iadd, 1) := by decide +kernel
theorem d_M6_18 : decode b_M6 18 = .ok (.aload_n 0, 1) := by decide +kernel
theorem d_M6_19 : decode b_M6 19 = .ok (.getfield 22, 3) := by decide +kernel
theorem d_M6_22 : decode b_M6 22 = .ok (.iload_n 2, 1) := by decide +kernel
theorem d_M6_23 : decode b_M6 23 = .ok (.baload, 1) := by decide +kernel
theorem d_M6_24 : decode b_M6 24 = .ok (.bastore, 1) := by decide +kernel
theorem d_M6_25 : decode b_M6 25 = .ok (.aload_n 0, 1) := by decide +kernel
theorem d_M6_26 : decode b_M6 26 = .ok (.getfield 13, 3) := by decide +kernel
theorem d_M6_29 : decode b_M6 29 = .ok (.bipush 32, 2) := by decide +kernel
theorem d_M6_31 : decode b_M6 31 = .ok (.iload_n 1, 1) := by decide +kernel
theorem d_M6_32 : decode b_M6 32 = .ok (.imul, 1) := by decide +kernel
theorem d_M6_33 : decode b_M6 33 = .ok (.iload_n 2, 1) := by decide +kernel
theorem d_M6_34 : decode b_M6 34 = .ok (.iadd, 1) := by decide +kernel
theorem d_M6_35 : decode b_M6 35 = .ok (.aload_n 0, 1) := by decide +kernel
theorem d_M6_36 : decode b_M6 36 = .ok (.getfield 25, 3) := by decide +kernel
theorem d_M6_39 : decode b_M6 39 = .ok (.iload_n 2, 1) := by decide +kernel
theorem d_M6_40 : decode b_M6 40 = .ok (.baload, 1) := by decide +kernel
theorem d_M6_41 : decode b_M6 41 = .ok (.bastore, 1) := by decide +kernel
theorem d_M6_42 : decode b_M6 42 = .ok (.iinc 2 1, 3) := by decide +kernel
theorem d_M6_45 : decode b_M6 45 = .ok (.goto (-43), 3) := by decide +kernel
theorem d_M6_48 : decode b_M6 48 = .ok (.return_, 1) := by decide +kernel
theorem d_M7_0 : decode b_M7 0 = .ok (.iconst 0, 1) := by decide +kernel
theorem d_M7_1 : decode b_M7 1 = .ok (.istore_n 2, 1) := by decide +kernel
theorem d_M7_2 : decode b_M7 2 = .ok (.iload_n 2, 1) := by decide +kernel
theorem d_M7_3 : decode b_M7 3 = .ok (.bipush 32, 2) := by decide +kernel
theorem d_M7_5 : decode b_M7 5 = .ok (.if_icmp .ge 36, 3) := by decide +kernel
theorem d_M7_8 : decode b_M7 8 = .ok (.aload_n 0, 1) := by decide +kernel
theorem d_M7_9 : decode b_M7 9 = .ok (.getfield 22, 3) := by decide +kernel
theorem d_M7_12 : decode b_M7 12 = .ok (.iload_n 2, 1) := by decide +kernel
theorem d_M7_13 : decode b_M7 13 = .ok (.iload_n 1, 1) := by decide +kernel
theorem d_M7_14 : decode b_M7 14 = .ok (.iload_n 2, 1) := by decide +kernel
theorem d_M7_15 : decode b_M7 15 = .ok (.ishr, 1) := by decide +kernel
theorem d_M7_16 : decode b_M7 16 = .ok (.iconst 1, 1) := by decide +kernel
theorem d_M7_17 : decode b_M7 17 = .ok (.iand, 1) := by decide +kernel
theorem d_M7_18 : decode b_M7 18 = .ok (.iconst 1, 1) := by decide +kernel
theorem d_M7_19 : decode b_M7 19 = .ok (.if_icmp .ne 7, 3) := by decide +kernel
theorem d_M7_22 : decode b_M7 22 = .ok (.iconst 1, 1) := by decide +kernel
theorem d_M7_23 : decode b_M7 23 = .ok (.goto 4, 3) := by decide +kernel
theorem d_M7_26 : decode b_M7 26 = .ok (.iconst 0, 1) := by decide +kernel
theorem d_M7_27 : decode b_M7 27 = .ok (.bastore, 1) := by decide +kernel
theorem d_M7_28 : decode b_M7 28 = .ok (.aload_n 0, 1) := by decide +kernel
theorem d_M7_29 : decode b_M7 29 = .ok (.getfield 25, 3) := by decide +kernel
theorem d_M7_32 : decode b_M7 32 = .ok (.iload_n 2, 1) := by decide +kernel
theorem d_M7_33 : decode b_M7 33 = .ok (.iconst 0, 1) := by decide +kernel
theorem d_M7_34 : decode b_M7 34 = .ok (.bastore, 1) := by decide +kernel
theorem d_M7_35 : decode b_M7 35 = .ok (.iinc 2 1, 3) := by decide +kernel
theorem d_M7_38 : decode b_M7 38 = .ok (.goto (-36), 3) := by decide +kernel
theorem d_M7_41 : decode b_M7 41 = .ok (.return_, 1) := by decide +kernel
theorem d_M8_0 : decode b_M8 0 = .ok (.aload_n 0, 1) := by decide +kernel
theorem d_M8_1 : decode b_M8 1 = .ok (.iload_n 1, 1) := by decide +kernel
theorem d_M8_2 : decode b_M8 2 = .ok (.invokestatic 32, 3) := by decide +kernel
theorem d_M8_5 : decode b_M8 5 = .ok (.iconst 1, 1) := by decide +kernel
theorem d_M8_6 : decode b_M8 6 = .ok (.invokevirtual 36, 3) := by decide +kernel
theorem d_M8_9 : decode b_M8 9 = .ok (.ifCond .eq 4, 3) := by decide +kernel
theorem d_M8_12 : decode b_M8 12 = .ok (.return_, 1) := by decide +kernel
theorem d_M8_13 : decode b_M8 13 = .ok (.aload_n 0, 1) := by decide +kernel
theorem d_M8_14 : decode b_M8 14 = .ok (.iload_n 2, 1) := by decide +kernel
theorem d_M8_15 : decode b_M8 15 = .ok (.invokevirtual 40, 3) := by decide +kernel
theorem d_M8_18 : decode b_M8 18 = .ok (.iconst 0, 1) := by decide +kernel
theorem d_M8_19 : decode b_M8 19 = .ok (.istore 4, 2) := by decide +kernel
theorem d_M8_21 : decode b_M8 21 = .ok (.iload 4, 2) := by decide +kernel
theorem d_M8_23 : decode b_M8 23 = .ok (.bipush 32, 2) := by decide +kernel
theorem d_M8_25 : decode b_M8 25 = .ok (.if_icmp .ge 31, 3) := by decide +kernel
theorem d_M8_28 : decode b_M8 28 = .ok (.aload_n 0, 1) := by decide +kernel
theorem d_M8_29 : decode b_M8 29 = .ok (.getfield 25, 3) := by decide +kernel
theorem d_M8_32 : decode b_M8 32 = .ok (.iload 4, 2) := by decide +kernel
theorem d_M8_34 : decode b_M8 34 = .ok (.iload_n 3, 1) := by decide +kernel
theorem d_M8_35 : decode b_M8 35 = .ok (.iload 4, 2) := by decide +kernel
theorem d_M8_37 : decode b_M8 37 = .ok (.ishr, 1) := by decide +kernel
theorem d_M8_38 : decode b_M8 38 = .ok (.iconst 1, 1) := by decide +kernel
theorem d_M8_39 : decode b_M8 39 = .ok (.iand, 1) := by decide +kernel
theorem d_M8_40 : decode b_M8 40 = .ok (.iconst 1, 1) := by decide +kernel
theorem d_M8_41 : decode b_M8 41 = .ok (.if_icmp .ne 7, 3) := by decide +kernel
theorem d_M8_44 : decode b_M8 44 = .ok (.iconst 1, 1) := by decide +kernel
theorem d_M8_45 : decode b_M8 45 = .ok (.goto 4, 3) := by decide +kernel
theorem d_M8_48 : decode b_M8 48 = .ok (.iconst 0, 1) := by decide +kernel
theorem d_M8_49 : decode b_M8 49 = .ok (.bastore, 1) := by decide +kernel
theorem d_M8_50 : decode b_M8 50 = .ok (.iinc 4 1, 3) := by decide +kernel
theorem d_M8_53 : decode b_M8 53 = .ok (.goto (-32), 3) := by decide +kernel
theorem d_M8_56 : decode b_M8 56 = .ok (.aload_n 0, 1) := by decide +kernel
theorem d_M8_57 : decode b_M8 57 = .ok (.iload_n 1, 1) := by decide +kernel
theorem d_M8_58 : decode b_M8 58 = .ok (.invokevirtual 44, 3) := by decide +kernel
theorem d_M8_61 : decode b_M8 61 = .ok (.return_, 1) := by decide +kernel
theorem d_M9_0 : decode b_M9 0 = .ok (.aload_n 0, 1) := by decide +kernel
theorem d_M9_1 : decode b_M9 1 = .ok (.getfield 7, 3) := by decide +kernel
theorem d_M9_4 : decode b_M9 4 = .ok (.bipush 32, 2) := by decide +kernel
theorem d_M9_6 : decode b_M9 6 = .ok (.iload_n 1, 1) := by decide +kernel
theorem d_M9_7 : decode b_M9 7 = .ok (.imul, 1) := by decide +kernel
theorem d_M9_8 : decode b_M9 8 = .ok (.iload_n 2, 1) := by decide +kernel
theorem d_M9_9 : decode b_M9 9 = .ok (.iadd, 1) := by decide +kernel
theorem d_M9_10 : decode b_M9 10 = .ok (.baload, 1) := by decide +kernel
theorem d_M9_11 : decode b_M9 11 = .ok (.ireturn, 1) := by decide +kernel
theorem d_M10_0 : decode b_M10 0 = .ok (.aload_n 0, 1) := by decide +kernel
theorem d_M10_1 : decode b_M10 1 = .ok (.getfield 13, 3) := by decide +kernel
theorem d_M10_4 : decode b_M10 4 = .ok (.bipush 32, 2) := by decide +kernel
theorem d_M10_6 : decode b_M10 6 = .ok (.iload_n 1, 1) := by decide +kernel
theorem d_M10_7 : decode b_M10 7 = .ok (.imul, 1) := by decide +kernel
theorem d_M10_8 : decode b_M10 8 = .ok (.iload_n 2, 1) := by decide +kernel
theorem d_M10_9 : decode b_M10 9 = .ok (.iadd, 1) := by decide +kernel
theorem d_M10_10 : decode b_M10 10 = .ok (.baload, 1) := by decide +kernel
theorem d_M10_11 : decode b_M10 11 = .ok (.ireturn, 1) := by decide +kernel
theorem d_M11_0 : decode b_M11 0 = .ok (.iconst 0, 1) := by decide +kernel
theorem d_M11_1 : decode b_M11 1 = .ok (.istore_n 2, 1) := by decide +kernel
theorem d_M11_2 : decode b_M11 2 = .ok (.iload_n 2, 1) := by decide +kernel
theorem d_M11_3 : decode b_M11 3 = .ok (.bipush 32, 2) := by decide +kernel
theorem d_M11_5 : decode b_M11 5 = .ok (.if_icmp .ge 18, 3) := by decide +kernel
theorem d_M11_8 : decode b_M11 8 = .ok (.aload_n 0, 1) := by decide +kernel
theorem d_M11_9 : decode b_M11 9 = .ok (.iload_n 1, 1) := by decide +kernel
theorem d_M11_10 : decode b_M11 10 = .ok (.iload_n 2, 1) := by decide +kernel
theorem d_M11_11 : decode b_M11 11 = .ok (.invokevirtual 47, 3) := by decide +kernel
theorem d_M11_14 : decode b_M11 14 = .ok (.ifCond .ne 9, 3) := by decide +kernel
theorem d_M11_17 : decode b_M11 17 = .ok (.iinc 2 1, 3) := by decide +kernel
theorem d_M11_20 : decode b_M11 20 = .ok (.goto (-18), 3) := by decide +kernel
theorem d_M11_23 : decode b_M11 23 = .ok (.iload_n 2, 1) := by decide +kernel
theorem d_M11_24 : decode b_M11 24 = .ok (.ireturn, 1) := by decide +kernel
theorem d_M12_0 : decode b_M12 0 = .ok (.iconst 0, 1) := by decide +kernel
theorem d_M12_1 : decode b_M12 1 = .ok (.istore_n 2, 1) := by decide +kernel
theorem d_M12_2 : decode b_M12 2 = .ok (.iload_n 2, 1) := by decide +kernel
theorem d_M12_3 : decode b_M12 3 = .ok (.bipush 32, 2) := by decide +kernel
theorem d_M12_5 : decode b_M12 5 = .ok (.if_icmp .ge 27, 3) := by decide +kernel
theorem d_M12_8 : decode b_M12 8 = .ok (.aload_n 0, 1) := by decide +kernel
theorem d_M12_9 : decode b_M12 9 = .ok (.iload_n 1, 1) := by decide +kernel
theorem d_M12_10 : decode b_M12 10 = .ok (.iload_n 2, 1) := by decide +kernel
theorem d_M12_11 : decode b_M12 11 = .ok (.invokevirtual 47, 3) := by decide +kernel
theorem d_M12_14 : decode b_M12 14 = .ok (.ifCond .ne 18, 3) := by decide +kernel
theorem d_M12_17 : decode b_M12 17 = .ok (.aload_n 0, 1) := by decide +kernel
theorem d_M12_18 : decode b_M12 18 = .ok (.iload_n 1, 1) := by decide +kernel
theorem d_M12_19 : decode b_M12 19 = .ok (.iload_n 2, 1) := by decide +kernel
theorem d_M12_20 : decode b_M12 20 = .ok (.invokevirtual 51, 3) := by decide +kernel
theorem d_M12_23 : decode b_M12 23 = .ok (.ifCond .ne 9, 3) := by decide +kernel
theorem d_M12_26 : decode b_M12 26 = .ok (.iinc 2 1, 3) := by decide +kernel
theorem d_M12_29 : decode b_M12 29 = .ok (.goto (-27), 3) := by decide +kernel
theorem d_M12_32 : decode b_M12 32 = .ok (.iload_n 2, 1) := by decide +kernel
theorem d_M12_33 : decode b_M12 33 = .ok (.ireturn, 1) := by decide +kernel
theorem d_M13_0 : decode b_M13 0 = .ok (.iconst 0, 1) := by decide +kernel
theorem d_M13_1 : decode b_M13 1 = .ok (.istore_n 2, 1) := by decide +kernel
theorem d_M13_2 : decode b_M13 2 = .ok (.iload_n 2, 1) := by decide +kernel
theorem d_M13_3 : decode b_M13 3 = .ok (.bipush 32, 2) := by decide +kernel
theorem d_M13_5 : decode b_M13 5 = .ok (.if_icmp .ge 25, 3) := by decide +kernel
theorem d_M13_8 : decode b_M13 8 = .ok (.aload_n 0, 1) := by decide +kernel
theorem d_M13_9 : decode b_M13 9 = .ok (.getfield 25, 3) := by decide +kernel
theorem d_M13_12 : decode b_M13 12 = .ok (.iload_n 2, 1) := by decide +kernel
theorem d_M13_13 : decode b_M13 13 = .ok (.iload_n 2, 1) := by decide +kernel
theorem d_M13_14 : decode b_M13 14 = .ok (.iload_n 1, 1) := by decide +kernel
theorem d_M13_15 : decode b_M13 15 = .ok (.if_icmp .lt 7, 3) := by decide +kernel
theorem d_M13_18 : decode b_M13 18 = .ok (.iconst 1, 1) := by decide +kernel
theorem d_M13_19 : decode b_M13 19 = .ok (.goto 4, 3) := by decide +kernel
theorem d_M13_22 : decode b_M13 22 = .ok (.iconst 0, 1) := by decide +kernel
theorem d_M13_23 : decode b_M13 23 = .ok (.bastore, 1) := by decide +kernel
theorem d_M13_24 : decode b_M13 24 = .ok (.iinc 2 1, 3) := by decide +kernel
theorem d_M13_27 : decode b_M13 27 = .ok (.goto (-25), 3) := by decide +kernel
theorem d_M13_30 : decode b_M13 30 = .ok (.return_, 1) := by decide +kernel
theorem d_M15_0 : decode b_M15 0 = .ok (.iconst 0, 1) := by decide +kernel
theorem d_M15_1 : decode b_M15 1 = .ok (.istore 5, 2) := by decide +kernel
theorem d_M15_3 : decode b_M15 3 = .ok (.iload 5, 2) := by decide +kernel
theorem d_M15_5 : decode b_M15 5 = .ok (.bipush 32, 2) := by decide +kernel
theorem d_M15_7 : decode b_M15 7 = .ok (.if_icmp .ge 119, 3) := by decide +kernel
theorem d_M15_10 : decode b_M15 10 = .ok (.iload_n 1, 1) := by decide +kernel
theorem d_M15_11 : decode b_M15 11 = .ok (.iconst 5, 1) := by decide +kernel
theorem d_M15_12 : decode b_M15 12 = .ok (.if_icmp .ne 11, 3) := by decide +kernel
theorem d_M15_15 : decode b_M15 15 = .ok (.iload 5, 2) := by decide +kernel
theorem d_M15_17 : decode b_M15 17 = .ok (.iload 4, 2) := by decide +kernel
theorem d_M15_19 : decode b_M15 19 = .ok (.isub, 1) := by decide +kernel
theorem d_M15_20 : decode b_M15 20 = .ok (.goto 8, 3) := by decide +kernel
theorem d_M15_23 : decode b_M15 23 = .ok (.iload 5, 2) := by decide +kernel
theorem d_M15_25 : decode b_M15 25 = .ok (.iload 4, 2) := by decide +kernel
theorem d_M15_27 : decode b_M15 27 = .ok (.iadd, 1) := by decide +kernel
theorem d_M15_28 : decode b_M15 28 = .ok (.istore 6, 2) := by decide +kernel
theorem d_M15_30 : decode b_M15 30 = .ok (.iload_n 1, 1) := by decide +kernel
theorem d_M15_31 : decode b_M15 31 = .ok (.bipush 7, 2) := by decide +kernel
theorem d_M15_33 : decode b_M15 33 = .ok (.if_icmp .ne 14, 3) := by decide +kernel
theorem d_M15_36 : decode b_M15 36 = .ok (.iload 6, 2) := by decide +kernel
theorem d_M15_38 : decode b_M15 38 = .ok (.bipush 31, 2) := by decide +kernel
theorem d_M15_40 : decode b_M15 40 = .ok (.if_icmp .le 7, 3) := by decide +kernel
theorem d_M15_43 : decode b_M15 43 = .ok (.bipush 31, 2) := by decide +kernel
theorem d_M15_45 : decode b_M15 45 = .ok (.istore 6, 2) := by decide +kernel
theorem d_M15_47 : decode b_M15 47 = .ok (.iload 6, 2) := by decide +kernel
theorem d_M15_49 : decode b_M15 49 = .ok (.ifCond .lt 14, 3) := by decide +kernel
theorem d_M15_52 : decode b_M15 52 = .ok (.iload 6, 2) := by decide +kernel
theorem d_M15_54 : decode b_M15 54 = .ok (.bipush 32, 2) := by decide +kernel
theorem d_M15_56 : decode b_M15 56 = .ok (.if_icmp .ge 7, 3) := by decide +kernel
theorem d_M15_59 : decode b_M15 59 = .ok (.iconst 1, 1) := by decide +kernel
theorem d_M15_60 : decode b_M15 60 = .ok (.goto 4, 3) := by decide +kernel
theorem d_M15_63 : decode b_M15 63 = .ok (.iconst 0, 1) := by decide +kernel
theorem d_M15_64 : decode b_M15 64 = .ok (.istore 7, 2) := by decide +kernel
theorem d_M15_66 : decode b_M15 66 = .ok (.aload_n 0, 1) := by decide +kernel
theorem d_M15_67 : decode b_M15 67 = .ok (.getfield 22, 3) := by decide +kernel
theorem d_M15_70 : decode b_M15 70 = .ok (.iload 5, 2) := by decide +kernel
theorem d_M15_72 : decode b_M15 72 = .ok (.iload 7, 2) := by decide +kernel
theorem d_M15_74 : decode b_M15 74 = .ok (.ifCond .eq 17, 3) := by decide +kernel
theorem d_M15_77 : decode b_M15 77 = .ok (.aload_n 0, 1) := by decide +kernel
theorem d_M15_78 : decode b_M15 78 = .ok (.iload_n 2, 1) := by decide +kernel
theorem d_M15_79 : decode b_M15 79 = .ok (.iload 6, 2) := by decide +kernel
theorem d_M15_81 : decode b_M15 81 = .ok (.invokevirtual 51, 3) := by decide +kernel
theorem d_M15_84 : decode b_M15 84 = .ok (.ifCond .eq 7, 3) := by decide +kernel
theorem d_M15_87 : decode b_M15 87 = .ok (.iconst 1, 1) := by decide +kernel
theorem d_M15_88 : decode b_M15 88 = .ok (.goto 4, 3) := by decide +kernel
theorem d_M15_91 : decode b_M15 91 = .ok (.iconst 0, 1) := by decide +kernel
theorem d_M15_92 : decode b_M15 92 = .ok (.bastore, 1) := by decide +kernel
theorem d_M15_93 : decode b_M15 93 = .ok (.aload_n 0, 1) := by decide +kernel
theorem d_M15_94 : decode b_M15 94 = .ok (.getfield 25, 3) := by decide +kernel
theorem d_M15_97 : decode b_M15 97 = .ok (.iload 5, 2) := by decide +kernel
theorem d_M15_99 : decode b_M15 99 = .ok (.iload 7, 2) := by decide +kernel
theorem d_M15_101 : decode b_M15 101 = .ok (.ifCond .eq 17, 3) := by decide +kernel
theorem d_M15_104 : decode b_M15 104 = .ok (.aload_n 0, 1) := by decide +kernel
theorem d_M15_105 : decode b_M15 105 = .ok (.iload_n 2, 1) := by decide +kernel
theorem d_M15_106 : decode b_M15 106 = .ok (.iload 6, 2) := by decide +kernel
theorem d_M15_108 : decode b_M15 108 = .ok (.invokevirtual 47, 3) := by decide +kernel
theorem d_M15_111 : decode b_M15 111 = .ok (.ifCond .eq 7, 3) := by decide +kernel
theorem d_M15_114 : decode b_M15 114 = .ok (.iconst 1, 1) := by decide +kernel
theorem d_M15_115 : decode b_M15 115 = .ok (.goto 4, 3) := by decide +kernel
theorem d_M15_118 : decode b_M15 118 = .ok (.iconst 0, 1) := by decide +kernel
theorem d_M15_119 : decode b_M15 119 = .ok (.bastore, 1) := by decide +kernel
theorem d_M15_120 : decode b_M15 120 = .ok (.iinc 5 1, 3) := by decide +kernel
theorem d_M15_123 : decode b_M15 123 = .ok (.goto (-120), 3) := by decide +kernel
theorem d_M15_126 : decode b_M15 126 = .ok (.iconst 1, 1) := by decide +kernel
theorem d_M15_127 : decode b_M15 127 = .ok (.istore 5, 2) := by decide +kernel
theorem d_M15_129 : decode b_M15 129 = .ok (.iconst 0, 1) := by decide +kernel
theorem d_M15_130 : decode b_M15 130 = .ok (.istore 6, 2) := by decide +kernel
theorem d_M15_132 : decode b_M15 132 = .ok (.iload 6, 2) := by decide +kernel
theorem d_M15_134 : decode b_M15 134 = .ok (.iconst 5, 1) := by decide +kernel
theorem d_M15_135 : decode b_M15 135 = .ok (.if_icmp .ge 22, 3) := by decide +kernel
theorem d_M15_138 : decode b_M15 138 = .ok (.aload_n 0, 1) := by decide +kernel
theorem d_M15_139 : decode b_M15 139 = .ok (.iload_n 3, 1) := by decide +kernel
theorem d_M15_140 : decode b_M15 140 = .ok (.iload 6, 2) := by decide +kernel
theorem d_M15_142 : decode b_M15 142 = .ok (.invokevirtual 47, 3) := by decide +kernel
theorem d_M15_145 : decode b_M15 145 = .ok (.ifCond .eq 6, 3) := by decide +kernel
theorem d_M15_148 : decode b_M15 148 = .ok (.iconst 0, 1) := by decide +kernel
theorem d_M15_149 : decode b_M15 149 = .ok (.istore 5, 2) := by decide +kernel
theorem d_M15_151 : decode b_M15 151 = .ok (.iinc 6 1, 3) := by decide +kernel
theorem d_M15_154 : decode b_M15 154 = .ok (.goto (-22), 3) := by decide +kernel
theorem d_M15_157 : decode b_M15 157 = .ok (.iload 5, 2) := by decide +kernel
theorem d_M15_159 : decode b_M15 159 = .ok (.ifCond .ne 8, 3) := by decide +kernel
theorem d_M15_162 : decode b_M15 162 = .ok (.aload_n 0, 1) := by decide +kernel
theorem d_M15_163 : decode b_M15 163 = .ok (.iconst 0, 1) := by decide +kernel
theorem d_M15_164 : decode b_M15 164 = .ok (.invokevirtual 61, 3) := by decide +kernel
theorem d_M15_167 : decode b_M15 167 = .ok (.return_, 1) := by decide +kernel
theorem d_M16_0 : decode b_M16 0 = .ok (.lconst 0, 1) := by decide +kernel
theorem d_M16_1 : decode b_M16 1 = .ok (.lstore 4, 2) := by decide +kernel
theorem d_M16_3 : decode b_M16 3 = .ok (.iconst 0, 1) := by decide +kernel
theorem d_M16_4 : decode b_M16 4 = .ok (.istore 6, 2) := by decide +kernel
theorem d_M16_6 : decode b_M16 6 = .ok (.iload 6, 2) := by decide +kernel
theorem d_M16_8 : decode b_M16 8 = .ok (.bipush 32, 2) := by decide +kernel
theorem d_M16_10 : decode b_M16 10 = .ok (.if_icmp .ge 87, 3) := by decide +kernel
theorem d_M16_13 : decode b_M16 13 = .ok (.iload_n 3, 1) := by decide +kernel
theorem d_M16_14 : decode b_M16 14 = .ok (.ifCond .eq 14, 3) := by decide +kernel
theorem d_M16_17 : decode b_M16 17 = .ok (.iload 6, 2) := by decide +kernel
theorem d_M16_19 : decode b_M16 19 = .ok (.bipush 31, 2) := by decide +kernel
theorem d_M16_21 : decode b_M16 21 = .ok (.if_icmp .ne 7, 3) := by decide +kernel
theorem d_M16_24 : decode b_M16 24 = .ok (.iconst 1, 1) := by decide +kernel
theorem d_M16_25 : decode b_M16 25 = .ok (.goto 4, 3) := by decide +kernel
theorem d_M16_28 : decode b_M16 28 = .ok (.iconst 0, 1) := by decide +kernel
theorem d_M16_29 : decode b_M16 29 = .ok (.istore 7, 2) := by decide +kernel
theorem d_M16_31 : decode b_M16 31 = .ok (.aload_n 0, 1) := by decide +kernel
theorem d_M16_32 : decode b_M16 32 = .ok (.iload_n 1, 1) := by decide +kernel
theorem d_M16_33 : decode b_M16 33 = .ok (.iload 6, 2) := by decide +kernel
theorem d_M16_35 : decode b_M16 35 = .ok (.invokevirtual 47, 3) := by decide +kernel
theorem d_M16_38 : decode b_M16 38 = .ok (.ifCond .eq 17, 3) := by decide +kernel
theorem d_M16_41 : decode b_M16 41 = .ok (.iload_n 2, 1) := by decide +kernel
theorem d_M16_42 : decode b_M16 42 = .ok (.iload 7, 2) := by decide +kernel
theorem d_M16_44 : decode b_M16 44 = .ok (.if_icmp .eq 7, 3) := by decide +kernel
theorem d_M16_47 : decode b_M16 47 = .ok (.iconst 1, 1) := by decide +kernel
theorem d_M16_48 : decode b_M16 48 = .ok (.goto 14, 3) := by decide +kernel
theorem d_M16_51 : decode b_M16 51 = .ok (.iconst 0, 1) := by decide +kernel
theorem d_M16_52 : decode b_M16 52 = .ok (.goto 10, 3) := by decide +kernel
theorem d_M16_55 : decode b_M16 55 = .ok (.aload_n 0, 1) := by decide +kernel
theorem d_M16_56 : decode b_M16 56 = .ok (.iload_n 1, 1) := by decide +kernel
theorem d_M16_57 : decode b_M16 57 = .ok (.iload 6, 2) := by decide +kernel
theorem d_M16_59 : decode b_M16 59 = .ok (.invokevirtual 51, 3) := by decide +kernel
theorem d_M16_62 : decode b_M16 62 = .ok (.istore 8, 2) := by decide +kernel
theorem d_M16_64 : decode b_M16 64 = .ok (.iload 8, 2) := by decide +kernel
theorem d_M16_66 : decode b_M16 66 = .ok (.ifCond .eq 25, 3) := by decide +kernel
theorem d_M16_69 : decode b_M16 69 = .ok (.lload 4, 2) := by decide +kernel
theorem d_M16_71 : decode b_M16 71 = .ok (.iload 7, 2) := by decide +kernel
theorem d_M16_73 : decode b_M16 73 = .ok (.ifCond .eq 11, 3) := by decide +kernel
theorem d_M16_76 : decode b_M16 76 = .ok (.lconst 1, 1) := by decide +kernel
theorem d_M16_77 : decode b_M16 77 = .ok (.iload 6, 2) := by decide +kernel
theorem d_M16_79 : decode b_M16 79 = .ok (.lshl, 1) := by decide +kernel
theorem d_M16_80 : decode b_M16 80 = .ok (.lneg, 1) := by decide +kernel
theorem d_M16_81 : decode b_M16 81 = .ok (.goto 7, 3) := by decide +kernel
theorem d_M16_84 : decode b_M16 84 = .ok (.lconst 1, 1) := by decide +kernel
theorem d_M16_85 : decode b_M16 85 = .ok (.iload 6, 2) := by decide +kernel
theorem d_M16_87 : decode b_M16 87 = .ok (.lshl, 1) := by decide +kernel
theorem d_M16_88 : decode b_M16 88 = .ok (.ladd, 1) := by decide +kernel
theorem d_M16_89 : decode b_M16 89 = .ok (.lstore 4, 2) := by decide +kernel
theorem d_M16_91 : decode b_M16 91 = .ok (.iinc 6 1, 3) := by decide +kernel
theorem d_M16_94 : decode b_M16 94 = .ok (.goto (-88), 3) := by decide +kernel
theorem d_M16_97 : decode b_M16 97 = .ok (.lload 4, 2) := by decide +kernel
theorem d_M16_99 : decode b_M16 99 = .ok (.lreturn, 1) := by decide +kernel
theorem d_M17_0 : decode b_M17 0 = .ok (.iconst 0, 1) := by decide +kernel
theorem d_M17_1 : decode b_M17 1 = .ok (.istore 4, 2) := by decide +kernel
theorem d_M17_3 : decode b_M17 3 = .ok (.iload 4, 2) := by decide +kernel
theorem d_M17_5 : decode b_M17 5 = .ok (.bipush 32, 2) := by decide +kernel
theorem d_M17_7 : decode b_M17 7 = .ok (.if_icmp .ge 129, 3) := by decide +kernel
theorem d_M17_10 : decode b_M17 10 = .ok (.aload_n 0, 1) := by decide +kernel
theorem d_M17_11 : decode b_M17 11 = .ok (.iload_n 3, 1) := by decide +kernel
theorem d_M17_12 : decode b_M17 12 = .ok (.iconst 0, 1) := by decide +kernel
theorem d_M17_13 : decode b_M17 13 = .ok (.invokevirtual 51, 3) := by decide +kernel
theorem d_M17_16 : decode b_M17 16 = .ok (.istore 5, 2) := by decide +kernel
theorem d_M17_18 : decode b_M17 18 = .ok (.aload_n 0, 1) := by decide +kernel
theorem d_M17_19 : decode b_M17 19 = .ok (.getfield 22, 3) := by decide +kernel
theorem d_M17_22 : decode b_M17 22 = .ok (.iload 4, 2) := by decide +kernel
theorem d_M17_24 : decode b_M17 24 = .ok (.iload 5, 2) := by decide +kernel
theorem d_M17_26 : decode b_M17 26 = .ok (.ifCond .eq 13, 3) := by decide +kernel
theorem d_M17_29 : decode b_M17 29 = .ok (.aload_n 0, 1) := by decide +kernel
theorem d_M17_30 : decode b_M17 30 = .ok (.iload_n 2, 1) := by decide +kernel
theorem d_M17_31 : decode b_M17 31 = .ok (.iload 4, 2) := by decide +kernel
theorem d_M17_33 : decode b_M17 33 = .ok (.invokevirtual 51, 3) := by decide +kernel
theorem d_M17_36 : decode b_M17 36 = .ok (.goto 10, 3) := by decide +kernel
theorem d_M17_39 : decode b_M17 39 = .ok (.aload_n 0, 1) := by decide +kernel
theorem d_M17_40 : decode b_M17 40 = .ok (.iload_n 1, 1) := by decide +kernel
theorem d_M17_41 : decode b_M17 41 = .ok (.iload 4, 2) := by decide +kernel
theorem d_M17_43 : decode b_M17 43 = .ok (.invokevirtual 51, 3) := by decide +kernel
theorem d_M17_46 : decode b_M17 46 = .ok (.bastore, 1) := by decide +kernel
theorem d_M17_47 : decode b_M17 47 = .ok (.aload_n 0, 1) := by decide +kernel
theorem d_M17_48 : decode b_M17 48 = .ok (.getfield 25, 3) := by decide +kernel
theorem d_M17_51 : decode b_M17 51 = .ok (.iload 4, 2) := by decide +kernel
theorem d_M17_53 : decode b_M17 53 = .ok (.aload_n 0, 1) := by decide +kernel
theorem d_M17_54 : decode b_M17 54 = .ok (.iload_n 3, 1) := by decide +kernel
theorem d_M17_55 : decode b_M17 55 = .ok (.iconst 0, 1) := by decide +kernel
theorem d_M17_56 : decode b_M17 56 = .ok (.invokevirtual 47, 3) := by decide +kernel
theorem d_M17_59 : decode b_M17 59 = .ok (.ifCond .eq 48, 3) := by decide +kernel
theorem d_M17_62 : decode b_M17 62 = .ok (.aload_n 0, 1) := by decide +kernel
theorem d_M17_63 : decode b_M17 63 = .ok (.iload_n 2, 1) := by decide +kernel
theorem d_M17_64 : decode b_M17 64 = .ok (.iload 4, 2) := by decide +kernel
theorem d_M17_66 : decode b_M17 66 = .ok (.invokevirtual 47, 3) := by decide +kernel
theorem d_M17_69 : decode b_M17 69 = .ok (.ifCond .ne 30, 3) := by decide +kernel
theorem d_M17_72 : decode b_M17 72 = .ok (.aload_n 0, 1) := by decide +kernel
theorem d_M17_73 : decode b_M17 73 = .ok (.iload_n 1, 1) := by decide +kernel
theorem d_M17_74 : decode b_M17 74 = .ok (.iload 4, 2) := by decide +kernel
theorem d_M17_76 : decode b_M17 76 = .ok (.invokevirtual 47, 3) := by decide +kernel
theorem d_M17_79 : decode b_M17 79 = .ok (.ifCond .ne 20, 3) := by decide +kernel
theorem d_M17_82 : decode b_M17 82 = .ok (.aload_n 0, 1) := by decide +kernel
theorem d_M17_83 : decode b_M17 83 = .ok (.iload_n 2, 1) := by decide +kernel
theorem d_M17_84 : decode b_M17 84 = .ok (.iload 4, 2) := by decide +kernel
theorem d_M17_86 : decode b_M17 86 = .ok (.invokevirtual 51, 3) := by decide +kernel
theorem d_M17_89 : decode b_M17 89 = .ok (.aload_n 0, 1) := by decide +kernel
theorem d_M17_90 : decode b_M17 90 = .ok (.iload_n 1, 1) := by decide +kernel
theorem d_M17_91 : decode b_M17 91 = .ok (.iload 4, 2) := by decide +kernel
theorem d_M17_93 : decode b_M17 93 = .ok (.invokevirtual 51, 3) := by decide +kernel
theorem d_M17_96 : decode b_M17 96 = .ok (.if_icmp .eq 7, 3) := by decide +kernel
theorem d_M17_99 : decode b_M17 99 = .ok (.iconst 1, 1) := by decide +kernel
theorem d_M17_100 : decode b_M17 100 = .ok (.goto 29, 3) := by decide +kernel
theorem d_M17_103 : decode b_M17 103 = .ok (.iconst 0, 1) := by decide +kernel
theorem d_M17_104 : decode b_M17 104 = .ok (.goto 25, 3) := by decide +kernel
theorem d_M17_107 : decode b_M17 107 = .ok (.iload 5, 2) := by decide +kernel
theorem d_M17_109 : decode b_M17 109 = .ok (.ifCond .eq 13, 3) := by decide +kernel
theorem d_M17_112 : decode b_M17 112 = .ok (.aload_n 0, 1) := by decide +kernel
theorem d_M17_113 : decode b_M17 113 = .ok (.iload_n 2, 1) := by decide +kernel
theorem d_M17_114 : decode b_M17 114 = .ok (.iload 4, 2) := by decide +kernel
theorem d_M17_116 : decode b_M17 116 = .ok (.invokevirtual 47, 3) := by decide +kernel
theorem d_M17_119 : decode b_M17 119 = .ok (.goto 10, 3) := by decide +kernel
theorem d_M17_122 : decode b_M17 122 = .ok (.aload_n 0, 1) := by decide +kernel
theorem d_M17_123 : decode b_M17 123 = .ok (.iload_n 1, 1) := by decide +kernel
theorem d_M17_124 : decode b_M17 124 = .ok (.iload 4, 2) := by decide +kernel
theorem d_M17_126 : decode b_M17 126 = .ok (.invokevirtual 47, 3) := by decide +kernel
theorem d_M17_129 : decode b_M17 129 = .ok (.bastore, 1) := by decide +kernel
theorem d_M17_130 : decode b_M17 130 = .ok (.iinc 4 1, 3) := by decide +kernel
theorem d_M17_133 : decode b_M17 133 = .ok (.goto (-130), 3) := by decide +kernel
theorem d_M17_136 : decode b_M17 136 = .ok (.return_, 1) := by decide +kernel
theorem d_M18_0 : decode b_M18 0 = .ok (.iload_n 0, 1) := by decide +kernel
theorem d_M18_1 : decode b_M18 1 = .ok (.iconst 1, 1) := by decide +kernel
theorem d_M18_2 : decode b_M18 2 = .ok (.if_icmp .eq 17, 3) := by decide +kernel
theorem d_M18_5 : decode b_M18 5 = .ok (.iload_n 0, 1) := by decide +kernel
theorem d_M18_6 : decode b_M18 6 = .ok (.iconst 2, 1) := by decide +kernel
theorem d_M18_7 : decode b_M18 7 = .ok (.if_icmp .eq 12, 3) := by decide +kernel
theorem d_M18_10 : decode b_M18 10 = .ok (.iload_n 0, 1) := by decide +kernel
theorem d_M18_11 : decode b_M18 11 = .ok (.iconst 4, 1) := by decide +kernel
theorem d_M18_12 : decode b_M18 12 = .ok (.if_icmp .eq 7, 3) := by decide +kernel
theorem d_M18_15 : decode b_M18 15 = .ok (.iconst 1, 1) := by decide +kernel
theorem d_M18_16 : decode b_M18 16 = .ok (.goto 4, 3) := by decide +kernel
theorem d_M18_19 : decode b_M18 19 = .ok (.iconst 0, 1) := by decide +kernel
theorem d_M18_20 : decode b_M18 20 = .ok (.ireturn, 1) := by decide +kernel
theorem d_M19_0 : decode b_M19 0 = .ok (.aload_n 0, 1) := by decide +kernel
theorem d_M19_1 : decode b_M19 1 = .ok (.iload_n 3, 1) := by decide +kernel
theorem d_M19_2 : decode b_M19 2 = .ok (.invokestatic 81, 3) := by decide +kernel
theorem d_M19_5 : decode b_M19 5 = .ok (.iconst 1, 1) := by decide +kernel
theorem d_M19_6 : decode b_M19 6 = .ok (.invokevirtual 36, 3) := by decide +kernel
theorem d_M19_9 : decode b_M19 9 = .ok (.ifCond .eq 4, 3) := by decide +kernel
theorem d_M19_12 : decode b_M19 12 = .ok (.return_, 1) := by decide +kernel
theorem d_M19_13 : decode b_M19 13 = .ok (.aload_n 0, 1) := by decide +kernel
theorem d_M19_14 : decode b_M19 14 = .ok (.iload_n 1, 1) := by decide +kernel
theorem d_M19_15 : decode b_M19 15 = .ok (.invokestatic 32, 3) := by decide +kernel
theorem d_M19_18 : decode b_M19 18 = .ok (.ifCond .ne 16, 3) := by decide +kernel
theorem d_M19_21 : decode b_M19 21 = .ok (.iload_n 2, 1) := by decide +kernel
theorem d_M19_22 : decode b_M19 22 = .ok (.ifCond .lt 12, 3) := by decide +kernel
theorem d_M19_25 : decode b_M19 25 = .ok (.iload_n 2, 1) := by decide +kernel
theorem d_M19_26 : decode b_M19 26 = .ok (.sipush 256, 3) := by decide +kernel
theorem d_M19_29 : decode b_M19 29 = .ok (.iload_n 3, 1) := by decide +kernel
theorem d_M19_30 : decode b_M19 30 = .ok (.isub, 1) := by decide +kernel
theorem d_M19_31 : decode b_M19 31 = .ok (.if_icmp .le 7, 3) := by decide +kernel
theorem d_M19_34 : decode b_M19 34 = .ok (.iconst 1, 1) := by decide +kernel
theorem d_M19_35 : decode b_M19 35 = .ok (.goto 4, 3) := by decide +kernel
theorem d_M19_38 : decode b_M19 38 = .ok (.iconst 0, 1) := by decide +kernel
theorem d_M19_39 : decode b_M19 39 = .ok (.iconst 2, 1) := by decide +kernel
theorem d_M19_40 : decode b_M19 40 = .ok (.invokevirtual 36, 3) := by decide +kernel
theorem d_M19_43 : decode b_M19 43 = .ok (.ifCond .eq 4, 3) := by decide +kernel
theorem d_M19_46 : decode b_M19 46 = .ok (.return_, 1) := by decide +kernel
theorem d_M19_47 : decode b_M19 47 = .ok (.iconst 0, 1) := by decide +kernel
theorem d_M19_48 : decode b_M19 48 = .ok (.istore 4, 2) := by decide +kernel
theorem d_M19_50 : decode b_M19 50 = .ok (.iload 4, 2) := by decide +kernel
theorem d_M19_52 : decode b_M19 52 = .ok (.bipush 8, 2) := by decide +kernel
theorem d_M19_54 : decode b_M19 54 = .ok (.iload_n 3, 1) := by decide +kernel
theorem d_M19_55 : decode b_M19 55 = .ok (.imul, 1) := by decide +kernel
theorem d_M19_56 : decode b_M19 56 = .ok (.if_icmp .ge 47, 3) := by decide +kernel
theorem d_M19_59 : decode b_M19 59 = .ok (.aload_n 0, 1) := by decide +kernel
theorem d_M19_60 : decode b_M19 60 = .ok (.getfield 16, 3) := by decide +kernel
theorem d_M19_63 : decode b_M19 63 = .ok (.bipush 8, 2) := by decide +kernel
theorem d_M19_65 : decode b_M19 65 = .ok (.iload_n 2, 1) := by decide +kernel
theorem d_M19_66 : decode b_M19 66 = .ok (.imul, 1) := by decide +kernel
theorem d_M19_67 : decode b_M19 67 = .ok (.iload 4, 2) := by decide +kernel
theorem d_M19_69 : decode b_M19 69 = .ok (.iadd, 1) := by decide +kernel
theorem d_M19_70 : decode b_M19 70 = .ok (.aload_n 0, 1) := by decide +kernel
theorem d_M19_71 : decode b_M19 71 = .ok (.iload_n 1, 1) := by decide +kernel
theorem d_M19_72 : decode b_M19 72 = .ok (.iload 4, 2) := by decide +kernel
theorem d_M19_74 : decode b_M19 74 = .ok (.invokevirtual 51, 3) := by decide +kernel
theorem d_M19_77 : decode b_M19 77 = .ok (.bastore, 1) := by decide +kernel
theorem d_M19_78 : decode b_M19 78 = .ok (.aload_n 0, 1) := by decide +kernel
theorem d_M19_79 : decode b_M19 79 = .ok (.getfield 19, 3) := by decide +kernel
theorem d_M19_82 : decode b_M19 82 = .ok (.bipush 8, 2) := by decide +kernel
theorem d_M19_84 : decode b_M19 84 = .ok (.iload_n 2, 1) := by decide +kernel
theorem d_M19_85 : decode b_M19 85 = .ok (.imul, 1) := by decide +kernel
theorem d_M19_86 : decode b_M19 86 = .ok (.iload 4, 2) := by decide +kernel
theorem d_M19_88 : decode b_M19 88 = .ok (.iadd, 1) := by decide +kernel
theorem d_M19_89 : decode b_M19 89 = .ok (.aload_n 0, 1) := by decide +kernel
theorem d_M19_90 : decode b_M19 90 = .ok (.iload_n 1, 1) := by decide +kernel
theorem d_M19_91 : decode b_M19 91 = .ok (.iload 4, 2) := by decide +kernel
theorem d_M19_93 : decode b_M19 93 = .ok (.invokevirtual 47, 3) := by decide +kernel
theorem d_M19_96 : decode b_M19 96 = .ok (.bastore, 1) := by decide +kernel
theorem d_M19_97 : decode b_M19 97 = .ok (.iinc 4 1, 3) := by decide +kernel
theorem d_M19_100 : decode b_M19 100 = .ok (.goto (-50), 3) := by decide +kernel
theorem d_M19_103 : decode b_M19 103 = .ok (.return_, 1) := by decide +kernel
theorem d_M20_0 : decode b_M20 0 = .ok (.aload_n 0, 1) := by decide +kernel
theorem d_M20_1 : decode b_M20 1 = .ok (.iload_n 3, 1) := by decide +kernel
theorem d_M20_2 : decode b_M20 2 = .ok (.invokestatic 81, 3) := by decide +kernel
theorem d_M20_5 : decode b_M20 5 = .ok (.iconst 1, 1) := by decide +kernel
theorem d_M20_6 : decode b_M20 6 = .ok (.invokevirtual 36, 3) := by decide +kernel
theorem d_M20_9 : decode b_M20 9 = .ok (.ifCond .eq 4, 3) := by decide +kernel
theorem d_M20_12 : decode b_M20 12 = .ok (.return_, 1) := by decide +kernel
theorem d_M20_13 : decode b_M20 13 = .ok (.aload_n 0, 1) := by decide +kernel
theorem d_M20_14 : decode b_M20 14 = .ok (.iload_n 1, 1) := by decide +kernel
theorem d_M20_15 : decode b_M20 15 = .ok (.invokestatic 32, 3) := by decide +kernel
theorem d_M20_18 : decode b_M20 18 = .ok (.ifCond .ne 16, 3) := by decide +kernel
theorem d_M20_21 : decode b_M20 21 = .ok (.iload_n 2, 1) := by decide +kernel
theorem d_M20_22 : decode b_M20 22 = .ok (.ifCond .lt 12, 3) := by decide +kernel
theorem d_M20_25 : decode b_M20 25 = .ok (.iload_n 2, 1) := by decide +kernel
theorem d_M20_26 : decode b_M20 26 = .ok (.sipush 256, 3) := by decide +kernel
theorem d_M20_29 : decode b_M20 29 = .ok (.iload_n 3, 1) := by decide +kernel
theorem d_M20_30 : decode b_M20 30 = .ok (.isub, 1) := by decide +kernel
theorem d_M20_31 : decode b_M20 31 = .ok (.if_icmp .le 7, 3) := by decide +kernel
theorem d_M20_34 : decode b_M20 34 = .ok (.iconst 1, 1) := by decide +kernel
theorem d_M20_35 : decode b_M20 35 = .ok (.goto 4, 3) := by decide +kernel
theorem d_M20_38 : decode b_M20 38 = .ok (.iconst 0, 1) := by decide +kernel
theorem d_M20_39 : decode b_M20 39 = .ok (.iconst 2, 1) := by decide +kernel
theorem d_M20_40 : decode b_M20 40 = .ok (.invokevirtual 36, 3) := by decide +kernel
theorem d_M20_43 : decode b_M20 43 = .ok (.ifCond .eq 4, 3) := by decide +kernel
theorem d_M20_46 : decode b_M20 46 = .ok (.return_, 1) := by decide +kernel
theorem d_M20_47 : decode b_M20 47 = .ok (.iconst 0, 1) := by decide +kernel
theorem d_M20_48 : decode b_M20 48 = .ok (.istore 5, 2) := by decide +kernel
theorem d_M20_50 : decode b_M20 50 = .ok (.iload 5, 2) := by decide +kernel
theorem d_M20_52 : decode b_M20 52 = .ok (.bipush 32, 2) := by decide +kernel
theorem d_M20_54 : decode b_M20 54 = .ok (.if_icmp .ge 116, 3) := by decide +kernel
theorem d_M20_57 : decode b_M20 57 = .ok (.iload 5, 2) := by decide +kernel
theorem d_M20_59 : decode b_M20 59 = .ok (.bipush 8, 2) := by decide +kernel
theorem d_M20_61 : decode b_M20 61 = .ok (.iload_n 3, 1) := by decide +kernel
theorem d_M20_62 : decode b_M20 62 = .ok (.imul, 1) := by decide +kernel
theorem d_M20_63 : decode b_M20 63 = .ok (.if_icmp .ge 8, 3) := by decide +kernel
theorem d_M20_66 : decode b_M20 66 = .ok (.iload 5, 2) := by decide +kernel
theorem d_M20_68 : decode b_M20 68 = .ok (.goto 9, 3) := by decide +kernel
theorem d_M20_71 : decode b_M20 71 = .ok (.bipush 8, 2) := by decide +kernel
theorem d_M20_73 : decode b_M20 73 = .ok (.iload_n 3, 1) := by decide +kernel
theorem d_M20_74 : decode b_M20 74 = .ok (.imul, 1) := by decide +kernel
theorem d_M20_75 : decode b_M20 75 = .ok (.iconst 1, 1) := by decide +kernel
theorem d_M20_76 : decode b_M20 76 = .ok (.isub, 1) := by decide +kernel
theorem d_M20_77 : decode b_M20 77 = .ok (.istore 6, 2) := by decide +kernel
theorem d_M20_79 : decode b_M20 79 = .ok (.iload 5, 2) := by decide +kernel
theorem d_M20_81 : decode b_M20 81 = .ok (.bipush 8, 2) := by decide +kernel
theorem d_M20_83 : decode b_M20 83 = .ok (.iload_n 3, 1) := by decide +kernel
theorem d_M20_84 : decode b_M20 84 = .ok (.imul, 1) := by decide +kernel
theorem d_M20_85 : decode b_M20 85 = .ok (.if_icmp .lt 8, 3) := by decide +kernel
theorem d_M20_88 : decode b_M20 88 = .ok (.iload 4, 2) := by decide +kernel
theorem d_M20_90 : decode b_M20 90 = .ok (.ifCond .eq 7, 3) := by decide +kernel
theorem d_M20_93 : decode b_M20 93 = .ok (.iconst 1, 1) := by decide +kernel
theorem d_M20_94 : decode b_M20 94 = .ok (.goto 4, 3) := by decide +kernel
theorem d_M20_97 : decode b_M20 97 = .ok (.iconst 0, 1) := by decide +kernel
theorem d_M20_98 : decode b_M20 98 = .ok (.istore 7, 2) := by decide +kernel
theorem d_M20_100 : decode b_M20 100 = .ok (.aload_n 0, 1) := by decide +kernel
theorem d_M20_101 : decode b_M20 101 = .ok (.getfield 22, 3) := by decide +kernel
theorem d_M20_104 : decode b_M20 104 = .ok (.iload 5, 2) := by decide +kernel
theorem d_M20_106 : decode b_M20 106 = .ok (.iload 7, 2) := by decide +kernel
theorem d_M20_108 : decode b_M20 108 = .ok (.ifCond .eq 22, 3) := by decide +kernel
theorem d_M20_111 : decode b_M20 111 = .ok (.aload_n 0, 1) := by decide +kernel
theorem d_M20_112 : decode b_M20 112 = .ok (.getfield 16, 3) := by decide +kernel
theorem d_M20_115 : decode b_M20 115 = .ok (.bipush 8, 2) := by decide +kernel
theorem d_M20_117 : decode b_M20 117 = .ok (.iload_n 2, 1) := by decide +kernel
theorem d_M20_118 : decode b_M20 118 = .ok (.imul, 1) := by decide +kernel
theorem d_M20_119 : decode b_M20 119 = .ok (.iload 6, 2) := by decide +kernel
theorem d_M20_121 : decode b_M20 121 = .ok (.iadd, 1) := by decide +kernel
theorem d_M20_122 : decode b_M20 122 = .ok (.baload, 1) := by decide +kernel
theorem d_M20_123 : decode b_M20 123 = .ok (.ifCond .eq 7, 3) := by decide +kernel
theorem d_M20_126 : decode b_M20 126 = .ok (.iconst 1, 1) := by decide +kernel
theorem d_M20_127 : decode b_M20 127 = .ok (.goto 4, 3) := by decide +kernel
theorem d_M20_130 : decode b_M20 130 = .ok (.iconst 0, 1) := by decide +kernel
theorem d_M20_131 : decode b_M20 131 = .ok (.bastore, 1) := by decide +kernel
theorem d_M20_132 : decode b_M20 132 = .ok (.aload_n 0, 1) := by decide +kernel
theorem d_M20_133 : decode b_M20 133 = .ok (.getfield 25, 3) := by decide +kernel
theorem d_M20_136 : decode b_M20 136 = .ok (.iload 5, 2) := by decide +kernel
theorem d_M20_138 : decode b_M20 138 = .ok (.iload 7, 2) := by decide +kernel
theorem d_M20_140 : decode b_M20 140 = .ok (.ifCond .eq 22, 3) := by decide +kernel
theorem d_M20_143 : decode b_M20 143 = .ok (.aload_n 0, 1) := by decide +kernel
theorem d_M20_144 : decode b_M20 144 = .ok (.getfield 19, 3) := by decide +kernel
theorem d_M20_147 : decode b_M20 147 = .ok (.bipush 8, 2) := by decide +kernel
theorem d_M20_149 : decode b_M20 149 = .ok (.iload_n 2, 1) := by decide +kernel
theorem d_M20_150 : decode b_M20 150 = .ok (.imul, 1) := by decide +kernel
theorem d_M20_151 : decode b_M20 151 = .ok (.iload 6, 2) := by decide +kernel
theorem d_M20_153 : decode b_M20 153 = .ok (.iadd, 1) := by decide +kernel
theorem d_M20_154 : decode b_M20 154 = .ok (.baload, 1) := by decide +kernel
theorem d_M20_155 : decode b_M20 155 = .ok (.ifCond .eq 7, 3) := by decide +kernel
theorem d_M20_158 : decode b_M20 158 = .ok (.iconst 1, 1) := by decide +kernel
theorem d_M20_159 : decode b_M20 159 = .ok (.goto 4, 3) := by decide +kernel
theorem d_M20_162 : decode b_M20 162 = .ok (.iconst 0, 1) := by decide +kernel
theorem d_M20_163 : decode b_M20 163 = .ok (.bastore, 1) := by decide +kernel
theorem d_M20_164 : decode b_M20 164 = .ok (.iinc 5 1, 3) := by decide +kernel
theorem d_M20_167 : decode b_M20 167 = .ok (.goto (-117), 3) := by decide +kernel
theorem d_M20_170 : decode b_M20 170 = .ok (.aload_n 0, 1) := by decide +kernel
theorem d_M20_171 : decode b_M20 171 = .ok (.iload_n 1, 1) := by decide +kernel
theorem d_M20_172 : decode b_M20 172 = .ok (.invokevirtual 44, 3) := by decide +kernel
theorem d_M20_175 : decode b_M20 175 = .ok (.return_, 1) := by decide +kernel
theorem d_M21_0 : decode b_M21 0 = .ok (.aload_n 0, 1) := by decide +kernel
theorem d_M21_1 : decode b_M21 1 = .ok (.iload_n 1, 1) := by decide +kernel
theorem d_M21_2 : decode b_M21 2 = .ok (.invokestatic 32, 3) := by decide +kernel
theorem d_M21_5 : decode b_M21 5 = .ok (.iconst 1, 1) := by decide +kernel
theorem d_M21_6 : decode b_M21 6 = .ok (.invokevirtual 36, 3) := by decide +kernel
theorem d_M21_9 : decode b_M21 9 = .ok (.ifCond .eq 7, 3) := by decide +kernel
theorem d_M21_12 : decode b_M21 12 = .ok (.iconst 0, 1) := by decide +kernel
theorem d_M21_13 : decode b_M21 13 = .ok (.goto 8, 3) := by decide +kernel
theorem d_M21_16 : decode b_M21 16 = .ok (.aload_n 0, 1) := by decide +kernel
theorem d_M21_17 : decode b_M21 17 = .ok (.iload_n 1, 1) := by decide +kernel
theorem d_M21_18 : decode b_M21 18 = .ok (.invokevirtual 54, 3) := by decide +kernel
theorem d_M21_21 : decode b_M21 21 = .ok (.ireturn, 1) := by decide +kernel
theorem d_M22_0 : decode b_M22 0 = .ok (.aload_n 0, 1) := by decide +kernel
theorem d_M22_1 : decode b_M22 1 = .ok (.iload_n 1, 1) := by decide +kernel
theorem d_M22_2 : decode b_M22 2 = .ok (.invokestatic 32, 3) := by decide +kernel
theorem d_M22_5 : decode b_M22 5 = .ok (.iconst 1, 1) := by decide +kernel
theorem d_M22_6 : decode b_M22 6 = .ok (.invokevirtual 36, 3) := by decide +kernel
theorem d_M22_9 : decode b_M22 9 = .ok (.ifCond .eq 5, 3) := by decide +kernel
theorem d_M22_12 : decode b_M22 12 = .ok (.iconst 0, 1) := by decide +kernel
theorem d_M22_13 : decode b_M22 13 = .ok (.ireturn, 1) := by decide +kernel
theorem d_M22_14 : decode b_M22 14 = .ok (.iconst 0, 1) := by decide +kernel
theorem d_M22_15 : decode b_M22 15 = .ok (.istore_n 2, 1) := by decide +kernel
theorem d_M22_16 : decode b_M22 16 = .ok (.iconst 0, 1) := by decide +kernel
theorem d_M22_17 : decode b_M22 17 = .ok (.istore_n 3, 1) := by decide +kernel
theorem d_M22_18 : decode b_M22 18 = .ok (.iload_n 3, 1) := by decide +kernel
theorem d_M22_19 : decode b_M22 19 = .ok (.bipush 32, 2) := by decide +kernel
theorem d_M22_21 : decode b_M22 21 = .ok (.if_icmp .ge 24, 3) := by decide +kernel
theorem d_M22_24 : decode b_M22 24 = .ok (.aload_n 0, 1) := by decide +kernel
theorem d_M22_25 : decode b_M22 25 = .ok (.iload_n 1, 1) := by decide +kernel
theorem d_M22_26 : decode b_M22 26 = .ok (.iload_n 3, 1) := by decide +kernel
theorem d_M22_27 : decode b_M22 27 = .ok (.invokevirtual 47, 3) := by decide +kernel
theorem d_M22_30 : decode b_M22 30 = .ok (.ifCond .eq 9, 3) := by decide +kernel
theorem d_M22_33 : decode b_M22 33 = .ok (.iload_n 2, 1) := by decide +kernel
theorem d_M22_34 : decode b_M22 34 = .ok (.iconst 1, 1) := by decide +kernel
theorem d_M22_35 : decode b_M22 35 = .ok (.iload_n 3, 1) := by decide +kernel
theorem d_M22_36 : decode b_M22 36 = .ok (.ishl, 1) := by decide +kernel
theorem d_M22_37 : decode b_M22 37 = .ok (.ior, 1) := by decide +kernel
theorem d_M22_38 : decode b_M22 38 = .ok (.istore_n 2, 1) := by decide +kernel
theorem d_M22_39 : decode b_M22 39 = .ok (.iinc 3 1, 3) := by decide +kernel
theorem d_M22_42 : decode b_M22 42 = .ok (.goto (-24), 3) := by decide +kernel
theorem d_M22_45 : decode b_M22 45 = .ok (.iload_n 2, 1) := by decide +kernel
theorem d_M22_46 : decode b_M22 46 = .ok (.ireturn, 1) := by decide +kernel
theorem d_M23_0 : decode b_M23 0 = .ok (.aload_n 0, 1) := by decide +kernel
theorem d_M23_1 : decode b_M23 1 = .ok (.iload_n 1, 1) := by decide +kernel
theorem d_M23_2 : decode b_M23 2 = .ok (.invokestatic 32, 3) := by decide +kernel
theorem d_M23_5 : decode b_M23 5 = .ok (.iconst 1, 1) := by decide +kernel
theorem d_M23_6 : decode b_M23 6 = .ok (.invokevirtual 36, 3) := by decide +kernel
theorem d_M23_9 : decode b_M23 9 = .ok (.ifCond .eq 7, 3) := by decide +kernel
theorem d_M23_12 : decode b_M23 12 = .ok (.iconst 0, 1) := by decide +kernel
theorem d_M23_13 : decode b_M23 13 = .ok (.goto 11, 3) := by decide +kernel
theorem d_M23_16 : decode b_M23 16 = .ok (.aload_n 0, 1) := by decide +kernel
theorem d_M23_17 : decode b_M23 17 = .ok (.iload_n 1, 1) := by decide +kernel
theorem d_M23_18 : decode b_M23 18 = .ok (.iconst 0, 1) := by decide +kernel
theorem d_M23_19 : decode b_M23 19 = .ok (.iconst 1, 1) := by decide +kernel
theorem d_M23_20 : decode b_M23 20 = .ok (.invokevirtual 71, 3) := by decide +kernel
theorem d_M23_23 : decode b_M23 23 = .ok (.l2i, 1) := by decide +kernel
theorem d_M23_24 : decode b_M23 24 = .ok (.ireturn, 1) := by decide +kernel
theorem d_M24_0 : decode b_M24 0 = .ok (.aload_n 0, 1) := by decide +kernel
theorem d_M24_1 : decode b_M24 1 = .ok (.iload_n 1, 1) := by decide +kernel
theorem d_M24_2 : decode b_M24 2 = .ok (.invokestatic 32, 3) := by decide +kernel
theorem d_M24_5 : decode b_M24 5 = .ok (.iconst 1, 1) := by decide +kernel
theorem d_M24_6 : decode b_M24 6 = .ok (.invokevirtual 36, 3) := by decide +kernel
theorem d_M24_9 : decode b_M24 9 = .ok (.ifCond .eq 7, 3) := by decide +kernel
theorem d_M24_12 : decode b_M24 12 = .ok (.iconst 0, 1) := by decide +kernel
theorem d_M24_13 : decode b_M24 13 = .ok (.goto 11, 3) := by decide +kernel
theorem d_M24_16 : decode b_M24 16 = .ok (.aload_n 0, 1) := by decide +kernel
theorem d_M24_17 : decode b_M24 17 = .ok (.iload_n 1, 1) := by decide +kernel
theorem d_M24_18 : decode b_M24 18 = .ok (.iconst 1, 1) := by decide +kernel
theorem d_M24_19 : decode b_M24 19 = .ok (.iconst 1, 1) := by decide +kernel
theorem d_M24_20 : decode b_M24 20 = .ok (.invokevirtual 71, 3) := by decide +kernel
theorem d_M24_23 : decode b_M24 23 = .ok (.l2i, 1) := by decide +kernel
theorem d_M24_24 : decode b_M24 24 = .ok (.ireturn, 1) := by decide +kernel
theorem d_M25_0 : decode b_M25 0 = .ok (.aload_n 0, 1) := by decide +kernel
theorem d_M25_1 : decode b_M25 1 = .ok (.iload_n 1, 1) := by decide +kernel
theorem d_M25_2 : decode b_M25 2 = .ok (.ifCond .lt 10, 3) := by decide +kernel
theorem d_M25_5 : decode b_M25 5 = .ok (.iload_n 1, 1) := by decide +kernel
theorem d_M25_6 : decode b_M25 6 = .ok (.sipush 256, 3) := by decide +kernel
theorem d_M25_9 : decode b_M25 9 = .ok (.if_icmp .lt 7, 3) := by decide +kernel
theorem d_M25_12 : decode b_M25 12 = .ok (.iconst 1, 1) := by decide +kernel
theorem d_M25_13 : decode b_M25 13 = .ok (.goto 4, 3) := by decide +kernel
theorem d_M25_16 : decode b_M25 16 = .ok (.iconst 0, 1) := by decide +kernel
theorem d_M25_17 : decode b_M25 17 = .ok (.iconst 1, 1) := by decide +kernel
theorem d_M25_18 : decode b_M25 18 = .ok (.invokevirtual 36, 3) := by decide +kernel
theorem d_M25_21 : decode b_M25 21 = .ok (.ifCond .eq 5, 3) := by decide +kernel
theorem d_M25_24 : decode b_M25 24 = .ok (.iconst 0, 1) := by decide +kernel
theorem d_M25_25 : decode b_M25 25 = .ok (.ireturn, 1) := by decide +kernel
theorem d_M25_26 : decode b_M25 26 = .ok (.iconst 0, 1) := by decide +kernel
theorem d_M25_27 : decode b_M25 27 = .ok (.istore_n 2, 1) := by decide +kernel
theorem d_M25_28 : decode b_M25 28 = .ok (.iconst 0, 1) := by decide +kernel
theorem d_M25_29 : decode b_M25 29 = .ok (.istore_n 3, 1) := by decide +kernel
theorem d_M25_30 : decode b_M25 30 = .ok (.iload_n 3, 1) := by decide +kernel
theorem d_M25_31 : decode b_M25 31 = .ok (.bipush 8, 2) := by decide +kernel
theorem d_M25_33 : decode b_M25 33 = .ok (.if_icmp .ge 57, 3) := by decide +kernel
theorem d_M25_36 : decode b_M25 36 = .ok (.iload_n 2, 1) := by decide +kernel
theorem d_M25_37 : decode b_M25 37 = .ok (.aload_n 0, 1) := by decide +kernel
theorem d_M25_38 : decode b_M25 38 = .ok (.getfield 16, 3) := by decide +kernel
theorem d_M25_41 : decode b_M25 41 = .ok (.bipush 8, 2) := by decide +kernel
theorem d_M25_43 : decode b_M25 43 = .ok (.iload_n 1, 1) := by decide +kernel
theorem d_M25_44 : decode b_M25 44 = .ok (.imul, 1) := by decide +kernel
theorem d_M25_45 : decode b_M25 45 = .ok (.iload_n 3, 1) := by decide +kernel
theorem d_M25_46 : decode b_M25 46 = .ok (.iadd, 1) := by decide +kernel
theorem d_M25_47 : decode b_M25 47 = .ok (.baload, 1) := by decide +kernel
theorem d_M25_48 : decode b_M25 48 = .ok (.ifCond .eq 9, 3) := by decide +kernel
theorem d_M25_51 : decode b_M25 51 = .ok (.iconst 1, 1) := by decide +kernel
theorem d_M25_52 : decode b_M25 52 = .ok (.iload_n 3, 1) := by decide +kernel
theorem d_M25_53 : decode b_M25 53 = .ok (.ishl, 1) := by decide +kernel
theorem d_M25_54 : decode b_M25 54 = .ok (.goto 4, 3) := by decide +kernel
theorem d_M25_57 : decode b_M25 57 = .ok (.iconst 0, 1) := by decide +kernel
theorem d_M25_58 : decode b_M25 58 = .ok (.aload_n 0, 1) := by decide +kernel
theorem d_M25_59 : decode b_M25 59 = .ok (.getfield 19, 3) := by decide +kernel
theorem d_M25_62 : decode b_M25 62 = .ok (.bipush 8, 2) := by decide +kernel
theorem d_M25_64 : decode b_M25 64 = .ok (.iload_n 1, 1) := by decide +kernel
theorem d_M25_65 : decode b_M25 65 = .ok (.imul, 1) := by decide +kernel
theorem d_M25_66 : decode b_M25 66 = .ok (.iload_n 3, 1) := by decide +kernel
theorem d_M25_67 : decode b_M25 67 = .ok (.iadd, 1) := by decide +kernel
theorem d_M25_68 : decode b_M25 68 = .ok (.baload, 1) := by decide +kernel
theorem d_M25_69 : decode b_M25 69 = .ok (.ifCond .eq 11, 3) := by decide +kernel
theorem d_M25_72 : decode b_M25 72 = .ok (.sipush 256, 3) := by decide +kernel
theorem d_M25_75 : decode b_M25 75 = .ok (.iload_n 3, 1) := by decide +kernel
theorem d_M25_76 : decode b_M25 76 = .ok (.ishl, 1) := by decide +kernel
theorem d_M25_77 : decode b_M25 77 = .ok (.goto 4, 3) := by decide +kernel
theorem d_M25_80 : decode b_M25 80 = .ok (.iconst 0, 1) := by decide +kernel
theorem d_M25_81 : decode b_M25 81 = .ok (.iadd, 1) := by decide +kernel
theorem d_M25_82 : decode b_M25 82 = .ok (.iadd, 1) := by decide +kernel
theorem d_M25_83 : decode b_M25 83 = .ok (.istore_n 2, 1) := by decide +kernel
theorem d_M25_84 : decode b_M25 84 = .ok (.iinc 3 1, 3) := by decide +kernel
theorem d_M25_87 : decode b_M25 87 = .ok (.goto (-57), 3) := by decide +kernel
theorem d_M25_90 : decode b_M25 90 = .ok (.iload_n 2, 1) := by decide +kernel
theorem d_M25_91 : decode b_M25 91 = .ok (.ireturn, 1) := by decide +kernel
theorem d_M26_0 : decode b_M26 0 = .ok (.aload_n 0, 1) := by decide +kernel
theorem d_M26_1 : decode b_M26 1 = .ok (.iconst 0, 1) := by decide +kernel
theorem d_M26_2 : decode b_M26 2 = .ok (.putfield 28, 3) := by decide +kernel
theorem d_M26_5 : decode b_M26 5 = .ok (.iconst 0, 1) := by decide +kernel
theorem d_M26_6 : decode b_M26 6 = .ok (.istore_n 1, 1) := by decide +kernel
theorem d_M26_7 : decode b_M26 7 = .ok (.iconst 0, 1) := by decide +kernel
theorem d_M26_8 : decode b_M26 8 = .ok (.istore_n 2, 1) := by decide +kernel
theorem d_M26_9 : decode b_M26 9 = .ok (.iload_n 2, 1) := by decide +kernel
theorem d_M26_10 : decode b_M26 10 = .ok (.sipush 512, 3) := by decide +kernel
theorem d_M26_13 : decode b_M26 13 = .ok (.if_icmp .ge 21, 3) := by decide +kernel
theorem d_M26_16 : decode b_M26 16 = .ok (.aload_n 0, 1) := by decide +kernel
theorem d_M26_17 : decode b_M26 17 = .ok (.getfield 13, 3) := by decide +kernel
theorem d_M26_20 : decode b_M26 20 = .ok (.iload_n 2, 1) := by decide +kernel
theorem d_M26_21 : decode b_M26 21 = .ok (.baload, 1) := by decide +kernel
theorem d_M26_22 : decode b_M26 22 = .ok (.ifCond .eq 6, 3) := by decide +kernel
theorem d_M26_25 : decode b_M26 25 = .ok (.iinc 1 1, 3) := by decide +kernel
theorem d_M26_28 : decode b_M26 28 = .ok (.iinc 2 1, 3) := by decide +kernel
theorem d_M26_31 : decode b_M26 31 = .ok (.goto (-22), 3) := by decide +kernel
theorem d_M26_34 : decode b_M26 34 = .ok (.iload_n 1, 1) := by decide +kernel
theorem d_M26_35 : decode b_M26 35 = .ok (.ireturn, 1) := by decide +kernel
end
section
theorem d_L3_0 : decode b_L3 0 = .ok (.aload_n 0, 1) := by decide +kernel
theorem d_L3_1 : decode b_L3 1 = .ok (.iload_n 1, 1) := by decide +kernel
theorem d_L3_2 : decode b_L3 2 = .ok (.iload_n 2, 1) := by decide +kernel
theorem d_L3_3 : decode b_L3 3 = .ok (.iload_n 3, 1) := by decide +kernel
theorem d_L3_4 : decode b_L3 4 = .ok (.invokevirtual 7, 3) := by decide +kernel
theorem d_L3_7 : decode b_L3 7 = .ok (.goto 7, 3) := by decide +kernel
theorem d_L3_10 : decode b_L3 10 = .ok (.astore 4, 2) := by decide +kernel
theorem d_L3_12 : decode b_L3 12 = .ok (.iconst 1, 1) := by decide +kernel
theorem d_L3_13 : decode b_L3 13 = .ok (.ireturn, 1) := by decide +kernel
theorem d_L3_14 : decode b_L3 14 = .ok (.iconst 0, 1) := by decide +kernel
theorem d_L3_15 : decode b_L3 15 = .ok (.ireturn, 1) := by decide +kernel
theorem d_L4_0 : decode b_L4 0 = .ok (.aload_n 0, 1) := by decide +kernel
theorem d_L4_1 : decode b_L4 1 = .ok (.iload_n 1, 1) := by decide +kernel
theorem d_L4_2 : decode b_L4 2 = .ok (.iload_n 2, 1) := by decide +kernel
theorem d_L4_3 : decode b_L4 3 = .ok (.iload_n 3, 1) := by decide +kernel
theorem d_L4_4 : decode b_L4 4 = .ok (.iload 4, 2) := by decide +kernel
theorem d_L4_6 : decode b_L4 6 = .ok (.invokevirtual 15, 3) := by decide +kernel
theorem d_L4_9 : decode b_L4 9 = .ok (.goto 11, 3) := by decide +kernel
theorem d_L4_12 : decode b_L4 12 = .ok (.astore 5, 2) := by decide +kernel
theorem d_L4_14 : decode b_L4 14 = .ok (.iconst 1, 1) := by decide +kernel
theorem d_L4_15 : decode b_L4 15 = .ok (.ireturn, 1) := by decide +kernel
theorem d_L4_16 : decode b_L4 16 = .ok (.astore 5, 2) := by decide +kernel
theorem d_L4_18 : decode b_L4 18 = .ok (.iconst 2, 1) := by decide +kernel
theorem d_L4_19 : decode b_L4 19 = .ok (.ireturn, 1) := by decide +kernel
theorem d_L4_20 : decode b_L4 20 = .ok (.iconst 0, 1) := by decide +kernel
theorem d_L4_21 : decode b_L4 21 = .ok (.ireturn, 1) := by decide +kernel
theorem d_L5_0 : decode b_L5 0 = .ok (.aload_n 0, 1) := by decide +kernel
theorem d_L5_1 : decode b_L5 1 = .ok (.iload_n 1, 1) := by decide +kernel
theorem d_L5_2 : decode b_L5 2 = .ok (.iload_n 2, 1) := by decide +kernel
theorem d_L5_3 : decode b_L5 3 = .ok (.iload_n 3, 1) := by decide +kernel
theorem d_L5_4 : decode b_L5 4 = .ok (.invokevirtual 21, 3) := by decide +kernel
theorem d_L5_7 : decode b_L5 7 = .ok (.goto 11, 3) := by decide +kernel
theorem d_L5_10 : decode b_L5 10 = .ok (.astore 4, 2) := by decide +kernel
theorem d_L5_12 : decode b_L5 12 = .ok (.iconst 1, 1) := by decide +kernel
theorem d_L5_13 : decode b_L5 13 = .ok (.ireturn, 1) := by decide +kernel
theorem d_L5_14 : decode b_L5 14 = .ok (.astore 4, 2) := by decide +kernel
theorem d_L5_16 : decode b_L5 16 = .ok (.iconst 2, 1) := by decide +kernel
theorem d_L5_17 : decode b_L5 17 = .ok (.ireturn, 1) := by decide +kernel
theorem d_L5_18 : decode b_L5 18 = .ok (.iconst 0, 1) := by decide +kernel
theorem d_L5_19 : decode b_L5 19 = .ok (.ireturn, 1) := by decide +kernel
theorem d_L6_0 : decode b_L6 0 = .ok (.aload_n 0, 1) := by decide +kernel
theorem d_L6_1 : decode b_L6 1 = .ok (.iload_n 1, 1) := by decide +kernel
theorem d_L6_2 : decode b_L6 2 = .ok (.iload_n 2, 1) := by decide +kernel
theorem d_L6_3 : decode b_L6 3 = .ok (.iload_n 3, 1) := by decide +kernel
theorem d_L6_4 : decode b_L6 4 = .ok (.iload 4, 2) := by decide +kernel
theorem d_L6_6 : decode b_L6 6 = .ok (.invokevirtual 24, 3) := by decide +kernel
theorem d_L6_9 : decode b_L6 9 = .ok (.goto 11, 3) := by decide +kernel
theorem d_L6_12 : decode b_L6 12 = .ok (.astore 5, 2) := by decide +kernel
theorem d_L6_14 : decode b_L6 14 = .ok (.iconst 1, 1) := by decide +kernel
theorem d_L6_15 : decode b_L6 15 = .ok (.ireturn, 1) := by decide +kernel
theorem d_L6_16 : decode b_L6 16 = .ok (.astore 5, 2) := by decide +kernel
theorem d_L6_18 : decode b_L6 18 = .ok (.iconst 2, 1) := by decide +kernel
theorem d_L6_19 : decode b_L6 19 = .ok (.ireturn, 1) := by decide +kernel
theorem d_L6_20 : decode b_L6 20 = .ok (.iconst 0, 1) := by decide +kernel
theorem d_L6_21 : decode b_L6 21 = .ok (.ireturn, 1) := by decide +kernel
theorem d_L7_0 : decode b_L7 0 = .ok (.aload_n 2, 1) := by decide +kernel
theorem d_L7_1 : decode b_L7 1 = .ok (.iconst 0, 1) := by decide +kernel
theorem d_L7_2 : decode b_L7 2 = .ok (.aload_n 0, 1) := by decide +kernel
theorem d_L7_3 : decode b_L7 3 = .ok (.iload_n 1, 1) := by decide +kernel
theorem d_L7_4 : decode b_L7 4 = .ok (.invokevirtual 28, 3) := by decide +kernel
theorem d_L7_7 : decode b_L7 7 = .ok (.i2l, 1) := by decide +kernel
theorem d_L7_8 : decode b_L7 8 = .ok (.lastore, 1) := by decide +kernel
theorem d_L7_9 : decode b_L7 9 = .ok (.goto 6, 3) := by decide +kernel
theorem d_L7_12 : decode b_L7 12 = .ok (.astore_n 3, 1) := by decide +kernel
theorem d_L7_13 : decode b_L7 13 = .ok (.iconst 1, 1) := by decide +kernel
theorem d_L7_14 : decode b_L7 14 = .ok (.ireturn, 1) := by decide +kernel
theorem d_L7_15 : decode b_L7 15 = .ok (.iconst 0, 1) := by decide +kernel
theorem d_L7_16 : decode b_L7 16 = .ok (.ireturn, 1) := by decide +kernel
theorem d_L8_0 : decode b_L8 0 = .ok (.aload_n 2, 1) := by decide +kernel
theorem d_L8_1 : decode b_L8 1 = .ok (.iconst 0, 1) := by decide +kernel
theorem d_L8_2 : decode b_L8 2 = .ok (.aload_n 0, 1) := by decide +kernel
theorem d_L8_3 : decode b_L8 3 = .ok (.iload_n 1, 1) := by decide +kernel
theorem d_L8_4 : decode b_L8 4 = .ok (.invokevirtual 32, 3) := by decide +kernel
theorem d_L8_7 : decode b_L8 7 = .ok (.i2l, 1) := by decide +kernel
theorem d_L8_8 : decode b_L8 8 = .ok (.lastore, 1) := by decide +kernel
theorem d_L8_9 : decode b_L8 9 = .ok (.goto 6, 3) := by decide +kernel
theorem d_L8_12 : decode b_L8 12 = .ok (.astore_n 3, 1) := by decide +kernel
theorem d_L8_13 : decode b_L8 13 = .ok (.iconst 1, 1) := by decide +kernel
theorem d_L8_14 : decode b_L8 14 = .ok (.ireturn, 1) := by decide +kernel
theorem d_L8_15 : decode b_L8 15 = .ok (.iconst 0, 1) := by decide +kernel
theorem d_L8_16 : decode b_L8 16 = .ok (.ireturn, 1) := by decide +kernel
theorem d_L9_0 : decode b_L9 0 = .ok (.aload_n 2, 1) := by decide +kernel
theorem d_L9_1 : decode b_L9 1 = .ok (.iconst 0, 1) := by decide +kernel
theorem d_L9_2 : decode b_L9 2 = .ok (.aload_n 0, 1) := by decide +kernel
theorem d_L9_3 : decode b_L9 3 = .ok (.iload_n 1, 1) := by decide +kernel
theorem d_L9_4 : decode b_L9 4 = .ok (.invokevirtual 35, 3) := by decide +kernel
theorem d_L9_7 : decode b_L9 7 = .ok (.i2l, 1) := by decide +kernel
theorem d_L9_8 : decode b_L9 8 = .ok (.lastore, 1) := by decide +kernel
theorem d_L9_9 : decode b_L9 9 = .ok (.goto 6, 3) := by decide +kernel
theorem d_L9_12 : decode b_L9 12 = .ok (.astore_n 3, 1) := by decide +kernel
theorem d_L9_13 : decode b_L9 13 = .ok (.iconst 1, 1) := by decide +kernel
theorem d_L9_14 : decode b_L9 14 = .ok (.ireturn, 1) := by decide +kernel
theorem d_L9_15 : decode b_L9 15 = .ok (.iconst 0, 1) := by decide +kernel
theorem d_L9_16 : decode b_L9 16 = .ok (.ireturn, 1) := by decide +kernel
theorem d_L10_0 : decode b_L10 0 = .ok (.aload_n 2, 1) := by decide +kernel
theorem d_L10_1 : decode b_L10 1 = .ok (.iconst 0, 1) := by decide +kernel
theorem d_L10_2 : decode b_L10 2 = .ok (.aload_n 0, 1) := by decide +kernel
theorem d_L10_3 : decode b_L10 3 = .ok (.iload_n 1, 1) := by decide +kernel
theorem d_L10_4 : decode b_L10 4 = .ok (.invokevirtual 38, 3) := by decide +kernel
theorem d_L10_7 : decode b_L10 7 = .ok (.i2l, 1) := by decide +kernel
theorem d_L10_8 : decode b_L10 8 = .ok (.lastore, 1) := by decide +kernel
theorem d_L10_9 : decode b_L10 9 = .ok (.goto 6, 3) := by decide +kernel
theorem d_L10_12 : decode b_L10 12 = .ok (.astore_n 3, 1) := by decide +kernel
theorem d_L10_13 : decode b_L10 13 = .ok (.iconst 1, 1) := by decide +kernel
theorem d_L10_14 : decode b_L10 14 = .ok (.ireturn, 1) := by decide +kernel
theorem d_L10_15 : decode b_L10 15 = .ok (.iconst 0, 1) := by decide +kernel
theorem d_L10_16 : decode b_L10 16 = .ok (.ireturn, 1) := by decide +kernel
theorem d_L11_0 : decode b_L11 0 = .ok (.aload_n 2, 1) := by decide +kernel
theorem d_L11_1 : decode b_L11 1 = .ok (.iconst 0, 1) := by decide +kernel
theorem d_L11_2 : decode b_L11 2 = .ok (.aload_n 0, 1) := by decide +kernel
theorem d_L11_3 : decode b_L11 3 = .ok (.iload_n 1, 1) := by decide +kernel
theorem d_L11_4 : decode b_L11 4 = .ok (.invokevirtual 41, 3) := by decide +kernel
theorem d_L11_7 : decode b_L11 7 = .ok (.i2l, 1) := by decide +kernel
theorem d_L11_8 : decode b_L11 8 = .ok (.lastore, 1) := by decide +kernel
theorem d_L11_9 : decode b_L11 9 = .ok (.goto 6, 3) := by decide +kernel
theorem d_L11_12 : decode b_L11 12 = .ok (.astore_n 3, 1) := by decide +kernel
theorem d_L11_13 : decode b_L11 13 = .ok (.iconst 1, 1) := by decide +kernel
theorem d_L11_14 : decode b_L11 14 = .ok (.ireturn, 1) := by decide +kernel
theorem d_L11_15 : decode b_L11 15 = .ok (.iconst 0, 1) := by decide +kernel
theorem d_L11_16 : decode b_L11 16 = .ok (.ireturn, 1) := by decide +kernel
end
section
theorem d_X11_0 : decode b_X11 0 = .ok (.iload_n 1, 1) := by decide +kernel
theorem d_X11_1 : decode b_X11 1 = .ok (.ifCond .lt 9, 3) := by decide +kernel
theorem d_X11_4 : decode b_X11 4 = .ok (.iload_n 1, 1) := by decide +kernel
theorem d_X11_5 : decode b_X11 5 = .ok (.bipush 13, 2) := by decide +kernel
theorem d_X11_7 : decode b_X11 7 = .ok (.if_icmp .lt 11, 3) := by decide +kernel
theorem d_X11_10 : decode b_X11 10 = .ok (.new 37, 3) := by decide +kernel
theorem d_X11_13 : decode b_X11 13 = .ok (.dup, 1) := by decide +kernel
theorem d_X11_14 : decode b_X11 14 = .ok (.invokespecial 39, 3) := by decide +kernel
theorem d_X11_17 : decode b_X11 17 = .ok (.athrow, 1) := by decide +kernel
theorem d_X11_18 : decode b_X11 18 = .ok (.iload_n 2, 1) := by decide +kernel
theorem d_X11_19 : decode b_X11 19 = .ok (.invokestatic 26, 3) := by decide +kernel
theorem d_X11_22 : decode b_X11 22 = .ok (.ifCond .eq 22, 3) := by decide +kernel
theorem d_X11_25 : decode b_X11 25 = .ok (.iload_n 3, 1) := by decide +kernel
theorem d_X11_26 : decode b_X11 26 = .ok (.invokestatic 26, 3) := by decide +kernel
theorem d_X11_29 : decode b_X11 29 = .ok (.ifCond .eq 15, 3) := by decide +kernel
theorem d_X11_32 : decode b_X11 32 = .ok (.iload 4, 2) := by decide +kernel
theorem d_X11_34 : decode b_X11 34 = .ok (.invokestatic 26, 3) := by decide +kernel
theorem d_X11_37 : decode b_X11 37 = .ok (.ifCond .eq 7, 3) := by decide +kernel
theorem d_X11_40 : decode b_X11 40 = .ok (.iconst 1, 1) := by decide +kernel
theorem d_X11_41 : decode b_X11 41 = .ok (.goto 4, 3) := by decide +kernel
theorem d_X11_44 : decode b_X11 44 = .ok (.iconst 0, 1) := by decide +kernel
theorem d_X11_45 : decode b_X11 45 = .ok (.invokestatic 30, 3) := by decide +kernel
theorem d_X11_48 : decode b_X11 48 = .ok (.aload_n 0, 1) := by decide +kernel
theorem d_X11_49 : decode b_X11 49 = .ok (.getfield 9, 3) := by decide +kernel
theorem d_X11_52 : decode b_X11 52 = .ok (.iload_n 3, 1) := by decide +kernel
theorem d_X11_53 : decode b_X11 53 = .ok (.iaload, 1) := by decide +kernel
theorem d_X11_54 : decode b_X11 54 = .ok (.istore 5, 2) := by decide +kernel
theorem d_X11_56 : decode b_X11 56 = .ok (.aload_n 0, 1) := by decide +kernel
theorem d_X11_57 : decode b_X11 57 = .ok (.getfield 9, 3) := by decide +kernel
theorem d_X11_60 : decode b_X11 60 = .ok (.iload 4, 2) := by decide +kernel
theorem d_X11_62 : decode b_X11 62 = .ok (.iaload, 1) := by decide +kernel
theorem d_X11_63 : decode b_X11 63 = .ok (.istore 6, 2) := by decide +kernel
theorem d_X11_65 : decode b_X11 65 = .ok (.aload_n 0, 1) := by decide +kernel
theorem d_X11_66 : decode b_X11 66 = .ok (.getfield 13, 3) := by decide +kernel
theorem d_X11_69 : decode b_X11 69 = .ok (.iload_n 3, 1) := by decide +kernel
theorem d_X11_70 : decode b_X11 70 = .ok (.iaload, 1) := by decide +kernel
theorem d_X11_71 : decode b_X11 71 = .ok (.istore 7, 2) := by decide +kernel
theorem d_X11_73 : decode b_X11 73 = .ok (.aload_n 0, 1) := by decide +kernel
theorem d_X11_74 : decode b_X11 74 = .ok (.getfield 13, 3) := by decide +kernel
theorem d_X11_77 : decode b_X11 77 = .ok (.iload 4, 2) := by decide +kernel
theorem d_X11_79 : decode b_X11 79 = .ok (.iaload, 1) := by decide +kernel
theorem d_X11_80 : decode b_X11 80 = .ok (.istore 8, 2) := by decide +kernel
theorem d_X11_82 : decode b_X11 82 = .ok (.iload 6, 2) := by decide +kernel
theorem d_X11_84 : decode b_X11 84 = .ok (.bipush 31, 2) := by decide +kernel
theorem d_X11_86 : decode b_X11 86 = .ok (.iand, 1) := by decide +kernel
theorem d_X11_87 : decode b_X11 87 = .ok (.istore 9, 2) := by decide +kernel
theorem d_X11_89 : decode b_X11 89 = .ok (.iload 8, 2) := by decide +kernel
theorem d_X11_91 : decode b_X11 91 = .ok (.bipush 31, 2) := by decide +kernel
theorem d_X11_93 : decode b_X11 93 = .ok (.iand, 1) := by decide +kernel
theorem d_X11_94 : decode b_X11 94 = .ok (.ifCond .ne 7, 3) := by decide +kernel
theorem d_X11_97 : decode b_X11 97 = .ok (.iconst 1, 1) := by decide +kernel
theorem d_X11_98 : decode b_X11 98 = .ok (.goto 4, 3) := by decide +kernel
theorem d_X11_101 : decode b_X11 101 = .ok (.iconst 0, 1) := by decide +kernel
theorem d_X11_102 : decode b_X11 102 = .ok (.istore 10, 2) := by decide +kernel
theorem d_X11_104 : decode b_X11 104 = .ok (.iload_n 1, 1) := by decide +kernel
theorem d_X11_105 : decode b_X11 105 = .ok (.tableswitch 519 0 11 #[63, 84, 105, 139, 173, 191, 218, 245, 272, 310, 374, 456], 63) := by decide +kernel
theorem d_X11_168 : decode b_X11 168 = .ok (.aload_n 0, 1) := by decide +kernel
theorem d_X11_169 : decode b_X11 169 = .ok (.iload_n 2, 1) := by decide +kernel
theorem d_X11_170 : decode b_X11 170 = .ok (.iload 5, 2) := by decide +kernel
theorem d_X11_172 : decode b_X11 172 = .ok (.iload 6, 2) := by decide +kernel
end
section
theorem d_X11_174 : decode b_X11 174 = .ok (.iadd, 1) := by decide +kernel
theorem d_X11_175 : decode b_X11 175 = .ok (.iload 7, 2) := by decide +kernel
theorem d_X11_177 : decode b_X11 177 = .ok (.iload 8, 2) := by decide +kernel
theorem d_X11_179 : decode b_X11 179 = .ok (.ior, 1) := by decide +kernel
theorem d_X11_180 : decode b_X11 180 = .ok (.invokestatic 40, 3) := by decide +kernel
theorem d_X11_183 : decode b_X11 183 = .ok (.invokevirtual 44, 3) := by decide +kernel
theorem d_X11_186 : decode b_X11 186 = .ok (.goto 516, 3) := by decide +kernel
theorem d_X11_189 : decode b_X11 189 = .ok (.aload_n 0, 1) := by decide +kernel
theorem d_X11_190 : decode b_X11 190 = .ok (.iload_n 2, 1) := by decide +kernel
theorem d_X11_191 : decode b_X11 191 = .ok (.iload 5, 2) := by decide +kernel
theorem d_X11_193 : decode b_X11 193 = .ok (.iload 6, 2) := by decide +kernel
theorem d_X11_195 : decode b_X11 195 = .ok (.isub, 1) := by decide +kernel
theorem d_X11_196 : decode b_X11 196 = .ok (.iload 7, 2) := by decide +kernel
theorem d_X11_198 : decode b_X11 198 = .ok (.iload 8, 2) := by decide +kernel
theorem d_X11_200 : decode b_X11 200 = .ok (.ior, 1) := by decide +kernel
theorem d_X11_201 : decode b_X11 201 = .ok (.invokestatic 40, 3) := by decide +kernel
theorem d_X11_204 : decode b_X11 204 = .ok (.invokevirtual 44, 3) := by decide +kernel
theorem d_X11_207 : decode b_X11 207 = .ok (.goto 495, 3) := by decide +kernel
theorem d_X11_210 : decode b_X11 210 = .ok (.aload_n 0, 1) := by decide +kernel
theorem d_X11_211 : decode b_X11 211 = .ok (.iload_n 2, 1) := by decide +kernel
theorem d_X11_212 : decode b_X11 212 = .ok (.iload 5, 2) := by decide +kernel
theorem d_X11_214 : decode b_X11 214 = .ok (.iload 6, 2) := by decide +kernel
theorem d_X11_216 : decode b_X11 216 = .ok (.iand, 1) := by decide +kernel
theorem d_X11_217 : decode b_X11 217 = .ok (.iload 7, 2) := by decide +kernel
theorem d_X11_219 : decode b_X11 219 = .ok (.iload 8, 2) := by decide +kernel
theorem d_X11_221 : decode b_X11 221 = .ok (.ior, 1) := by decide +kernel
theorem d_X11_222 : decode b_X11 222 = .ok (.iload 5, 2) := by decide +kernel
theorem d_X11_224 : decode b_X11 224 = .ok (.iload 7, 2) := by decide +kernel
theorem d_X11_226 : decode b_X11 226 = .ok (.invokestatic 48, 3) := by decide +kernel
theorem d_X11_229 : decode b_X11 229 = .ok (.iand, 1) := by decide +kernel
theorem d_X11_230 : decode b_X11 230 = .ok (.iload 6, 2) := by decide +kernel
theorem d_X11_232 : decode b_X11 232 = .ok (.iload 8, 2) := by decide +kernel
theorem d_X11_234 : decode b_X11 234 = .ok (.invokestatic 48, 3) := by decide +kernel
theorem d_X11_237 : decode b_X11 237 = .ok (.iand, 1) := by decide +kernel
theorem d_X11_238 : decode b_X11 238 = .ok (.invokevirtual 44, 3) := by decide +kernel
theorem d_X11_241 : decode b_X11 241 = .ok (.goto 461, 3) := by decide +kernel
theorem d_X11_244 : decode b_X11 244 = .ok (.aload_n 0, 1) := by decide +kernel
theorem d_X11_245 : decode b_X11 245 = .ok (.iload_n 2, 1) := by decide +kernel
theorem d_X11_246 : decode b_X11 246 = .ok (.iload 5, 2) := by decide +kernel
theorem d_X11_248 : decode b_X11 248 = .ok (.iload 6, 2) := by decide +kernel
theorem d_X11_250 : decode b_X11 250 = .ok (.ior, 1) := by decide +kernel
theorem d_X11_251 : decode b_X11 251 = .ok (.iload 7, 2) := by decide +kernel
theorem d_X11_253 : decode b_X11 253 = .ok (.iload 8, 2) := by decide +kernel
theorem d_X11_255 : decode b_X11 255 = .ok (.ior, 1) := by decide +kernel
theorem d_X11_256 : decode b_X11 256 = .ok (.iload 5, 2) := by decide +kernel
theorem d_X11_258 : decode b_X11 258 = .ok (.iload 7, 2) := by decide +kernel
theorem d_X11_260 : decode b_X11 260 = .ok (.invokestatic 52, 3) := by decide +kernel
theorem d_X11_263 : decode b_X11 263 = .ok (.iand, 1) := by decide +kernel
theorem d_X11_264 : decode b_X11 264 = .ok (.iload 6, 2) := by decide +kernel
theorem d_X11_266 : decode b_X11 266 = .ok (.iload 8, 2) := by decide +kernel
theorem d_X11_268 : decode b_X11 268 = .ok (.invokestatic 52, 3) := by decide +kernel
theorem d_X11_271 : decode b_X11 271 = .ok (.iand, 1) := by decide +kernel
theorem d_X11_272 : decode b_X11 272 = .ok (.invokevirtual 44, 3) := by decide +kernel
theorem d_X11_275 : decode b_X11 275 = .ok (.goto 427, 3) := by decide +kernel
theorem d_X11_278 : decode b_X11 278 = .ok (.aload_n 0, 1) := by decide +kernel
theorem d_X11_279 : decode b_X11 279 = .ok (.iload_n 2, 1) := by decide +kernel
theorem d_X11_280 : decode b_X11 280 = .ok (.iload 5, 2) := by decide +kernel
theorem d_X11_282 : decode b_X11 282 = .ok (.iload 6, 2) := by decide +kernel
theorem d_X11_284 : decode b_X11 284 = .ok (.ixor, 1) := by decide +kernel
theorem d_X11_285 : decode b_X11 285 = .ok (.iload 7, 2) := by decide +kernel
end
section
theorem d_X11_287 : decode b_X11 287 = .ok (.iload 8, 2) := by decide +kernel
theorem d_X11_289 : decode b_X11 289 = .ok (.ior, 1) := by decide +kernel
theorem d_X11_290 : decode b_X11 290 = .ok (.invokevirtual 44, 3) := by decide +kernel
theorem d_X11_293 : decode b_X11 293 = .ok (.goto 409, 3) := by decide +kernel
theorem d_X11_296 : decode b_X11 296 = .ok (.aload_n 0, 1) := by decide +kernel
theorem d_X11_297 : decode b_X11 297 = .ok (.iload_n 2, 1) := by decide +kernel
theorem d_X11_298 : decode b_X11 298 = .ok (.iload 5, 2) := by decide +kernel
theorem d_X11_300 : decode b_X11 300 = .ok (.iload 9, 2) := by decide +kernel
theorem d_X11_302 : decode b_X11 302 = .ok (.ishl, 1) := by decide +kernel
theorem d_X11_303 : decode b_X11 303 = .ok (.iload 10, 2) := by decide +kernel
theorem d_X11_305 : decode b_X11 305 = .ok (.ifCond .eq 11, 3) := by decide +kernel
theorem d_X11_308 : decode b_X11 308 = .ok (.iload 7, 2) := by decide +kernel
theorem d_X11_310 : decode b_X11 310 = .ok (.iload 9, 2) := by decide +kernel
theorem d_X11_312 : decode b_X11 312 = .ok (.ishl, 1) := by decide +kernel
theorem d_X11_313 : decode b_X11 313 = .ok (.goto 4, 3) := by decide +kernel
theorem d_X11_316 : decode b_X11 316 = .ok (.iconst (-1), 1) := by decide +kernel
theorem d_X11_317 : decode b_X11 317 = .ok (.invokevirtual 44, 3) := by decide +kernel
theorem d_X11_320 : decode b_X11 320 = .ok (.goto 382, 3) := by decide +kernel
theorem d_X11_323 : decode b_X11 323 = .ok (.aload_n 0, 1) := by decide +kernel
theorem d_X11_324 : decode b_X11 324 = .ok (.iload_n 2, 1) := by decide +kernel
theorem d_X11_325 : decode b_X11 325 = .ok (.iload 5, 2) := by decide +kernel
theorem d_X11_327 : decode b_X11 327 = .ok (.iload 9, 2) := by decide +kernel
theorem d_X11_329 : decode b_X11 329 = .ok (.iushr, 1) := by decide +kernel
theorem d_X11_330 : decode b_X11 330 = .ok (.iload 10, 2) := by decide +kernel
theorem d_X11_332 : decode b_X11 332 = .ok (.ifCond .eq 11, 3) := by decide +kernel
theorem d_X11_335 : decode b_X11 335 = .ok (.iload 7, 2) := by decide +kernel
theorem d_X11_337 : decode b_X11 337 = .ok (.iload 9, 2) := by decide +kernel
theorem d_X11_339 : decode b_X11 339 = .ok (.iushr, 1) := by decide +kernel
theorem d_X11_340 : decode b_X11 340 = .ok (.goto 4, 3) := by decide +kernel
theorem d_X11_343 : decode b_X11 343 = .ok (.iconst (-1), 1) := by decide +kernel
theorem d_X11_344 : decode b_X11 344 = .ok (.invokevirtual 44, 3) := by decide +kernel
theorem d_X11_347 : decode b_X11 347 = .ok (.goto 355, 3) := by decide +kernel
theorem d_X11_350 : decode b_X11 350 = .ok (.aload_n 0, 1) := by decide +kernel
theorem d_X11_351 : decode b_X11 351 = .ok (.iload_n 2, 1) := by decide +kernel
theorem d_X11_352 : decode b_X11 352 = .ok (.iload 5, 2) := by decide +kernel
theorem d_X11_354 : decode b_X11 354 = .ok (.iload 9, 2) := by decide +kernel
theorem d_X11_356 : decode b_X11 356 = .ok (.ishr, 1) := by decide +kernel
theorem d_X11_357 : decode b_X11 357 = .ok (.iload 10, 2) := by decide +kernel
theorem d_X11_359 : decode b_X11 359 = .ok (.ifCond .eq 11, 3) := by decide +kernel
theorem d_X11_362 : decode b_X11 362 = .ok (.iload 7, 2) := by decide +kernel
theorem d_X11_364 : decode b_X11 364 = .ok (.iload 9, 2) := by decide +kernel
theorem d_X11_366 : decode b_X11 366 = .ok (.ishr, 1) := by decide +kernel
theorem d_X11_367 : decode b_X11 367 = .ok (.goto 4, 3) := by decide +kernel
theorem d_X11_370 : decode b_X11 370 = .ok (.iconst (-1), 1) := by decide +kernel
theorem d_X11_371 : decode b_X11 371 = .ok (.invokevirtual 44, 3) := by decide +kernel
theorem d_X11_374 : decode b_X11 374 = .ok (.goto 328, 3) := by decide +kernel
theorem d_X11_377 : decode b_X11 377 = .ok (.aload_n 0, 1) := by decide +kernel
theorem d_X11_378 : decode b_X11 378 = .ok (.iload_n 2, 1) := by decide +kernel
theorem d_X11_379 : decode b_X11 379 = .ok (.iload 5, 2) := by decide +kernel
theorem d_X11_381 : decode b_X11 381 = .ok (.iload 6, 2) := by decide +kernel
theorem d_X11_383 : decode b_X11 383 = .ok (.imul, 1) := by decide +kernel
theorem d_X11_384 : decode b_X11 384 = .ok (.iload 7, 2) := by decide +kernel
theorem d_X11_386 : decode b_X11 386 = .ok (.iload 6, 2) := by decide +kernel
theorem d_X11_388 : decode b_X11 388 = .ok (.iload 8, 2) := by decide +kernel
theorem d_X11_390 : decode b_X11 390 = .ok (.invokestatic 48, 3) := by decide +kernel
theorem d_X11_393 : decode b_X11 393 = .ok (.invokestatic 55, 3) := by decide +kernel
theorem d_X11_396 : decode b_X11 396 = .ok (.iload 8, 2) := by decide +kernel
theorem d_X11_398 : decode b_X11 398 = .ok (.iload 5, 2) := by decide +kernel
theorem d_X11_400 : decode b_X11 400 = .ok (.iload 7, 2) := by decide +kernel
theorem d_X11_402 : decode b_X11 402 = .ok (.invokestatic 48, 3) := by decide +kernel
end
section
theorem d_X11_405 : decode b_X11 405 = .ok (.invokestatic 55, 3) := by decide +kernel
theorem d_X11_408 : decode b_X11 408 = .ok (.ior, 1) := by decide +kernel
theorem d_X11_409 : decode b_X11 409 = .ok (.invokevirtual 44, 3) := by decide +kernel
theorem d_X11_412 : decode b_X11 412 = .ok (.goto 290, 3) := by decide +kernel
theorem d_X11_415 : decode b_X11 415 = .ok (.aload_n 0, 1) := by decide +kernel
theorem d_X11_416 : decode b_X11 416 = .ok (.iload_n 2, 1) := by decide +kernel
theorem d_X11_417 : decode b_X11 417 = .ok (.iload 5, 2) := by decide +kernel
theorem d_X11_419 : decode b_X11 419 = .ok (.iload 6, 2) := by decide +kernel
theorem d_X11_421 : decode b_X11 421 = .ok (.if_icmp .ge 7, 3) := by decide +kernel
theorem d_X11_424 : decode b_X11 424 = .ok (.iconst 1, 1) := by decide +kernel
theorem d_X11_425 : decode b_X11 425 = .ok (.goto 4, 3) := by decide +kernel
theorem d_X11_428 : decode b_X11 428 = .ok (.iconst 0, 1) := by decide +kernel
theorem d_X11_429 : decode b_X11 429 = .ok (.iload 5, 2) := by decide +kernel
theorem d_X11_431 : decode b_X11 431 = .ok (.iload 7, 2) := by decide +kernel
theorem d_X11_433 : decode b_X11 433 = .ok (.invokestatic 58, 3) := by decide +kernel
theorem d_X11_436 : decode b_X11 436 = .ok (.iload 6, 2) := by decide +kernel
theorem d_X11_438 : decode b_X11 438 = .ok (.iload 8, 2) := by decide +kernel
theorem d_X11_440 : decode b_X11 440 = .ok (.invokestatic 61, 3) := by decide +kernel
theorem d_X11_443 : decode b_X11 443 = .ok (.if_icmp .ge 7, 3) := by decide +kernel
theorem d_X11_446 : decode b_X11 446 = .ok (.iconst 1, 1) := by decide +kernel
theorem d_X11_447 : decode b_X11 447 = .ok (.goto 4, 3) := by decide +kernel
theorem d_X11_450 : decode b_X11 450 = .ok (.iconst 0, 1) := by decide +kernel
theorem d_X11_451 : decode b_X11 451 = .ok (.iload 5, 2) := by decide +kernel
theorem d_X11_453 : decode b_X11 453 = .ok (.iload 7, 2) := by decide +kernel
theorem d_X11_455 : decode b_X11 455 = .ok (.invokestatic 61, 3) := by decide +kernel
theorem d_X11_458 : decode b_X11 458 = .ok (.iload 6, 2) := by decide +kernel
theorem d_X11_460 : decode b_X11 460 = .ok (.iload 8, 2) := by decide +kernel
theorem d_X11_462 : decode b_X11 462 = .ok (.invokestatic 58, 3) := by decide +kernel
theorem d_X11_465 : decode b_X11 465 = .ok (.if_icmp .ge 7, 3) := by decide +kernel
theorem d_X11_468 : decode b_X11 468 = .ok (.iconst 1, 1) := by decide +kernel
theorem d_X11_469 : decode b_X11 469 = .ok (.goto 4, 3) := by decide +kernel
theorem d_X11_472 : decode b_X11 472 = .ok (.iconst 0, 1) := by decide +kernel
theorem d_X11_473 : decode b_X11 473 = .ok (.invokevirtual 64, 3) := by decide +kernel
theorem d_X11_476 : decode b_X11 476 = .ok (.goto 226, 3) := by decide +kernel
theorem d_X11_479 : decode b_X11 479 = .ok (.ldc 36, 2) := by decide +kernel
theorem d_X11_481 : decode b_X11 481 = .ok (.istore 11, 2) := by decide +kernel
theorem d_X11_483 : decode b_X11 483 = .ok (.aload_n 0, 1) := by decide +kernel
theorem d_X11_484 : decode b_X11 484 = .ok (.iload_n 2, 1) := by decide +kernel
theorem d_X11_485 : decode b_X11 485 = .ok (.iload 5, 2) := by decide +kernel
theorem d_X11_487 : decode b_X11 487 = .ok (.iload 11, 2) := by decide +kernel
theorem d_X11_489 : decode b_X11 489 = .ok (.iadd, 1) := by decide +kernel
theorem d_X11_490 : decode b_X11 490 = .ok (.iload 6, 2) := by decide +kernel
theorem d_X11_492 : decode b_X11 492 = .ok (.iload 11, 2) := by decide +kernel
theorem d_X11_494 : decode b_X11 494 = .ok (.iadd, 1) := by decide +kernel
theorem d_X11_495 : decode b_X11 495 = .ok (.if_icmp .ge 7, 3) := by decide +kernel
theorem d_X11_498 : decode b_X11 498 = .ok (.iconst 1, 1) := by decide +kernel
theorem d_X11_499 : decode b_X11 499 = .ok (.goto 4, 3) := by decide +kernel
theorem d_X11_502 : decode b_X11 502 = .ok (.iconst 0, 1) := by decide +kernel
theorem d_X11_503 : decode b_X11 503 = .ok (.iload 5, 2) := by decide +kernel
theorem d_X11_505 : decode b_X11 505 = .ok (.iload 7, 2) := by decide +kernel
theorem d_X11_507 : decode b_X11 507 = .ok (.ior, 1) := by decide +kernel
theorem d_X11_508 : decode b_X11 508 = .ok (.iload 11, 2) := by decide +kernel
theorem d_X11_510 : decode b_X11 510 = .ok (.iadd, 1) := by decide +kernel
theorem d_X11_511 : decode b_X11 511 = .ok (.iload 6, 2) := by decide +kernel
theorem d_X11_513 : decode b_X11 513 = .ok (.iload 8, 2) := by decide +kernel
theorem d_X11_515 : decode b_X11 515 = .ok (.iconst (-1), 1) := by decide +kernel
theorem d_X11_516 : decode b_X11 516 = .ok (.ixor, 1) := by decide +kernel
theorem d_X11_517 : decode b_X11 517 = .ok (.iand, 1) := by decide +kernel
theorem d_X11_518 : decode b_X11 518 = .ok (.iload 11, 2) := by decide +kernel
theorem d_X11_520 : decode b_X11 520 = .ok (.iadd, 1) := by decide +kernel
end
section
theorem d_X11_521 : decode b_X11 521 = .ok (.if_icmp .ge 7, 3) := by decide +kernel
theorem d_X11_524 : decode b_X11 524 = .ok (.iconst 1, 1) := by decide +kernel
theorem d_X11_525 : decode b_X11 525 = .ok (.goto 4, 3) := by decide +kernel
theorem d_X11_528 : decode b_X11 528 = .ok (.iconst 0, 1) := by decide +kernel
theorem d_X11_529 : decode b_X11 529 = .ok (.iload 5, 2) := by decide +kernel
theorem d_X11_531 : decode b_X11 531 = .ok (.iload 7, 2) := by decide +kernel
theorem d_X11_533 : decode b_X11 533 = .ok (.iconst (-1), 1) := by decide +kernel
theorem d_X11_534 : decode b_X11 534 = .ok (.ixor, 1) := by decide +kernel
theorem d_X11_535 : decode b_X11 535 = .ok (.iand, 1) := by decide +kernel
theorem d_X11_536 : decode b_X11 536 = .ok (.iload 11, 2) := by decide +kernel
theorem d_X11_538 : decode b_X11 538 = .ok (.iadd, 1) := by decide +kernel
theorem d_X11_539 : decode b_X11 539 = .ok (.iload 6, 2) := by decide +kernel
theorem d_X11_541 : decode b_X11 541 = .ok (.iload 8, 2) := by decide +kernel
theorem d_X11_543 : decode b_X11 543 = .ok (.ior, 1) := by decide +kernel
theorem d_X11_544 : decode b_X11 544 = .ok (.iload 11, 2) := by decide +kernel
theorem d_X11_546 : decode b_X11 546 = .ok (.iadd, 1) := by decide +kernel
theorem d_X11_547 : decode b_X11 547 = .ok (.if_icmp .ge 7, 3) := by decide +kernel
theorem d_X11_550 : decode b_X11 550 = .ok (.iconst 1, 1) := by decide +kernel
theorem d_X11_551 : decode b_X11 551 = .ok (.goto 4, 3) := by decide +kernel
theorem d_X11_554 : decode b_X11 554 = .ok (.iconst 0, 1) := by decide +kernel
theorem d_X11_555 : decode b_X11 555 = .ok (.invokevirtual 64, 3) := by decide +kernel
theorem d_X11_558 : decode b_X11 558 = .ok (.goto 144, 3) := by decide +kernel
theorem d_X11_561 : decode b_X11 561 = .ok (.aload_n 0, 1) := by decide +kernel
theorem d_X11_562 : decode b_X11 562 = .ok (.iload_n 2, 1) := by decide +kernel
theorem d_X11_563 : decode b_X11 563 = .ok (.iload 5, 2) := by decide +kernel
theorem d_X11_565 : decode b_X11 565 = .ok (.iload 6, 2) := by decide +kernel
theorem d_X11_567 : decode b_X11 567 = .ok (.if_icmp .ne 7, 3) := by decide +kernel
theorem d_X11_570 : decode b_X11 570 = .ok (.iconst 1, 1) := by decide +kernel
theorem d_X11_571 : decode b_X11 571 = .ok (.goto 4, 3) := by decide +kernel
theorem d_X11_574 : decode b_X11 574 = .ok (.iconst 0, 1) := by decide +kernel
theorem d_X11_575 : decode b_X11 575 = .ok (.iload 5, 2) := by decide +kernel
theorem d_X11_577 : decode b_X11 577 = .ok (.iload 6, 2) := by decide +kernel
theorem d_X11_579 : decode b_X11 579 = .ok (.if_icmp .ne 15, 3) := by decide +kernel
theorem d_X11_582 : decode b_X11 582 = .ok (.iload 7, 2) := by decide +kernel
theorem d_X11_584 : decode b_X11 584 = .ok (.iload 8, 2) := by decide +kernel
theorem d_X11_586 : decode b_X11 586 = .ok (.ior, 1) := by decide +kernel
theorem d_X11_587 : decode b_X11 587 = .ok (.ifCond .ne 7, 3) := by decide +kernel
theorem d_X11_590 : decode b_X11 590 = .ok (.iconst 1, 1) := by decide +kernel
theorem d_X11_591 : decode b_X11 591 = .ok (.goto 4, 3) := by decide +kernel
theorem d_X11_594 : decode b_X11 594 = .ok (.iconst 0, 1) := by decide +kernel
theorem d_X11_595 : decode b_X11 595 = .ok (.iload 5, 2) := by decide +kernel
theorem d_X11_597 : decode b_X11 597 = .ok (.iload 6, 2) := by decide +kernel
theorem d_X11_599 : decode b_X11 599 = .ok (.ixor, 1) := by decide +kernel
theorem d_X11_600 : decode b_X11 600 = .ok (.iload 7, 2) := by decide +kernel
theorem d_X11_602 : decode b_X11 602 = .ok (.iconst (-1), 1) := by decide +kernel
theorem d_X11_603 : decode b_X11 603 = .ok (.ixor, 1) := by decide +kernel
theorem d_X11_604 : decode b_X11 604 = .ok (.iand, 1) := by decide +kernel
theorem d_X11_605 : decode b_X11 605 = .ok (.iload 8, 2) := by decide +kernel
theorem d_X11_607 : decode b_X11 607 = .ok (.iconst (-1), 1) := by decide +kernel
theorem d_X11_608 : decode b_X11 608 = .ok (.ixor, 1) := by decide +kernel
theorem d_X11_609 : decode b_X11 609 = .ok (.iand, 1) := by decide +kernel
theorem d_X11_610 : decode b_X11 610 = .ok (.ifCond .ne 7, 3) := by decide +kernel
theorem d_X11_613 : decode b_X11 613 = .ok (.iconst 1, 1) := by decide +kernel
theorem d_X11_614 : decode b_X11 614 = .ok (.goto 4, 3) := by decide +kernel
theorem d_X11_617 : decode b_X11 617 = .ok (.iconst 0, 1) := by decide +kernel
theorem d_X11_618 : decode b_X11 618 = .ok (.invokevirtual 64, 3) := by decide +kernel
theorem d_X11_621 : decode b_X11 621 = .ok (.goto 81, 3) := by decide +kernel
theorem d_X11_624 : decode b_X11 624 = .ok (.iload 6, 2) := by decide +kernel
theorem d_X11_626 : decode b_X11 626 = .ok (.iconst 1, 1) := by decide +kernel
theorem d_X11_627 : decode b_X11 627 = .ok (.iand, 1) := by decide +kernel
end
section
theorem d_X11_628 : decode b_X11 628 = .ok (.ifCond .eq 8, 3) := by decide +kernel
theorem d_X11_631 : decode b_X11 631 = .ok (.iload 5, 2) := by decide +kernel
theorem d_X11_633 : decode b_X11 633 = .ok (.goto 9, 3) := by decide +kernel
theorem d_X11_636 : decode b_X11 636 = .ok (.aload_n 0, 1) := by decide +kernel
theorem d_X11_637 : decode b_X11 637 = .ok (.getfield 9, 3) := by decide +kernel
theorem d_X11_640 : decode b_X11 640 = .ok (.iload_n 2, 1) := by decide +kernel
theorem d_X11_641 : decode b_X11 641 = .ok (.iaload, 1) := by decide +kernel
theorem d_X11_642 : decode b_X11 642 = .ok (.istore 11, 2) := by decide +kernel
theorem d_X11_644 : decode b_X11 644 = .ok (.iload 6, 2) := by decide +kernel
theorem d_X11_646 : decode b_X11 646 = .ok (.iconst 1, 1) := by decide +kernel
theorem d_X11_647 : decode b_X11 647 = .ok (.iand, 1) := by decide +kernel
theorem d_X11_648 : decode b_X11 648 = .ok (.ifCond .eq 8, 3) := by decide +kernel
theorem d_X11_651 : decode b_X11 651 = .ok (.iload 7, 2) := by decide +kernel
theorem d_X11_653 : decode b_X11 653 = .ok (.goto 9, 3) := by decide +kernel
theorem d_X11_656 : decode b_X11 656 = .ok (.aload_n 0, 1) := by decide +kernel
theorem d_X11_657 : decode b_X11 657 = .ok (.getfield 13, 3) := by decide +kernel
theorem d_X11_660 : decode b_X11 660 = .ok (.iload_n 2, 1) := by decide +kernel
theorem d_X11_661 : decode b_X11 661 = .ok (.iaload, 1) := by decide +kernel
theorem d_X11_662 : decode b_X11 662 = .ok (.istore 12, 2) := by decide +kernel
theorem d_X11_664 : decode b_X11 664 = .ok (.aload_n 0, 1) := by decide +kernel
theorem d_X11_665 : decode b_X11 665 = .ok (.iload_n 2, 1) := by decide +kernel
theorem d_X11_666 : decode b_X11 666 = .ok (.iload 11, 2) := by decide +kernel
theorem d_X11_668 : decode b_X11 668 = .ok (.iload 8, 2) := by decide +kernel
theorem d_X11_670 : decode b_X11 670 = .ok (.iconst 1, 1) := by decide +kernel
theorem d_X11_671 : decode b_X11 671 = .ok (.iand, 1) := by decide +kernel
theorem d_X11_672 : decode b_X11 672 = .ok (.ifCond .ne 8, 3) := by decide +kernel
theorem d_X11_675 : decode b_X11 675 = .ok (.iload 12, 2) := by decide +kernel
theorem d_X11_677 : decode b_X11 677 = .ok (.goto 22, 3) := by decide +kernel
theorem d_X11_680 : decode b_X11 680 = .ok (.iload 7, 2) := by decide +kernel
theorem d_X11_682 : decode b_X11 682 = .ok (.aload_n 0, 1) := by decide +kernel
theorem d_X11_683 : decode b_X11 683 = .ok (.getfield 13, 3) := by decide +kernel
theorem d_X11_686 : decode b_X11 686 = .ok (.iload_n 2, 1) := by decide +kernel
theorem d_X11_687 : decode b_X11 687 = .ok (.iaload, 1) := by decide +kernel
theorem d_X11_688 : decode b_X11 688 = .ok (.ior, 1) := by decide +kernel
theorem d_X11_689 : decode b_X11 689 = .ok (.iload 5, 2) := by decide +kernel
theorem d_X11_691 : decode b_X11 691 = .ok (.aload_n 0, 1) := by decide +kernel
theorem d_X11_692 : decode b_X11 692 = .ok (.getfield 9, 3) := by decide +kernel
theorem d_X11_695 : decode b_X11 695 = .ok (.iload_n 2, 1) := by decide +kernel
theorem d_X11_696 : decode b_X11 696 = .ok (.iaload, 1) := by decide +kernel
theorem d_X11_697 : decode b_X11 697 = .ok (.ixor, 1) := by decide +kernel
theorem d_X11_698 : decode b_X11 698 = .ok (.ior, 1) := by decide +kernel
theorem d_X11_699 : decode b_X11 699 = .ok (.invokevirtual 44, 3) := by decide +kernel
theorem d_X11_702 : decode b_X11 702 = .ok (.return_, 1) := by decide +kernel
end
section
theorem d_M14_0 : decode b_M14 0 = .ok (.aload_n 0, 1) := by decide +kernel
theorem d_M14_1 : decode b_M14 1 = .ok (.iload_n 1, 1) := by decide +kernel
theorem d_M14_2 : decode b_M14 2 = .ok (.ifCond .lt 9, 3) := by decide +kernel
theorem d_M14_5 : decode b_M14 5 = .ok (.iload_n 1, 1) := by decide +kernel
theorem d_M14_6 : decode b_M14 6 = .ok (.bipush 12, 2) := by decide +kernel
theorem d_M14_8 : decode b_M14 8 = .ok (.if_icmp .le 7, 3) := by decide +kernel
theorem d_M14_11 : decode b_M14 11 = .ok (.iconst 1, 1) := by decide +kernel
theorem d_M14_12 : decode b_M14 12 = .ok (.goto 4, 3) := by decide +kernel
theorem d_M14_15 : decode b_M14 15 = .ok (.iconst 0, 1) := by decide +kernel
theorem d_M14_16 : decode b_M14 16 = .ok (.iconst 1, 1) := by decide +kernel
theorem d_M14_17 : decode b_M14 17 = .ok (.invokevirtual 36, 3) := by decide +kernel
theorem d_M14_20 : decode b_M14 20 = .ok (.ifCond .eq 4, 3) := by decide +kernel
theorem d_M14_23 : decode b_M14 23 = .ok (.return_, 1) := by decide +kernel
theorem d_M14_24 : decode b_M14 24 = .ok (.aload_n 0, 1) := by decide +kernel
theorem d_M14_25 : decode b_M14 25 = .ok (.iload_n 2, 1) := by decide +kernel
theorem d_M14_26 : decode b_M14 26 = .ok (.invokestatic 32, 3) := by decide +kernel
theorem d_M14_29 : decode b_M14 29 = .ok (.ifCond .ne 18, 3) := by decide +kernel
theorem d_M14_32 : decode b_M14 32 = .ok (.iload_n 3, 1) := by decide +kernel
theorem d_M14_33 : decode b_M14 33 = .ok (.invokestatic 32, 3) := by decide +kernel
theorem d_M14_36 : decode b_M14 36 = .ok (.ifCond .ne 11, 3) := by decide +kernel
theorem d_M14_39 : decode b_M14 39 = .ok (.iload 4, 2) := by decide +kernel
theorem d_M14_41 : decode b_M14 41 = .ok (.invokestatic 32, 3) := by decide +kernel
theorem d_M14_44 : decode b_M14 44 = .ok (.ifCond .eq 7, 3) := by decide +kernel
theorem d_M14_47 : decode b_M14 47 = .ok (.iconst 1, 1) := by decide +kernel
theorem d_M14_48 : decode b_M14 48 = .ok (.goto 4, 3) := by decide +kernel
theorem d_M14_51 : decode b_M14 51 = .ok (.iconst 0, 1) := by decide +kernel
theorem d_M14_52 : decode b_M14 52 = .ok (.iconst 2, 1) := by decide +kernel
theorem d_M14_53 : decode b_M14 53 = .ok (.invokevirtual 36, 3) := by decide +kernel
theorem d_M14_56 : decode b_M14 56 = .ok (.ifCond .eq 4, 3) := by decide +kernel
theorem d_M14_59 : decode b_M14 59 = .ok (.return_, 1) := by decide +kernel
theorem d_M14_60 : decode b_M14 60 = .ok (.aload_n 0, 1) := by decide +kernel
theorem d_M14_61 : decode b_M14 61 = .ok (.iload_n 3, 1) := by decide +kernel
theorem d_M14_62 : decode b_M14 62 = .ok (.invokevirtual 54, 3) := by decide +kernel
theorem d_M14_65 : decode b_M14 65 = .ok (.istore 5, 2) := by decide +kernel
theorem d_M14_67 : decode b_M14 67 = .ok (.aload_n 0, 1) := by decide +kernel
theorem d_M14_68 : decode b_M14 68 = .ok (.iload 4, 2) := by decide +kernel
theorem d_M14_70 : decode b_M14 70 = .ok (.invokevirtual 54, 3) := by decide +kernel
theorem d_M14_73 : decode b_M14 73 = .ok (.istore 6, 2) := by decide +kernel
theorem d_M14_75 : decode b_M14 75 = .ok (.aload_n 0, 1) := by decide +kernel
theorem d_M14_76 : decode b_M14 76 = .ok (.iload_n 3, 1) := by decide +kernel
theorem d_M14_77 : decode b_M14 77 = .ok (.invokevirtual 58, 3) := by decide +kernel
theorem d_M14_80 : decode b_M14 80 = .ok (.aload_n 0, 1) := by decide +kernel
theorem d_M14_81 : decode b_M14 81 = .ok (.iload 4, 2) := by decide +kernel
theorem d_M14_83 : decode b_M14 83 = .ok (.invokevirtual 58, 3) := by decide +kernel
theorem d_M14_86 : decode b_M14 86 = .ok (.if_icmp .ge 11, 3) := by decide +kernel
theorem d_M14_89 : decode b_M14 89 = .ok (.aload_n 0, 1) := by decide +kernel
theorem d_M14_90 : decode b_M14 90 = .ok (.iload_n 3, 1) := by decide +kernel
theorem d_M14_91 : decode b_M14 91 = .ok (.invokevirtual 58, 3) := by decide +kernel
theorem d_M14_94 : decode b_M14 94 = .ok (.goto 9, 3) := by decide +kernel
theorem d_M14_97 : decode b_M14 97 = .ok (.aload_n 0, 1) := by decide +kernel
theorem d_M14_98 : decode b_M14 98 = .ok (.iload 4, 2) := by decide +kernel
theorem d_M14_100 : decode b_M14 100 = .ok (.invokevirtual 58, 3) := by decide +kernel
theorem d_M14_103 : decode b_M14 103 = .ok (.istore 7, 2) := by decide +kernel
theorem d_M14_105 : decode b_M14 105 = .ok (.iload_n 1, 1) := by decide +kernel
theorem d_M14_106 : decode b_M14 106 = .ok (.tableswitch 664 0 11 #[62, 80, 98, 98, 98, 281, 281, 281, 297, 407, 475, 554], 62) := by decide +kernel
theorem d_M14_168 : decode b_M14 168 = .ok (.aload_n 0, 1) := by decide +kernel
theorem d_M14_169 : decode b_M14 169 = .ok (.iload 5, 2) := by decide +kernel
theorem d_M14_171 : decode b_M14 171 = .ok (.iload 6, 2) := by decide +kernel
theorem d_M14_173 : decode b_M14 173 = .ok (.iadd, 1) := by decide +kernel
theorem d_M14_174 : decode b_M14 174 = .ok (.invokevirtual 40, 3) := by decide +kernel
end
section
theorem d_M14_177 : decode b_M14 177 = .ok (.aload_n 0, 1) := by decide +kernel
theorem d_M14_178 : decode b_M14 178 = .ok (.iload 7, 2) := by decide +kernel
theorem d_M14_180 : decode b_M14 180 = .ok (.invokevirtual 61, 3) := by decide +kernel
theorem d_M14_183 : decode b_M14 183 = .ok (.goto 595, 3) := by decide +kernel
theorem d_M14_186 : decode b_M14 186 = .ok (.aload_n 0, 1) := by decide +kernel
theorem d_M14_187 : decode b_M14 187 = .ok (.iload 5, 2) := by decide +kernel
theorem d_M14_189 : decode b_M14 189 = .ok (.iload 6, 2) := by decide +kernel
theorem d_M14_191 : decode b_M14 191 = .ok (.isub, 1) := by decide +kernel
theorem d_M14_192 : decode b_M14 192 = .ok (.invokevirtual 40, 3) := by decide +kernel
theorem d_M14_195 : decode b_M14 195 = .ok (.aload_n 0, 1) := by decide +kernel
theorem d_M14_196 : decode b_M14 196 = .ok (.iload 7, 2) := by decide +kernel
theorem d_M14_198 : decode b_M14 198 = .ok (.invokevirtual 61, 3) := by decide +kernel
theorem d_M14_201 : decode b_M14 201 = .ok (.goto 577, 3) := by decide +kernel
theorem d_M14_204 : decode b_M14 204 = .ok (.aload_n 0, 1) := by decide +kernel
theorem d_M14_205 : decode b_M14 205 = .ok (.iload_n 1, 1) := by decide +kernel
theorem d_M14_206 : decode b_M14 206 = .ok (.iconst 2, 1) := by decide +kernel
theorem d_M14_207 : decode b_M14 207 = .ok (.if_icmp .ne 11, 3) := by decide +kernel
theorem d_M14_210 : decode b_M14 210 = .ok (.iload 5, 2) := by decide +kernel
theorem d_M14_212 : decode b_M14 212 = .ok (.iload 6, 2) := by decide +kernel
theorem d_M14_214 : decode b_M14 214 = .ok (.iand, 1) := by decide +kernel
theorem d_M14_215 : decode b_M14 215 = .ok (.goto 21, 3) := by decide +kernel
theorem d_M14_218 : decode b_M14 218 = .ok (.iload_n 1, 1) := by decide +kernel
theorem d_M14_219 : decode b_M14 219 = .ok (.iconst 3, 1) := by decide +kernel
theorem d_M14_220 : decode b_M14 220 = .ok (.if_icmp .ne 11, 3) := by decide +kernel
theorem d_M14_223 : decode b_M14 223 = .ok (.iload 5, 2) := by decide +kernel
theorem d_M14_225 : decode b_M14 225 = .ok (.iload 6, 2) := by decide +kernel
theorem d_M14_227 : decode b_M14 227 = .ok (.ior, 1) := by decide +kernel
theorem d_M14_228 : decode b_M14 228 = .ok (.goto 8, 3) := by decide +kernel
theorem d_M14_231 : decode b_M14 231 = .ok (.iload 5, 2) := by decide +kernel
theorem d_M14_233 : decode b_M14 233 = .ok (.iload 6, 2) := by decide +kernel
theorem d_M14_235 : decode b_M14 235 = .ok (.ixor, 1) := by decide +kernel
theorem d_M14_236 : decode b_M14 236 = .ok (.invokevirtual 40, 3) := by decide +kernel
theorem d_M14_239 : decode b_M14 239 = .ok (.iconst 0, 1) := by decide +kernel
theorem d_M14_240 : decode b_M14 240 = .ok (.istore 8, 2) := by decide +kernel
theorem d_M14_242 : decode b_M14 242 = .ok (.iload 8, 2) := by decide +kernel
theorem d_M14_244 : decode b_M14 244 = .ok (.bipush 32, 2) := by decide +kernel
theorem d_M14_246 : decode b_M14 246 = .ok (.if_icmp .ge 138, 3) := by decide +kernel
theorem d_M14_249 : decode b_M14 249 = .ok (.iload_n 1, 1) := by decide +kernel
theorem d_M14_250 : decode b_M14 250 = .ok (.iconst 4, 1) := by decide +kernel
theorem d_M14_251 : decode b_M14 251 = .ok (.if_icmp .ge 37, 3) := by decide +kernel
theorem d_M14_254 : decode b_M14 254 = .ok (.aload_n 0, 1) := by decide +kernel
theorem d_M14_255 : decode b_M14 255 = .ok (.iload_n 3, 1) := by decide +kernel
theorem d_M14_256 : decode b_M14 256 = .ok (.iload 8, 2) := by decide +kernel
theorem d_M14_258 : decode b_M14 258 = .ok (.invokevirtual 47, 3) := by decide +kernel
theorem d_M14_261 : decode b_M14 261 = .ok (.ifCond .ne 27, 3) := by decide +kernel
theorem d_M14_264 : decode b_M14 264 = .ok (.aload_n 0, 1) := by decide +kernel
theorem d_M14_265 : decode b_M14 265 = .ok (.iload_n 3, 1) := by decide +kernel
theorem d_M14_266 : decode b_M14 266 = .ok (.iload 8, 2) := by decide +kernel
theorem d_M14_268 : decode b_M14 268 = .ok (.invokevirtual 51, 3) := by decide +kernel
theorem d_M14_271 : decode b_M14 271 = .ok (.iload_n 1, 1) := by decide +kernel
theorem d_M14_272 : decode b_M14 272 = .ok (.iconst 3, 1) := by decide +kernel
theorem d_M14_273 : decode b_M14 273 = .ok (.if_icmp .ne 7, 3) := by decide +kernel
theorem d_M14_276 : decode b_M14 276 = .ok (.iconst 1, 1) := by decide +kernel
theorem d_M14_277 : decode b_M14 277 = .ok (.goto 4, 3) := by decide +kernel
theorem d_M14_280 : decode b_M14 280 = .ok (.iconst 0, 1) := by decide +kernel
theorem d_M14_281 : decode b_M14 281 = .ok (.if_icmp .ne 7, 3) := by decide +kernel
theorem d_M14_284 : decode b_M14 284 = .ok (.iconst 1, 1) := by decide +kernel
theorem d_M14_285 : decode b_M14 285 = .ok (.goto 4, 3) := by decide +kernel
theorem d_M14_288 : decode b_M14 288 = .ok (.iconst 0, 1) := by decide +kernel
theorem d_M14_289 : decode b_M14 289 = .ok (.istore 9, 2) := by decide +kernel
end
section
theorem d_M14_291 : decode b_M14 291 = .ok (.iload_n 1, 1) := by decide +kernel
theorem d_M14_292 : decode b_M14 292 = .ok (.iconst 4, 1) := by decide +kernel
theorem d_M14_293 : decode b_M14 293 = .ok (.if_icmp .ge 39, 3) := by decide +kernel
theorem d_M14_296 : decode b_M14 296 = .ok (.aload_n 0, 1) := by decide +kernel
theorem d_M14_297 : decode b_M14 297 = .ok (.iload 4, 2) := by decide +kernel
theorem d_M14_299 : decode b_M14 299 = .ok (.iload 8, 2) := by decide +kernel
theorem d_M14_301 : decode b_M14 301 = .ok (.invokevirtual 47, 3) := by decide +kernel
theorem d_M14_304 : decode b_M14 304 = .ok (.ifCond .ne 28, 3) := by decide +kernel
theorem d_M14_307 : decode b_M14 307 = .ok (.aload_n 0, 1) := by decide +kernel
theorem d_M14_308 : decode b_M14 308 = .ok (.iload 4, 2) := by decide +kernel
theorem d_M14_310 : decode b_M14 310 = .ok (.iload 8, 2) := by decide +kernel
theorem d_M14_312 : decode b_M14 312 = .ok (.invokevirtual 51, 3) := by decide +kernel
theorem d_M14_315 : decode b_M14 315 = .ok (.iload_n 1, 1) := by decide +kernel
theorem d_M14_316 : decode b_M14 316 = .ok (.iconst 3, 1) := by decide +kernel
theorem d_M14_317 : decode b_M14 317 = .ok (.if_icmp .ne 7, 3) := by decide +kernel
theorem d_M14_320 : decode b_M14 320 = .ok (.iconst 1, 1) := by decide +kernel
theorem d_M14_321 : decode b_M14 321 = .ok (.goto 4, 3) := by decide +kernel
theorem d_M14_324 : decode b_M14 324 = .ok (.iconst 0, 1) := by decide +kernel
theorem d_M14_325 : decode b_M14 325 = .ok (.if_icmp .ne 7, 3) := by decide +kernel
theorem d_M14_328 : decode b_M14 328 = .ok (.iconst 1, 1) := by decide +kernel
theorem d_M14_329 : decode b_M14 329 = .ok (.goto 4, 3) := by decide +kernel
theorem d_M14_332 : decode b_M14 332 = .ok (.iconst 0, 1) := by decide +kernel
theorem d_M14_333 : decode b_M14 333 = .ok (.istore 10, 2) := by decide +kernel
theorem d_M14_335 : decode b_M14 335 = .ok (.aload_n 0, 1) := by decide +kernel
theorem d_M14_336 : decode b_M14 336 = .ok (.getfield 25, 3) := by decide +kernel
theorem d_M14_339 : decode b_M14 339 = .ok (.iload 8, 2) := by decide +kernel
theorem d_M14_341 : decode b_M14 341 = .ok (.aload_n 0, 1) := by decide +kernel
theorem d_M14_342 : decode b_M14 342 = .ok (.iload_n 3, 1) := by decide +kernel
theorem d_M14_343 : decode b_M14 343 = .ok (.iload 8, 2) := by decide +kernel
theorem d_M14_345 : decode b_M14 345 = .ok (.invokevirtual 47, 3) := by decide +kernel
theorem d_M14_348 : decode b_M14 348 = .ok (.ifCond .ne 14, 3) := by decide +kernel
theorem d_M14_351 : decode b_M14 351 = .ok (.aload_n 0, 1) := by decide +kernel
theorem d_M14_352 : decode b_M14 352 = .ok (.iload 4, 2) := by decide +kernel
theorem d_M14_354 : decode b_M14 354 = .ok (.iload 8, 2) := by decide +kernel
theorem d_M14_356 : decode b_M14 356 = .ok (.invokevirtual 47, 3) := by decide +kernel
theorem d_M14_359 : decode b_M14 359 = .ok (.ifCond .eq 17, 3) := by decide +kernel
theorem d_M14_362 : decode b_M14 362 = .ok (.iload 9, 2) := by decide +kernel
theorem d_M14_364 : decode b_M14 364 = .ok (.ifCond .ne 12, 3) := by decide +kernel
theorem d_M14_367 : decode b_M14 367 = .ok (.iload 10, 2) := by decide +kernel
theorem d_M14_369 : decode b_M14 369 = .ok (.ifCond .ne 7, 3) := by decide +kernel
theorem d_M14_372 : decode b_M14 372 = .ok (.iconst 1, 1) := by decide +kernel
theorem d_M14_373 : decode b_M14 373 = .ok (.goto 4, 3) := by decide +kernel
theorem d_M14_376 : decode b_M14 376 = .ok (.iconst 0, 1) := by decide +kernel
theorem d_M14_377 : decode b_M14 377 = .ok (.bastore, 1) := by decide +kernel
theorem d_M14_378 : decode b_M14 378 = .ok (.iinc 8 1, 3) := by decide +kernel
theorem d_M14_381 : decode b_M14 381 = .ok (.goto (-139), 3) := by decide +kernel
theorem d_M14_384 : decode b_M14 384 = .ok (.goto 394, 3) := by decide +kernel
theorem d_M14_387 : decode b_M14 387 = .ok (.aload_n 0, 1) := by decide +kernel
theorem d_M14_388 : decode b_M14 388 = .ok (.iload_n 1, 1) := by decide +kernel
theorem d_M14_389 : decode b_M14 389 = .ok (.iload_n 3, 1) := by decide +kernel
theorem d_M14_390 : decode b_M14 390 = .ok (.iload 4, 2) := by decide +kernel
theorem d_M14_392 : decode b_M14 392 = .ok (.iload 6, 2) := by decide +kernel
theorem d_M14_394 : decode b_M14 394 = .ok (.bipush 31, 2) := by decide +kernel
theorem d_M14_396 : decode b_M14 396 = .ok (.iand, 1) := by decide +kernel
theorem d_M14_397 : decode b_M14 397 = .ok (.invokevirtual 64, 3) := by decide +kernel
theorem d_M14_400 : decode b_M14 400 = .ok (.goto 378, 3) := by decide +kernel
theorem d_M14_403 : decode b_M14 403 = .ok (.aload_n 0, 1) := by decide +kernel
theorem d_M14_404 : decode b_M14 404 = .ok (.iload 5, 2) := by decide +kernel
theorem d_M14_406 : decode b_M14 406 = .ok (.iload 6, 2) := by decide +kernel
theorem d_M14_408 : decode b_M14 408 = .ok (.imul, 1) := by decide +kernel
end
section
theorem d_M14_409 : decode b_M14 409 = .ok (.invokevirtual 40, 3) := by decide +kernel
theorem d_M14_412 : decode b_M14 412 = .ok (.aload_n 0, 1) := by decide +kernel
theorem d_M14_413 : decode b_M14 413 = .ok (.iload_n 3, 1) := by decide +kernel
theorem d_M14_414 : decode b_M14 414 = .ok (.invokevirtual 58, 3) := by decide +kernel
theorem d_M14_417 : decode b_M14 417 = .ok (.bipush 32, 2) := by decide +kernel
theorem d_M14_419 : decode b_M14 419 = .ok (.if_icmp .eq 14, 3) := by decide +kernel
theorem d_M14_422 : decode b_M14 422 = .ok (.aload_n 0, 1) := by decide +kernel
theorem d_M14_423 : decode b_M14 423 = .ok (.iload 4, 2) := by decide +kernel
theorem d_M14_425 : decode b_M14 425 = .ok (.invokevirtual 68, 3) := by decide +kernel
theorem d_M14_428 : decode b_M14 428 = .ok (.bipush 32, 2) := by decide +kernel
theorem d_M14_430 : decode b_M14 430 = .ok (.if_icmp .ne 8, 3) := by decide +kernel
theorem d_M14_433 : decode b_M14 433 = .ok (.bipush 32, 2) := by decide +kernel
theorem d_M14_435 : decode b_M14 435 = .ok (.goto 15, 3) := by decide +kernel
theorem d_M14_438 : decode b_M14 438 = .ok (.aload_n 0, 1) := by decide +kernel
theorem d_M14_439 : decode b_M14 439 = .ok (.iload_n 3, 1) := by decide +kernel
theorem d_M14_440 : decode b_M14 440 = .ok (.invokevirtual 58, 3) := by decide +kernel
theorem d_M14_443 : decode b_M14 443 = .ok (.aload_n 0, 1) := by decide +kernel
theorem d_M14_444 : decode b_M14 444 = .ok (.iload 4, 2) := by decide +kernel
theorem d_M14_446 : decode b_M14 446 = .ok (.invokevirtual 68, 3) := by decide +kernel
theorem d_M14_449 : decode b_M14 449 = .ok (.iadd, 1) := by decide +kernel
theorem d_M14_450 : decode b_M14 450 = .ok (.istore 8, 2) := by decide +kernel
theorem d_M14_452 : decode b_M14 452 = .ok (.aload_n 0, 1) := by decide +kernel
theorem d_M14_453 : decode b_M14 453 = .ok (.iload 4, 2) := by decide +kernel
theorem d_M14_455 : decode b_M14 455 = .ok (.invokevirtual 58, 3) := by decide +kernel
theorem d_M14_458 : decode b_M14 458 = .ok (.bipush 32, 2) := by decide +kernel
theorem d_M14_460 : decode b_M14 460 = .ok (.if_icmp .eq 13, 3) := by decide +kernel
theorem d_M14_463 : decode b_M14 463 = .ok (.aload_n 0, 1) := by decide +kernel
theorem d_M14_464 : decode b_M14 464 = .ok (.iload_n 3, 1) := by decide +kernel
theorem d_M14_465 : decode b_M14 465 = .ok (.invokevirtual 68, 3) := by decide +kernel
theorem d_M14_468 : decode b_M14 468 = .ok (.bipush 32, 2) := by decide +kernel
theorem d_M14_470 : decode b_M14 470 = .ok (.if_icmp .ne 8, 3) := by decide +kernel
theorem d_M14_473 : decode b_M14 473 = .ok (.bipush 32, 2) := by decide +kernel
theorem d_M14_475 : decode b_M14 475 = .ok (.goto 15, 3) := by decide +kernel
theorem d_M14_478 : decode b_M14 478 = .ok (.aload_n 0, 1) := by decide +kernel
theorem d_M14_479 : decode b_M14 479 = .ok (.iload 4, 2) := by decide +kernel
theorem d_M14_481 : decode b_M14 481 = .ok (.invokevirtual 58, 3) := by decide +kernel
theorem d_M14_484 : decode b_M14 484 = .ok (.aload_n 0, 1) := by decide +kernel
theorem d_M14_485 : decode b_M14 485 = .ok (.iload_n 3, 1) := by decide +kernel
theorem d_M14_486 : decode b_M14 486 = .ok (.invokevirtual 68, 3) := by decide +kernel
theorem d_M14_489 : decode b_M14 489 = .ok (.iadd, 1) := by decide +kernel
theorem d_M14_490 : decode b_M14 490 = .ok (.istore 9, 2) := by decide +kernel
theorem d_M14_492 : decode b_M14 492 = .ok (.aload_n 0, 1) := by decide +kernel
theorem d_M14_493 : decode b_M14 493 = .ok (.iload 8, 2) := by decide +kernel
theorem d_M14_495 : decode b_M14 495 = .ok (.iload 9, 2) := by decide +kernel
theorem d_M14_497 : decode b_M14 497 = .ok (.if_icmp .ge 8, 3) := by decide +kernel
theorem d_M14_500 : decode b_M14 500 = .ok (.iload 8, 2) := by decide +kernel
theorem d_M14_502 : decode b_M14 502 = .ok (.goto 5, 3) := by decide +kernel
theorem d_M14_505 : decode b_M14 505 = .ok (.iload 9, 2) := by decide +kernel
theorem d_M14_507 : decode b_M14 507 = .ok (.invokevirtual 61, 3) := by decide +kernel
theorem d_M14_510 : decode b_M14 510 = .ok (.goto 268, 3) := by decide +kernel
theorem d_M14_513 : decode b_M14 513 = .ok (.aload_n 0, 1) := by decide +kernel
theorem d_M14_514 : decode b_M14 514 = .ok (.iload 5, 2) := by decide +kernel
theorem d_M14_516 : decode b_M14 516 = .ok (.iload 6, 2) := by decide +kernel
theorem d_M14_518 : decode b_M14 518 = .ok (.if_icmp .ge 7, 3) := by decide +kernel
theorem d_M14_521 : decode b_M14 521 = .ok (.iconst 1, 1) := by decide +kernel
theorem d_M14_522 : decode b_M14 522 = .ok (.goto 4, 3) := by decide +kernel
theorem d_M14_525 : decode b_M14 525 = .ok (.iconst 0, 1) := by decide +kernel
theorem d_M14_526 : decode b_M14 526 = .ok (.invokevirtual 40, 3) := by decide +kernel
theorem d_M14_529 : decode b_M14 529 = .ok (.aload_n 0, 1) := by decide +kernel
theorem d_M14_530 : decode b_M14 530 = .ok (.getfield 25, 3) := by decide +kernel
end
section
theorem d_M14_533 : decode b_M14 533 = .ok (.iconst 0, 1) := by decide +kernel
theorem d_M14_534 : decode b_M14 534 = .ok (.aload_n 0, 1) := by decide +kernel
theorem d_M14_535 : decode b_M14 535 = .ok (.iload_n 3, 1) := by decide +kernel
theorem d_M14_536 : decode b_M14 536 = .ok (.iconst 1, 1) := by decide +kernel
theorem d_M14_537 : decode b_M14 537 = .ok (.iconst 1, 1) := by decide +kernel
theorem d_M14_538 : decode b_M14 538 = .ok (.invokevirtual 71, 3) := by decide +kernel
theorem d_M14_541 : decode b_M14 541 = .ok (.aload_n 0, 1) := by decide +kernel
theorem d_M14_542 : decode b_M14 542 = .ok (.iload 4, 2) := by decide +kernel
theorem d_M14_544 : decode b_M14 544 = .ok (.iconst 0, 1) := by decide +kernel
theorem d_M14_545 : decode b_M14 545 = .ok (.iconst 1, 1) := by decide +kernel
theorem d_M14_546 : decode b_M14 546 = .ok (.invokevirtual 71, 3) := by decide +kernel
theorem d_M14_549 : decode b_M14 549 = .ok (.lcmp, 1) := by decide +kernel
theorem d_M14_550 : decode b_M14 550 = .ok (.ifCond .lt 26, 3) := by decide +kernel
theorem d_M14_553 : decode b_M14 553 = .ok (.aload_n 0, 1) := by decide +kernel
theorem d_M14_554 : decode b_M14 554 = .ok (.iload_n 3, 1) := by decide +kernel
theorem d_M14_555 : decode b_M14 555 = .ok (.iconst 0, 1) := by decide +kernel
theorem d_M14_556 : decode b_M14 556 = .ok (.iconst 1, 1) := by decide +kernel
theorem d_M14_557 : decode b_M14 557 = .ok (.invokevirtual 71, 3) := by decide +kernel
theorem d_M14_560 : decode b_M14 560 = .ok (.aload_n 0, 1) := by decide +kernel
theorem d_M14_561 : decode b_M14 561 = .ok (.iload 4, 2) := by decide +kernel
theorem d_M14_563 : decode b_M14 563 = .ok (.iconst 1, 1) := by decide +kernel
theorem d_M14_564 : decode b_M14 564 = .ok (.iconst 1, 1) := by decide +kernel
theorem d_M14_565 : decode b_M14 565 = .ok (.invokevirtual 71, 3) := by decide +kernel
theorem d_M14_568 : decode b_M14 568 = .ok (.lcmp, 1) := by decide +kernel
theorem d_M14_569 : decode b_M14 569 = .ok (.ifCond .ge 7, 3) := by decide +kernel
theorem d_M14_572 : decode b_M14 572 = .ok (.iconst 1, 1) := by decide +kernel
theorem d_M14_573 : decode b_M14 573 = .ok (.goto 4, 3) := by decide +kernel
theorem d_M14_576 : decode b_M14 576 = .ok (.iconst 0, 1) := by decide +kernel
theorem d_M14_577 : decode b_M14 577 = .ok (.bastore, 1) := by decide +kernel
theorem d_M14_578 : decode b_M14 578 = .ok (.goto 200, 3) := by decide +kernel
theorem d_M14_581 : decode b_M14 581 = .ok (.aload_n 0, 1) := by decide +kernel
theorem d_M14_582 : decode b_M14 582 = .ok (.iload 5, 2) := by decide +kernel
theorem d_M14_584 : decode b_M14 584 = .ok (.i2l, 1) := by decide +kernel
theorem d_M14_585 : decode b_M14 585 = .ok (.ldc2_w 75, 3) := by decide +kernel
theorem d_M14_588 : decode b_M14 588 = .ok (.land, 1) := by decide +kernel
theorem d_M14_589 : decode b_M14 589 = .ok (.iload 6, 2) := by decide +kernel
theorem d_M14_591 : decode b_M14 591 = .ok (.i2l, 1) := by decide +kernel
theorem d_M14_592 : decode b_M14 592 = .ok (.ldc2_w 75, 3) := by decide +kernel
theorem d_M14_595 : decode b_M14 595 = .ok (.land, 1) := by decide +kernel
theorem d_M14_596 : decode b_M14 596 = .ok (.lcmp, 1) := by decide +kernel
theorem d_M14_597 : decode b_M14 597 = .ok (.ifCond .ge 7, 3) := by decide +kernel
theorem d_M14_600 : decode b_M14 600 = .ok (.iconst 1, 1) := by decide +kernel
theorem d_M14_601 : decode b_M14 601 = .ok (.goto 4, 3) := by decide +kernel
theorem d_M14_604 : decode b_M14 604 = .ok (.iconst 0, 1) := by decide +kernel
theorem d_M14_605 : decode b_M14 605 = .ok (.invokevirtual 40, 3) := by decide +kernel
theorem d_M14_608 : decode b_M14 608 = .ok (.aload_n 0, 1) := by decide +kernel
theorem d_M14_609 : decode b_M14 609 = .ok (.getfield 25, 3) := by decide +kernel
theorem d_M14_612 : decode b_M14 612 = .ok (.iconst 0, 1) := by decide +kernel
theorem d_M14_613 : decode b_M14 613 = .ok (.aload_n 0, 1) := by decide +kernel
theorem d_M14_614 : decode b_M14 614 = .ok (.iload_n 3, 1) := by decide +kernel
theorem d_M14_615 : decode b_M14 615 = .ok (.iconst 1, 1) := by decide +kernel
theorem d_M14_616 : decode b_M14 616 = .ok (.iconst 0, 1) := by decide +kernel
theorem d_M14_617 : decode b_M14 617 = .ok (.invokevirtual 71, 3) := by decide +kernel
theorem d_M14_620 : decode b_M14 620 = .ok (.aload_n 0, 1) := by decide +kernel
theorem d_M14_621 : decode b_M14 621 = .ok (.iload 4, 2) := by decide +kernel
theorem d_M14_623 : decode b_M14 623 = .ok (.iconst 0, 1) := by decide +kernel
theorem d_M14_624 : decode b_M14 624 = .ok (.iconst 0, 1) := by decide +kernel
theorem d_M14_625 : decode b_M14 625 = .ok (.invokevirtual 71, 3) := by decide +kernel
theorem d_M14_628 : decode b_M14 628 = .ok (.lcmp, 1) := by decide +kernel
theorem d_M14_629 : decode b_M14 629 = .ok (.ifCond .lt 26, 3) := by decide +kernel
end
section
theorem d_M14_632 : decode b_M14 632 = .ok (.aload_n 0, 1) := by decide +kernel
theorem d_M14_633 : decode b_M14 633 = .ok (.iload_n 3, 1) := by decide +kernel
theorem d_M14_634 : decode b_M14 634 = .ok (.iconst 0, 1) := by decide +kernel
theorem d_M14_635 : decode b_M14 635 = .ok (.iconst 0, 1) := by decide +kernel
theorem d_M14_636 : decode b_M14 636 = .ok (.invokevirtual 71, 3) := by decide +kernel
theorem d_M14_639 : decode b_M14 639 = .ok (.aload_n 0, 1) := by decide +kernel
theorem d_M14_640 : decode b_M14 640 = .ok (.iload 4, 2) := by decide +kernel
theorem d_M14_642 : decode b_M14 642 = .ok (.iconst 1, 1) := by decide +kernel
theorem d_M14_643 : decode b_M14 643 = .ok (.iconst 0, 1) := by decide +kernel
theorem d_M14_644 : decode b_M14 644 = .ok (.invokevirtual 71, 3) := by decide +kernel
theorem d_M14_647 : decode b_M14 647 = .ok (.lcmp, 1) := by decide +kernel
theorem d_M14_648 : decode b_M14 648 = .ok (.ifCond .ge 7, 3) := by decide +kernel
theorem d_M14_651 : decode b_M14 651 = .ok (.iconst 1, 1) := by decide +kernel
theorem d_M14_652 : decode b_M14 652 = .ok (.goto 4, 3) := by decide +kernel
theorem d_M14_655 : decode b_M14 655 = .ok (.iconst 0, 1) := by decide +kernel
theorem d_M14_656 : decode b_M14 656 = .ok (.bastore, 1) := by decide +kernel
theorem d_M14_657 : decode b_M14 657 = .ok (.goto 121, 3) := by decide +kernel
theorem d_M14_660 : decode b_M14 660 = .ok (.aload_n 0, 1) := by decide +kernel
theorem d_M14_661 : decode b_M14 661 = .ok (.iload 5, 2) := by decide +kernel
theorem d_M14_663 : decode b_M14 663 = .ok (.iload 6, 2) := by decide +kernel
theorem d_M14_665 : decode b_M14 665 = .ok (.if_icmp .ne 7, 3) := by decide +kernel
theorem d_M14_668 : decode b_M14 668 = .ok (.iconst 1, 1) := by decide +kernel
theorem d_M14_669 : decode b_M14 669 = .ok (.goto 4, 3) := by decide +kernel
theorem d_M14_672 : decode b_M14 672 = .ok (.iconst 0, 1) := by decide +kernel
theorem d_M14_673 : decode b_M14 673 = .ok (.invokevirtual 40, 3) := by decide +kernel
theorem d_M14_676 : decode b_M14 676 = .ok (.iconst 0, 1) := by decide +kernel
theorem d_M14_677 : decode b_M14 677 = .ok (.istore 8, 2) := by decide +kernel
theorem d_M14_679 : decode b_M14 679 = .ok (.iconst 1, 1) := by decide +kernel
theorem d_M14_680 : decode b_M14 680 = .ok (.istore 9, 2) := by decide +kernel
theorem d_M14_682 : decode b_M14 682 = .ok (.iconst 0, 1) := by decide +kernel
theorem d_M14_683 : decode b_M14 683 = .ok (.istore 10, 2) := by decide +kernel
theorem d_M14_685 : decode b_M14 685 = .ok (.iload 10, 2) := by decide +kernel
theorem d_M14_687 : decode b_M14 687 = .ok (.bipush 32, 2) := by decide +kernel
theorem d_M14_689 : decode b_M14 689 = .ok (.if_icmp .ge 57, 3) := by decide +kernel
theorem d_M14_692 : decode b_M14 692 = .ok (.aload_n 0, 1) := by decide +kernel
theorem d_M14_693 : decode b_M14 693 = .ok (.iload_n 3, 1) := by decide +kernel
theorem d_M14_694 : decode b_M14 694 = .ok (.iload 10, 2) := by decide +kernel
theorem d_M14_696 : decode b_M14 696 = .ok (.invokevirtual 47, 3) := by decide +kernel
theorem d_M14_699 : decode b_M14 699 = .ok (.ifCond .ne 14, 3) := by decide +kernel
theorem d_M14_702 : decode b_M14 702 = .ok (.aload_n 0, 1) := by decide +kernel
theorem d_M14_703 : decode b_M14 703 = .ok (.iload 4, 2) := by decide +kernel
theorem d_M14_705 : decode b_M14 705 = .ok (.iload 10, 2) := by decide +kernel
theorem d_M14_707 : decode b_M14 707 = .ok (.invokevirtual 47, 3) := by decide +kernel
theorem d_M14_710 : decode b_M14 710 = .ok (.ifCond .eq 9, 3) := by decide +kernel
theorem d_M14_713 : decode b_M14 713 = .ok (.iconst 0, 1) := by decide +kernel
theorem d_M14_714 : decode b_M14 714 = .ok (.istore 9, 2) := by decide +kernel
theorem d_M14_716 : decode b_M14 716 = .ok (.goto 24, 3) := by decide +kernel
theorem d_M14_719 : decode b_M14 719 = .ok (.aload_n 0, 1) := by decide +kernel
theorem d_M14_720 : decode b_M14 720 = .ok (.iload_n 3, 1) := by decide +kernel
theorem d_M14_721 : decode b_M14 721 = .ok (.iload 10, 2) := by decide +kernel
theorem d_M14_723 : decode b_M14 723 = .ok (.invokevirtual 51, 3) := by decide +kernel
theorem d_M14_726 : decode b_M14 726 = .ok (.aload_n 0, 1) := by decide +kernel
theorem d_M14_727 : decode b_M14 727 = .ok (.iload 4, 2) := by decide +kernel
theorem d_M14_729 : decode b_M14 729 = .ok (.iload 10, 2) := by decide +kernel
theorem d_M14_731 : decode b_M14 731 = .ok (.invokevirtual 51, 3) := by decide +kernel
theorem d_M14_734 : decode b_M14 734 = .ok (.if_icmp .eq 6, 3) := by decide +kernel
theorem d_M14_737 : decode b_M14 737 = .ok (.iconst 1, 1) := by decide +kernel
theorem d_M14_738 : decode b_M14 738 = .ok (.istore 8, 2) := by decide +kernel
theorem d_M14_740 : decode b_M14 740 = .ok (.iinc 10 1, 3) := by decide +kernel
theorem d_M14_743 : decode b_M14 743 = .ok (.goto (-58), 3) := by decide +kernel
end
section
theorem d_M14_746 : decode b_M14 746 = .ok (.aload_n 0, 1) := by decide +kernel
theorem d_M14_747 : decode b_M14 747 = .ok (.getfield 25, 3) := by decide +kernel
theorem d_M14_750 : decode b_M14 750 = .ok (.iconst 0, 1) := by decide +kernel
theorem d_M14_751 : decode b_M14 751 = .ok (.iload 8, 2) := by decide +kernel
theorem d_M14_753 : decode b_M14 753 = .ok (.ifCond .ne 12, 3) := by decide +kernel
theorem d_M14_756 : decode b_M14 756 = .ok (.iload 9, 2) := by decide +kernel
theorem d_M14_758 : decode b_M14 758 = .ok (.ifCond .ne 7, 3) := by decide +kernel
theorem d_M14_761 : decode b_M14 761 = .ok (.iconst 1, 1) := by decide +kernel
theorem d_M14_762 : decode b_M14 762 = .ok (.goto 4, 3) := by decide +kernel
theorem d_M14_765 : decode b_M14 765 = .ok (.iconst 0, 1) := by decide +kernel
theorem d_M14_766 : decode b_M14 766 = .ok (.bastore, 1) := by decide +kernel
theorem d_M14_767 : decode b_M14 767 = .ok (.goto 11, 3) := by decide +kernel
theorem d_M14_770 : decode b_M14 770 = .ok (.aload_n 0, 1) := by decide +kernel
theorem d_M14_771 : decode b_M14 771 = .ok (.iload_n 2, 1) := by decide +kernel
theorem d_M14_772 : decode b_M14 772 = .ok (.iload_n 3, 1) := by decide +kernel
theorem d_M14_773 : decode b_M14 773 = .ok (.iload 4, 2) := by decide +kernel
theorem d_M14_775 : decode b_M14 775 = .ok (.invokevirtual 77, 3) := by decide +kernel
theorem d_M14_778 : decode b_M14 778 = .ok (.aload_n 0, 1) := by decide +kernel
theorem d_M14_779 : decode b_M14 779 = .ok (.iload_n 2, 1) := by decide +kernel
theorem d_M14_780 : decode b_M14 780 = .ok (.invokevirtual 44, 3) := by decide +kernel
theorem d_M14_783 : decode b_M14 783 = .ok (.return_, 1) := by decide +kernel
end
section
theorem d_L12_0 : decode b_L12 0 = .ok (.new 8, 3) := by decide +kernel
theorem d_L12_3 : decode b_L12 3 = .ok (.dup, 1) := by decide +kernel
theorem d_L12_4 : decode b_L12 4 = .ok (.invokespecial 44, 3) := by decide +kernel
theorem d_L12_7 : decode b_L12 7 = .ok (.astore_n 1, 1) := by decide +kernel
theorem d_L12_8 : decode b_L12 8 = .ok (.new 45, 3) := by decide +kernel
theorem d_L12_11 : decode b_L12 11 = .ok (.dup, 1) := by decide +kernel
theorem d_L12_12 : decode b_L12 12 = .ok (.invokespecial 47, 3) := by decide +kernel
theorem d_L12_15 : decode b_L12 15 = .ok (.astore_n 2, 1) := by decide +kernel
theorem d_L12_16 : decode b_L12 16 = .ok (.iconst 1, 1) := by decide +kernel
theorem d_L12_17 : decode b_L12 17 = .ok (.newarray .long, 2) := by decide +kernel
theorem d_L12_19 : decode b_L12 19 = .ok (.astore_n 3, 1) := by decide +kernel
theorem d_L12_20 : decode b_L12 20 = .ok (.iconst 0, 1) := by decide +kernel
theorem d_L12_21 : decode b_L12 21 = .ok (.istore 4, 2) := by decide +kernel
theorem d_L12_23 : decode b_L12 23 = .ok (.iload 4, 2) := by decide +kernel
theorem d_L12_25 : decode b_L12 25 = .ok (.aload_n 0, 1) := by decide +kernel
theorem d_L12_26 : decode b_L12 26 = .ok (.arraylength, 1) := by decide +kernel
theorem d_L12_27 : decode b_L12 27 = .ok (.iconst 5, 1) := by decide +kernel
theorem d_L12_28 : decode b_L12 28 = .ok (.isub, 1) := by decide +kernel
theorem d_L12_29 : decode b_L12 29 = .ok (.if_icmp .gt 642, 3) := by decide +kernel
theorem d_L12_32 : decode b_L12 32 = .ok (.aload_n 0, 1) := by decide +kernel
theorem d_L12_33 : decode b_L12 33 = .ok (.iload 4, 2) := by decide +kernel
theorem d_L12_35 : decode b_L12 35 = .ok (.iaload, 1) := by decide +kernel
theorem d_L12_36 : decode b_L12 36 = .ok (.bipush 15, 2) := by decide +kernel
theorem d_L12_38 : decode b_L12 38 = .ok (.iand, 1) := by decide +kernel
theorem d_L12_39 : decode b_L12 39 = .ok (.tableswitch 626 0 9 #[53, 113, 185, 245, 333, 389, 445, 501, 557, 613], 53) := by decide +kernel
theorem d_L12_92 : decode b_L12 92 = .ok (.aload_n 1, 1) := by decide +kernel
theorem d_L12_93 : decode b_L12 93 = .ok (.aload_n 0, 1) := by decide +kernel
theorem d_L12_94 : decode b_L12 94 = .ok (.iload 4, 2) := by decide +kernel
theorem d_L12_96 : decode b_L12 96 = .ok (.iconst 1, 1) := by decide +kernel
theorem d_L12_97 : decode b_L12 97 = .ok (.iadd, 1) := by decide +kernel
theorem d_L12_98 : decode b_L12 98 = .ok (.iaload, 1) := by decide +kernel
theorem d_L12_99 : decode b_L12 99 = .ok (.aload_n 0, 1) := by decide +kernel
theorem d_L12_100 : decode b_L12 100 = .ok (.iload 4, 2) := by decide +kernel
theorem d_L12_102 : decode b_L12 102 = .ok (.iconst 2, 1) := by decide +kernel
theorem d_L12_103 : decode b_L12 103 = .ok (.iadd, 1) := by decide +kernel
theorem d_L12_104 : decode b_L12 104 = .ok (.iaload, 1) := by decide +kernel
theorem d_L12_105 : decode b_L12 105 = .ok (.aload_n 0, 1) := by decide +kernel
theorem d_L12_106 : decode b_L12 106 = .ok (.iload 4, 2) := by decide +kernel
theorem d_L12_108 : decode b_L12 108 = .ok (.iconst 3, 1) := by decide +kernel
theorem d_L12_109 : decode b_L12 109 = .ok (.iadd, 1) := by decide +kernel
theorem d_L12_110 : decode b_L12 110 = .ok (.iaload, 1) := by decide +kernel
theorem d_L12_111 : decode b_L12 111 = .ok (.invokestatic 48, 3) := by decide +kernel
theorem d_L12_114 : decode b_L12 114 = .ok (.istore 5, 2) := by decide +kernel
theorem d_L12_116 : decode b_L12 116 = .ok (.aload_n 2, 1) := by decide +kernel
theorem d_L12_117 : decode b_L12 117 = .ok (.aload_n 0, 1) := by decide +kernel
theorem d_L12_118 : decode b_L12 118 = .ok (.iload 4, 2) := by decide +kernel
theorem d_L12_120 : decode b_L12 120 = .ok (.iconst 1, 1) := by decide +kernel
theorem d_L12_121 : decode b_L12 121 = .ok (.iadd, 1) := by decide +kernel
theorem d_L12_122 : decode b_L12 122 = .ok (.iaload, 1) := by decide +kernel
theorem d_L12_123 : decode b_L12 123 = .ok (.aload_n 0, 1) := by decide +kernel
theorem d_L12_124 : decode b_L12 124 = .ok (.iload 4, 2) := by decide +kernel
theorem d_L12_126 : decode b_L12 126 = .ok (.iconst 2, 1) := by decide +kernel
theorem d_L12_127 : decode b_L12 127 = .ok (.iadd, 1) := by decide +kernel
theorem d_L12_128 : decode b_L12 128 = .ok (.iaload, 1) := by decide +kernel
theorem d_L12_129 : decode b_L12 129 = .ok (.aload_n 0, 1) := by decide +kernel
theorem d_L12_130 : decode b_L12 130 = .ok (.iload 4, 2) := by decide +kernel
theorem d_L12_132 : decode b_L12 132 = .ok (.iconst 3, 1) := by decide +kernel
theorem d_L12_133 : decode b_L12 133 = .ok (.iadd, 1) := by decide +kernel
theorem d_L12_134 : decode b_L12 134 = .ok (.iaload, 1) := by decide +kernel
theorem d_L12_135 : decode b_L12 135 = .ok (.invokevirtual 53, 3) := by decide +kernel
end
section
theorem d_L12_138 : decode b_L12 138 = .ok (.aload_n 2, 1) := by decide +kernel
theorem d_L12_139 : decode b_L12 139 = .ok (.invokevirtual 54, 3) := by decide +kernel
theorem d_L12_142 : decode b_L12 142 = .ok (.iload 5, 2) := by decide +kernel
theorem d_L12_144 : decode b_L12 144 = .ok (.if_icmp .eq 5, 3) := by decide +kernel
theorem d_L12_147 : decode b_L12 147 = .ok (.iconst 0, 1) := by decide +kernel
theorem d_L12_148 : decode b_L12 148 = .ok (.ireturn, 1) := by decide +kernel
theorem d_L12_149 : decode b_L12 149 = .ok (.goto 516, 3) := by decide +kernel
theorem d_L12_152 : decode b_L12 152 = .ok (.aload_n 1, 1) := by decide +kernel
theorem d_L12_153 : decode b_L12 153 = .ok (.aload_n 0, 1) := by decide +kernel
theorem d_L12_154 : decode b_L12 154 = .ok (.iload 4, 2) := by decide +kernel
theorem d_L12_156 : decode b_L12 156 = .ok (.iconst 1, 1) := by decide +kernel
theorem d_L12_157 : decode b_L12 157 = .ok (.iadd, 1) := by decide +kernel
theorem d_L12_158 : decode b_L12 158 = .ok (.iaload, 1) := by decide +kernel
theorem d_L12_159 : decode b_L12 159 = .ok (.aload_n 0, 1) := by decide +kernel
theorem d_L12_160 : decode b_L12 160 = .ok (.iload 4, 2) := by decide +kernel
theorem d_L12_162 : decode b_L12 162 = .ok (.iconst 2, 1) := by decide +kernel
theorem d_L12_163 : decode b_L12 163 = .ok (.iadd, 1) := by decide +kernel
theorem d_L12_164 : decode b_L12 164 = .ok (.iaload, 1) := by decide +kernel
theorem d_L12_165 : decode b_L12 165 = .ok (.aload_n 0, 1) := by decide +kernel
theorem d_L12_166 : decode b_L12 166 = .ok (.iload 4, 2) := by decide +kernel
theorem d_L12_168 : decode b_L12 168 = .ok (.iconst 3, 1) := by decide +kernel
theorem d_L12_169 : decode b_L12 169 = .ok (.iadd, 1) := by decide +kernel
theorem d_L12_170 : decode b_L12 170 = .ok (.iaload, 1) := by decide +kernel
theorem d_L12_171 : decode b_L12 171 = .ok (.aload_n 0, 1) := by decide +kernel
theorem d_L12_172 : decode b_L12 172 = .ok (.iload 4, 2) := by decide +kernel
theorem d_L12_174 : decode b_L12 174 = .ok (.iconst 4, 1) := by decide +kernel
theorem d_L12_175 : decode b_L12 175 = .ok (.iadd, 1) := by decide +kernel
theorem d_L12_176 : decode b_L12 176 = .ok (.iaload, 1) := by decide +kernel
theorem d_L12_177 : decode b_L12 177 = .ok (.invokestatic 58, 3) := by decide +kernel
theorem d_L12_180 : decode b_L12 180 = .ok (.istore 5, 2) := by decide +kernel
theorem d_L12_182 : decode b_L12 182 = .ok (.aload_n 2, 1) := by decide +kernel
theorem d_L12_183 : decode b_L12 183 = .ok (.aload_n 0, 1) := by decide +kernel
theorem d_L12_184 : decode b_L12 184 = .ok (.iload 4, 2) := by decide +kernel
theorem d_L12_186 : decode b_L12 186 = .ok (.iconst 1, 1) := by decide +kernel
theorem d_L12_187 : decode b_L12 187 = .ok (.iadd, 1) := by decide +kernel
theorem d_L12_188 : decode b_L12 188 = .ok (.iaload, 1) := by decide +kernel
theorem d_L12_189 : decode b_L12 189 = .ok (.aload_n 0, 1) := by decide +kernel
theorem d_L12_190 : decode b_L12 190 = .ok (.iload 4, 2) := by decide +kernel
theorem d_L12_192 : decode b_L12 192 = .ok (.iconst 2, 1) := by decide +kernel
theorem d_L12_193 : decode b_L12 193 = .ok (.iadd, 1) := by decide +kernel
theorem d_L12_194 : decode b_L12 194 = .ok (.iaload, 1) := by decide +kernel
theorem d_L12_195 : decode b_L12 195 = .ok (.aload_n 0, 1) := by decide +kernel
theorem d_L12_196 : decode b_L12 196 = .ok (.iload 4, 2) := by decide +kernel
theorem d_L12_198 : decode b_L12 198 = .ok (.iconst 3, 1) := by decide +kernel
theorem d_L12_199 : decode b_L12 199 = .ok (.iadd, 1) := by decide +kernel
theorem d_L12_200 : decode b_L12 200 = .ok (.iaload, 1) := by decide +kernel
theorem d_L12_201 : decode b_L12 201 = .ok (.aload_n 0, 1) := by decide +kernel
theorem d_L12_202 : decode b_L12 202 = .ok (.iload 4, 2) := by decide +kernel
theorem d_L12_204 : decode b_L12 204 = .ok (.iconst 4, 1) := by decide +kernel
theorem d_L12_205 : decode b_L12 205 = .ok (.iadd, 1) := by decide +kernel
theorem d_L12_206 : decode b_L12 206 = .ok (.iaload, 1) := by decide +kernel
theorem d_L12_207 : decode b_L12 207 = .ok (.invokevirtual 61, 3) := by decide +kernel
theorem d_L12_210 : decode b_L12 210 = .ok (.aload_n 2, 1) := by decide +kernel
theorem d_L12_211 : decode b_L12 211 = .ok (.invokevirtual 54, 3) := by decide +kernel
theorem d_L12_214 : decode b_L12 214 = .ok (.iload 5, 2) := by decide +kernel
theorem d_L12_216 : decode b_L12 216 = .ok (.if_icmp .eq 5, 3) := by decide +kernel
theorem d_L12_219 : decode b_L12 219 = .ok (.iconst 0, 1) := by decide +kernel
theorem d_L12_220 : decode b_L12 220 = .ok (.ireturn, 1) := by decide +kernel
theorem d_L12_221 : decode b_L12 221 = .ok (.goto 444, 3) := by decide +kernel
theorem d_L12_224 : decode b_L12 224 = .ok (.aload_n 1, 1) := by decide +kernel
end
section
theorem d_L12_225 : decode b_L12 225 = .ok (.aload_n 0, 1) := by decide +kernel
theorem d_L12_226 : decode b_L12 226 = .ok (.iload 4, 2) := by decide +kernel
theorem d_L12_228 : decode b_L12 228 = .ok (.iconst 1, 1) := by decide +kernel
theorem d_L12_229 : decode b_L12 229 = .ok (.iadd, 1) := by decide +kernel
theorem d_L12_230 : decode b_L12 230 = .ok (.iaload, 1) := by decide +kernel
theorem d_L12_231 : decode b_L12 231 = .ok (.aload_n 0, 1) := by decide +kernel
theorem d_L12_232 : decode b_L12 232 = .ok (.iload 4, 2) := by decide +kernel
theorem d_L12_234 : decode b_L12 234 = .ok (.iconst 2, 1) := by decide +kernel
theorem d_L12_235 : decode b_L12 235 = .ok (.iadd, 1) := by decide +kernel
theorem d_L12_236 : decode b_L12 236 = .ok (.iaload, 1) := by decide +kernel
theorem d_L12_237 : decode b_L12 237 = .ok (.aload_n 0, 1) := by decide +kernel
theorem d_L12_238 : decode b_L12 238 = .ok (.iload 4, 2) := by decide +kernel
theorem d_L12_240 : decode b_L12 240 = .ok (.iconst 3, 1) := by decide +kernel
theorem d_L12_241 : decode b_L12 241 = .ok (.iadd, 1) := by decide +kernel
theorem d_L12_242 : decode b_L12 242 = .ok (.iaload, 1) := by decide +kernel
theorem d_L12_243 : decode b_L12 243 = .ok (.invokestatic 62, 3) := by decide +kernel
theorem d_L12_246 : decode b_L12 246 = .ok (.istore 5, 2) := by decide +kernel
theorem d_L12_248 : decode b_L12 248 = .ok (.aload_n 2, 1) := by decide +kernel
theorem d_L12_249 : decode b_L12 249 = .ok (.aload_n 0, 1) := by decide +kernel
theorem d_L12_250 : decode b_L12 250 = .ok (.iload 4, 2) := by decide +kernel
theorem d_L12_252 : decode b_L12 252 = .ok (.iconst 1, 1) := by decide +kernel
theorem d_L12_253 : decode b_L12 253 = .ok (.iadd, 1) := by decide +kernel
theorem d_L12_254 : decode b_L12 254 = .ok (.iaload, 1) := by decide +kernel
theorem d_L12_255 : decode b_L12 255 = .ok (.aload_n 0, 1) := by decide +kernel
theorem d_L12_256 : decode b_L12 256 = .ok (.iload 4, 2) := by decide +kernel
theorem d_L12_258 : decode b_L12 258 = .ok (.iconst 2, 1) := by decide +kernel
theorem d_L12_259 : decode b_L12 259 = .ok (.iadd, 1) := by decide +kernel
theorem d_L12_260 : decode b_L12 260 = .ok (.iaload, 1) := by decide +kernel
theorem d_L12_261 : decode b_L12 261 = .ok (.aload_n 0, 1) := by decide +kernel
theorem d_L12_262 : decode b_L12 262 = .ok (.iload 4, 2) := by decide +kernel
theorem d_L12_264 : decode b_L12 264 = .ok (.iconst 3, 1) := by decide +kernel
theorem d_L12_265 : decode b_L12 265 = .ok (.iadd, 1) := by decide +kernel
theorem d_L12_266 : decode b_L12 266 = .ok (.iaload, 1) := by decide +kernel
theorem d_L12_267 : decode b_L12 267 = .ok (.invokevirtual 64, 3) := by decide +kernel
theorem d_L12_270 : decode b_L12 270 = .ok (.aload_n 2, 1) := by decide +kernel
theorem d_L12_271 : decode b_L12 271 = .ok (.invokevirtual 54, 3) := by decide +kernel
theorem d_L12_274 : decode b_L12 274 = .ok (.iload 5, 2) := by decide +kernel
theorem d_L12_276 : decode b_L12 276 = .ok (.if_icmp .eq 5, 3) := by decide +kernel
theorem d_L12_279 : decode b_L12 279 = .ok (.iconst 0, 1) := by decide +kernel
theorem d_L12_280 : decode b_L12 280 = .ok (.ireturn, 1) := by decide +kernel
theorem d_L12_281 : decode b_L12 281 = .ok (.goto 384, 3) := by decide +kernel
theorem d_L12_284 : decode b_L12 284 = .ok (.aload_n 1, 1) := by decide +kernel
theorem d_L12_285 : decode b_L12 285 = .ok (.aload_n 0, 1) := by decide +kernel
theorem d_L12_286 : decode b_L12 286 = .ok (.iload 4, 2) := by decide +kernel
theorem d_L12_288 : decode b_L12 288 = .ok (.iconst 1, 1) := by decide +kernel
theorem d_L12_289 : decode b_L12 289 = .ok (.iadd, 1) := by decide +kernel
theorem d_L12_290 : decode b_L12 290 = .ok (.iaload, 1) := by decide +kernel
theorem d_L12_291 : decode b_L12 291 = .ok (.aload_n 0, 1) := by decide +kernel
theorem d_L12_292 : decode b_L12 292 = .ok (.iload 4, 2) := by decide +kernel
theorem d_L12_294 : decode b_L12 294 = .ok (.iconst 2, 1) := by decide +kernel
theorem d_L12_295 : decode b_L12 295 = .ok (.iadd, 1) := by decide +kernel
theorem d_L12_296 : decode b_L12 296 = .ok (.iaload, 1) := by decide +kernel
theorem d_L12_297 : decode b_L12 297 = .ok (.aload_n 0, 1) := by decide +kernel
theorem d_L12_298 : decode b_L12 298 = .ok (.iload 4, 2) := by decide +kernel
theorem d_L12_300 : decode b_L12 300 = .ok (.iconst 3, 1) := by decide +kernel
theorem d_L12_301 : decode b_L12 301 = .ok (.iadd, 1) := by decide +kernel
theorem d_L12_302 : decode b_L12 302 = .ok (.iaload, 1) := by decide +kernel
theorem d_L12_303 : decode b_L12 303 = .ok (.aload_n 0, 1) := by decide +kernel
theorem d_L12_304 : decode b_L12 304 = .ok (.iload 4, 2) := by decide +kernel
theorem d_L12_306 : decode b_L12 306 = .ok (.iconst 4, 1) := by decide +kernel
end
section
theorem d_L12_307 : decode b_L12 307 = .ok (.iadd, 1) := by decide +kernel
theorem d_L12_308 : decode b_L12 308 = .ok (.iaload, 1) := by decide +kernel
theorem d_L12_309 : decode b_L12 309 = .ok (.ifCond .eq 7, 3) := by decide +kernel
theorem d_L12_312 : decode b_L12 312 = .ok (.iconst 1, 1) := by decide +kernel
theorem d_L12_313 : decode b_L12 313 = .ok (.goto 4, 3) := by decide +kernel
theorem d_L12_316 : decode b_L12 316 = .ok (.iconst 0, 1) := by decide +kernel
theorem d_L12_317 : decode b_L12 317 = .ok (.invokestatic 65, 3) := by decide +kernel
theorem d_L12_320 : decode b_L12 320 = .ok (.istore 5, 2) := by decide +kernel
theorem d_L12_322 : decode b_L12 322 = .ok (.aload_n 2, 1) := by decide +kernel
theorem d_L12_323 : decode b_L12 323 = .ok (.aload_n 0, 1) := by decide +kernel
theorem d_L12_324 : decode b_L12 324 = .ok (.iload 4, 2) := by decide +kernel
theorem d_L12_326 : decode b_L12 326 = .ok (.iconst 1, 1) := by decide +kernel
theorem d_L12_327 : decode b_L12 327 = .ok (.iadd, 1) := by decide +kernel
theorem d_L12_328 : decode b_L12 328 = .ok (.iaload, 1) := by decide +kernel
theorem d_L12_329 : decode b_L12 329 = .ok (.aload_n 0, 1) := by decide +kernel
theorem d_L12_330 : decode b_L12 330 = .ok (.iload 4, 2) := by decide +kernel
theorem d_L12_332 : decode b_L12 332 = .ok (.iconst 2, 1) := by decide +kernel
theorem d_L12_333 : decode b_L12 333 = .ok (.iadd, 1) := by decide +kernel
theorem d_L12_334 : decode b_L12 334 = .ok (.iaload, 1) := by decide +kernel
theorem d_L12_335 : decode b_L12 335 = .ok (.aload_n 0, 1) := by decide +kernel
theorem d_L12_336 : decode b_L12 336 = .ok (.iload 4, 2) := by decide +kernel
theorem d_L12_338 : decode b_L12 338 = .ok (.iconst 3, 1) := by decide +kernel
theorem d_L12_339 : decode b_L12 339 = .ok (.iadd, 1) := by decide +kernel
theorem d_L12_340 : decode b_L12 340 = .ok (.iaload, 1) := by decide +kernel
theorem d_L12_341 : decode b_L12 341 = .ok (.aload_n 0, 1) := by decide +kernel
theorem d_L12_342 : decode b_L12 342 = .ok (.iload 4, 2) := by decide +kernel
theorem d_L12_344 : decode b_L12 344 = .ok (.iconst 4, 1) := by decide +kernel
theorem d_L12_345 : decode b_L12 345 = .ok (.iadd, 1) := by decide +kernel
theorem d_L12_346 : decode b_L12 346 = .ok (.iaload, 1) := by decide +kernel
theorem d_L12_347 : decode b_L12 347 = .ok (.ifCond .eq 7, 3) := by decide +kernel
theorem d_L12_350 : decode b_L12 350 = .ok (.iconst 1, 1) := by decide +kernel
theorem d_L12_351 : decode b_L12 351 = .ok (.goto 4, 3) := by decide +kernel
theorem d_L12_354 : decode b_L12 354 = .ok (.iconst 0, 1) := by decide +kernel
theorem d_L12_355 : decode b_L12 355 = .ok (.invokevirtual 68, 3) := by decide +kernel
theorem d_L12_358 : decode b_L12 358 = .ok (.aload_n 2, 1) := by decide +kernel
theorem d_L12_359 : decode b_L12 359 = .ok (.invokevirtual 54, 3) := by decide +kernel
theorem d_L12_362 : decode b_L12 362 = .ok (.iload 5, 2) := by decide +kernel
theorem d_L12_364 : decode b_L12 364 = .ok (.if_icmp .eq 5, 3) := by decide +kernel
theorem d_L12_367 : decode b_L12 367 = .ok (.iconst 0, 1) := by decide +kernel
theorem d_L12_368 : decode b_L12 368 = .ok (.ireturn, 1) := by decide +kernel
theorem d_L12_369 : decode b_L12 369 = .ok (.goto 296, 3) := by decide +kernel
theorem d_L12_372 : decode b_L12 372 = .ok (.aload_n 1, 1) := by decide +kernel
theorem d_L12_373 : decode b_L12 373 = .ok (.aload_n 0, 1) := by decide +kernel
theorem d_L12_374 : decode b_L12 374 = .ok (.iload 4, 2) := by decide +kernel
theorem d_L12_376 : decode b_L12 376 = .ok (.iconst 1, 1) := by decide +kernel
theorem d_L12_377 : decode b_L12 377 = .ok (.iadd, 1) := by decide +kernel
theorem d_L12_378 : decode b_L12 378 = .ok (.iaload, 1) := by decide +kernel
theorem d_L12_379 : decode b_L12 379 = .ok (.aload_n 3, 1) := by decide +kernel
theorem d_L12_380 : decode b_L12 380 = .ok (.invokestatic 69, 3) := by decide +kernel
theorem d_L12_383 : decode b_L12 383 = .ok (.istore 5, 2) := by decide +kernel
theorem d_L12_385 : decode b_L12 385 = .ok (.aload_n 2, 1) := by decide +kernel
theorem d_L12_386 : decode b_L12 386 = .ok (.aload_n 0, 1) := by decide +kernel
theorem d_L12_387 : decode b_L12 387 = .ok (.iload 4, 2) := by decide +kernel
theorem d_L12_389 : decode b_L12 389 = .ok (.iconst 1, 1) := by decide +kernel
theorem d_L12_390 : decode b_L12 390 = .ok (.iadd, 1) := by decide +kernel
theorem d_L12_391 : decode b_L12 391 = .ok (.iaload, 1) := by decide +kernel
theorem d_L12_392 : decode b_L12 392 = .ok (.invokevirtual 72, 3) := by decide +kernel
theorem d_L12_395 : decode b_L12 395 = .ok (.istore 6, 2) := by decide +kernel
theorem d_L12_397 : decode b_L12 397 = .ok (.aload_n 2, 1) := by decide +kernel
theorem d_L12_398 : decode b_L12 398 = .ok (.invokevirtual 54, 3) := by decide +kernel
end
section
theorem d_L12_401 : decode b_L12 401 = .ok (.iload 5, 2) := by decide +kernel
theorem d_L12_403 : decode b_L12 403 = .ok (.if_icmp .eq 5, 3) := by decide +kernel
theorem d_L12_406 : decode b_L12 406 = .ok (.iconst 0, 1) := by decide +kernel
theorem d_L12_407 : decode b_L12 407 = .ok (.ireturn, 1) := by decide +kernel
theorem d_L12_408 : decode b_L12 408 = .ok (.iload 5, 2) := by decide +kernel
theorem d_L12_410 : decode b_L12 410 = .ok (.ifCond .ne 15, 3) := by decide +kernel
theorem d_L12_413 : decode b_L12 413 = .ok (.aload_n 3, 1) := by decide +kernel
theorem d_L12_414 : decode b_L12 414 = .ok (.iconst 0, 1) := by decide +kernel
theorem d_L12_415 : decode b_L12 415 = .ok (.laload, 1) := by decide +kernel
theorem d_L12_416 : decode b_L12 416 = .ok (.iload 6, 2) := by decide +kernel
theorem d_L12_418 : decode b_L12 418 = .ok (.i2l, 1) := by decide +kernel
theorem d_L12_419 : decode b_L12 419 = .ok (.lcmp, 1) := by decide +kernel
theorem d_L12_420 : decode b_L12 420 = .ok (.ifCond .eq 5, 3) := by decide +kernel
theorem d_L12_423 : decode b_L12 423 = .ok (.iconst 0, 1) := by decide +kernel
theorem d_L12_424 : decode b_L12 424 = .ok (.ireturn, 1) := by decide +kernel
theorem d_L12_425 : decode b_L12 425 = .ok (.goto 240, 3) := by decide +kernel
theorem d_L12_428 : decode b_L12 428 = .ok (.aload_n 1, 1) := by decide +kernel
theorem d_L12_429 : decode b_L12 429 = .ok (.aload_n 0, 1) := by decide +kernel
theorem d_L12_430 : decode b_L12 430 = .ok (.iload 4, 2) := by decide +kernel
theorem d_L12_432 : decode b_L12 432 = .ok (.iconst 1, 1) := by decide +kernel
theorem d_L12_433 : decode b_L12 433 = .ok (.iadd, 1) := by decide +kernel
theorem d_L12_434 : decode b_L12 434 = .ok (.iaload, 1) := by decide +kernel
theorem d_L12_435 : decode b_L12 435 = .ok (.aload_n 3, 1) := by decide +kernel
theorem d_L12_436 : decode b_L12 436 = .ok (.invokestatic 73, 3) := by decide +kernel
theorem d_L12_439 : decode b_L12 439 = .ok (.istore 5, 2) := by decide +kernel
theorem d_L12_441 : decode b_L12 441 = .ok (.aload_n 2, 1) := by decide +kernel
theorem d_L12_442 : decode b_L12 442 = .ok (.aload_n 0, 1) := by decide +kernel
theorem d_L12_443 : decode b_L12 443 = .ok (.iload 4, 2) := by decide +kernel
theorem d_L12_445 : decode b_L12 445 = .ok (.iconst 1, 1) := by decide +kernel
theorem d_L12_446 : decode b_L12 446 = .ok (.iadd, 1) := by decide +kernel
theorem d_L12_447 : decode b_L12 447 = .ok (.iaload, 1) := by decide +kernel
theorem d_L12_448 : decode b_L12 448 = .ok (.invokevirtual 75, 3) := by decide +kernel
theorem d_L12_451 : decode b_L12 451 = .ok (.istore 6, 2) := by decide +kernel
theorem d_L12_453 : decode b_L12 453 = .ok (.aload_n 2, 1) := by decide +kernel
theorem d_L12_454 : decode b_L12 454 = .ok (.invokevirtual 54, 3) := by decide +kernel
theorem d_L12_457 : decode b_L12 457 = .ok (.iload 5, 2) := by decide +kernel
theorem d_L12_459 : decode b_L12 459 = .ok (.if_icmp .eq 5, 3) := by decide +kernel
theorem d_L12_462 : decode b_L12 462 = .ok (.iconst 0, 1) := by decide +kernel
theorem d_L12_463 : decode b_L12 463 = .ok (.ireturn, 1) := by decide +kernel
theorem d_L12_464 : decode b_L12 464 = .ok (.iload 5, 2) := by decide +kernel
theorem d_L12_466 : decode b_L12 466 = .ok (.ifCond .ne 15, 3) := by decide +kernel
theorem d_L12_469 : decode b_L12 469 = .ok (.aload_n 3, 1) := by decide +kernel
theorem d_L12_470 : decode b_L12 470 = .ok (.iconst 0, 1) := by decide +kernel
theorem d_L12_471 : decode b_L12 471 = .ok (.laload, 1) := by decide +kernel
theorem d_L12_472 : decode b_L12 472 = .ok (.iload 6, 2) := by decide +kernel
theorem d_L12_474 : decode b_L12 474 = .ok (.i2l, 1) := by decide +kernel
theorem d_L12_475 : decode b_L12 475 = .ok (.lcmp, 1) := by decide +kernel
theorem d_L12_476 : decode b_L12 476 = .ok (.ifCond .eq 5, 3) := by decide +kernel
theorem d_L12_479 : decode b_L12 479 = .ok (.iconst 0, 1) := by decide +kernel
theorem d_L12_480 : decode b_L12 480 = .ok (.ireturn, 1) := by decide +kernel
theorem d_L12_481 : decode b_L12 481 = .ok (.goto 184, 3) := by decide +kernel
theorem d_L12_484 : decode b_L12 484 = .ok (.aload_n 1, 1) := by decide +kernel
theorem d_L12_485 : decode b_L12 485 = .ok (.aload_n 0, 1) := by decide +kernel
theorem d_L12_486 : decode b_L12 486 = .ok (.iload 4, 2) := by decide +kernel
theorem d_L12_488 : decode b_L12 488 = .ok (.iconst 1, 1) := by decide +kernel
theorem d_L12_489 : decode b_L12 489 = .ok (.iadd, 1) := by decide +kernel
theorem d_L12_490 : decode b_L12 490 = .ok (.iaload, 1) := by decide +kernel
theorem d_L12_491 : decode b_L12 491 = .ok (.aload_n 3, 1) := by decide +kernel
theorem d_L12_492 : decode b_L12 492 = .ok (.invokestatic 76, 3) := by decide +kernel
theorem d_L12_495 : decode b_L12 495 = .ok (.istore 5, 2) := by decide +kernel
end
section
theorem d_L12_497 : decode b_L12 497 = .ok (.aload_n 2, 1) := by decide +kernel
theorem d_L12_498 : decode b_L12 498 = .ok (.aload_n 0, 1) := by decide +kernel
theorem d_L12_499 : decode b_L12 499 = .ok (.iload 4, 2) := by decide +kernel
theorem d_L12_501 : decode b_L12 501 = .ok (.iconst 1, 1) := by decide +kernel
theorem d_L12_502 : decode b_L12 502 = .ok (.iadd, 1) := by decide +kernel
theorem d_L12_503 : decode b_L12 503 = .ok (.iaload, 1) := by decide +kernel
theorem d_L12_504 : decode b_L12 504 = .ok (.invokevirtual 78, 3) := by decide +kernel
theorem d_L12_507 : decode b_L12 507 = .ok (.istore 6, 2) := by decide +kernel
theorem d_L12_509 : decode b_L12 509 = .ok (.aload_n 2, 1) := by decide +kernel
theorem d_L12_510 : decode b_L12 510 = .ok (.invokevirtual 54, 3) := by decide +kernel
theorem d_L12_513 : decode b_L12 513 = .ok (.iload 5, 2) := by decide +kernel
theorem d_L12_515 : decode b_L12 515 = .ok (.if_icmp .eq 5, 3) := by decide +kernel
theorem d_L12_518 : decode b_L12 518 = .ok (.iconst 0, 1) := by decide +kernel
theorem d_L12_519 : decode b_L12 519 = .ok (.ireturn, 1) := by decide +kernel
theorem d_L12_520 : decode b_L12 520 = .ok (.iload 5, 2) := by decide +kernel
theorem d_L12_522 : decode b_L12 522 = .ok (.ifCond .ne 15, 3) := by decide +kernel
theorem d_L12_525 : decode b_L12 525 = .ok (.aload_n 3, 1) := by decide +kernel
theorem d_L12_526 : decode b_L12 526 = .ok (.iconst 0, 1) := by decide +kernel
theorem d_L12_527 : decode b_L12 527 = .ok (.laload, 1) := by decide +kernel
theorem d_L12_528 : decode b_L12 528 = .ok (.iload 6, 2) := by decide +kernel
theorem d_L12_530 : decode b_L12 530 = .ok (.i2l, 1) := by decide +kernel
theorem d_L12_531 : decode b_L12 531 = .ok (.lcmp, 1) := by decide +kernel
theorem d_L12_532 : decode b_L12 532 = .ok (.ifCond .eq 5, 3) := by decide +kernel
theorem d_L12_535 : decode b_L12 535 = .ok (.iconst 0, 1) := by decide +kernel
theorem d_L12_536 : decode b_L12 536 = .ok (.ireturn, 1) := by decide +kernel
theorem d_L12_537 : decode b_L12 537 = .ok (.goto 128, 3) := by decide +kernel
theorem d_L12_540 : decode b_L12 540 = .ok (.aload_n 1, 1) := by decide +kernel
theorem d_L12_541 : decode b_L12 541 = .ok (.aload_n 0, 1) := by decide +kernel
theorem d_L12_542 : decode b_L12 542 = .ok (.iload 4, 2) := by decide +kernel
theorem d_L12_544 : decode b_L12 544 = .ok (.iconst 1, 1) := by decide +kernel
theorem d_L12_545 : decode b_L12 545 = .ok (.iadd, 1) := by decide +kernel
theorem d_L12_546 : decode b_L12 546 = .ok (.iaload, 1) := by decide +kernel
theorem d_L12_547 : decode b_L12 547 = .ok (.aload_n 3, 1) := by decide +kernel
theorem d_L12_548 : decode b_L12 548 = .ok (.invokestatic 79, 3) := by decide +kernel
theorem d_L12_551 : decode b_L12 551 = .ok (.istore 5, 2) := by decide +kernel
theorem d_L12_553 : decode b_L12 553 = .ok (.aload_n 2, 1) := by decide +kernel
theorem d_L12_554 : decode b_L12 554 = .ok (.aload_n 0, 1) := by decide +kernel
theorem d_L12_555 : decode b_L12 555 = .ok (.iload 4, 2) := by decide +kernel
theorem d_L12_557 : decode b_L12 557 = .ok (.iconst 1, 1) := by decide +kernel
theorem d_L12_558 : decode b_L12 558 = .ok (.iadd, 1) := by decide +kernel
theorem d_L12_559 : decode b_L12 559 = .ok (.iaload, 1) := by decide +kernel
theorem d_L12_560 : decode b_L12 560 = .ok (.invokevirtual 81, 3) := by decide +kernel
theorem d_L12_563 : decode b_L12 563 = .ok (.istore 6, 2) := by decide +kernel
theorem d_L12_565 : decode b_L12 565 = .ok (.aload_n 2, 1) := by decide +kernel
theorem d_L12_566 : decode b_L12 566 = .ok (.invokevirtual 54, 3) := by decide +kernel
theorem d_L12_569 : decode b_L12 569 = .ok (.iload 5, 2) := by decide +kernel
theorem d_L12_571 : decode b_L12 571 = .ok (.if_icmp .eq 5, 3) := by decide +kernel
theorem d_L12_574 : decode b_L12 574 = .ok (.iconst 0, 1) := by decide +kernel
theorem d_L12_575 : decode b_L12 575 = .ok (.ireturn, 1) := by decide +kernel
theorem d_L12_576 : decode b_L12 576 = .ok (.iload 5, 2) := by decide +kernel
theorem d_L12_578 : decode b_L12 578 = .ok (.ifCond .ne 15, 3) := by decide +kernel
theorem d_L12_581 : decode b_L12 581 = .ok (.aload_n 3, 1) := by decide +kernel
theorem d_L12_582 : decode b_L12 582 = .ok (.iconst 0, 1) := by decide +kernel
theorem d_L12_583 : decode b_L12 583 = .ok (.laload, 1) := by decide +kernel
theorem d_L12_584 : decode b_L12 584 = .ok (.iload 6, 2) := by decide +kernel
theorem d_L12_586 : decode b_L12 586 = .ok (.i2l, 1) := by decide +kernel
theorem d_L12_587 : decode b_L12 587 = .ok (.lcmp, 1) := by decide +kernel
theorem d_L12_588 : decode b_L12 588 = .ok (.ifCond .eq 5, 3) := by decide +kernel
theorem d_L12_591 : decode b_L12 591 = .ok (.iconst 0, 1) := by decide +kernel
theorem d_L12_592 : decode b_L12 592 = .ok (.ireturn, 1) := by decide +kernel
end
section
theorem d_L12_593 : decode b_L12 593 = .ok (.goto 72, 3) := by decide +kernel
theorem d_L12_596 : decode b_L12 596 = .ok (.aload_n 1, 1) := by decide +kernel
theorem d_L12_597 : decode b_L12 597 = .ok (.aload_n 0, 1) := by decide +kernel
theorem d_L12_598 : decode b_L12 598 = .ok (.iload 4, 2) := by decide +kernel
theorem d_L12_600 : decode b_L12 600 = .ok (.iconst 1, 1) := by decide +kernel
theorem d_L12_601 : decode b_L12 601 = .ok (.iadd, 1) := by decide +kernel
theorem d_L12_602 : decode b_L12 602 = .ok (.iaload, 1) := by decide +kernel
theorem d_L12_603 : decode b_L12 603 = .ok (.aload_n 3, 1) := by decide +kernel
theorem d_L12_604 : decode b_L12 604 = .ok (.invokestatic 82, 3) := by decide +kernel
theorem d_L12_607 : decode b_L12 607 = .ok (.istore 5, 2) := by decide +kernel
theorem d_L12_609 : decode b_L12 609 = .ok (.aload_n 2, 1) := by decide +kernel
theorem d_L12_610 : decode b_L12 610 = .ok (.aload_n 0, 1) := by decide +kernel
theorem d_L12_611 : decode b_L12 611 = .ok (.iload 4, 2) := by decide +kernel
theorem d_L12_613 : decode b_L12 613 = .ok (.iconst 1, 1) := by decide +kernel
theorem d_L12_614 : decode b_L12 614 = .ok (.iadd, 1) := by decide +kernel
theorem d_L12_615 : decode b_L12 615 = .ok (.iaload, 1) := by decide +kernel
theorem d_L12_616 : decode b_L12 616 = .ok (.invokevirtual 84, 3) := by decide +kernel
theorem d_L12_619 : decode b_L12 619 = .ok (.istore 6, 2) := by decide +kernel
theorem d_L12_621 : decode b_L12 621 = .ok (.aload_n 2, 1) := by decide +kernel
theorem d_L12_622 : decode b_L12 622 = .ok (.invokevirtual 54, 3) := by decide +kernel
theorem d_L12_625 : decode b_L12 625 = .ok (.iload 5, 2) := by decide +kernel
theorem d_L12_627 : decode b_L12 627 = .ok (.if_icmp .eq 5, 3) := by decide +kernel
theorem d_L12_630 : decode b_L12 630 = .ok (.iconst 0, 1) := by decide +kernel
theorem d_L12_631 : decode b_L12 631 = .ok (.ireturn, 1) := by decide +kernel
theorem d_L12_632 : decode b_L12 632 = .ok (.iload 5, 2) := by decide +kernel
theorem d_L12_634 : decode b_L12 634 = .ok (.ifCond .ne 15, 3) := by decide +kernel
theorem d_L12_637 : decode b_L12 637 = .ok (.aload_n 3, 1) := by decide +kernel
theorem d_L12_638 : decode b_L12 638 = .ok (.iconst 0, 1) := by decide +kernel
theorem d_L12_639 : decode b_L12 639 = .ok (.laload, 1) := by decide +kernel
theorem d_L12_640 : decode b_L12 640 = .ok (.iload 6, 2) := by decide +kernel
theorem d_L12_642 : decode b_L12 642 = .ok (.i2l, 1) := by decide +kernel
theorem d_L12_643 : decode b_L12 643 = .ok (.lcmp, 1) := by decide +kernel
theorem d_L12_644 : decode b_L12 644 = .ok (.ifCond .eq 5, 3) := by decide +kernel
theorem d_L12_647 : decode b_L12 647 = .ok (.iconst 0, 1) := by decide +kernel
theorem d_L12_648 : decode b_L12 648 = .ok (.ireturn, 1) := by decide +kernel
theorem d_L12_649 : decode b_L12 649 = .ok (.goto 16, 3) := by decide +kernel
theorem d_L12_652 : decode b_L12 652 = .ok (.aload_n 1, 1) := by decide +kernel
theorem d_L12_653 : decode b_L12 653 = .ok (.invokevirtual 85, 3) := by decide +kernel
theorem d_L12_656 : decode b_L12 656 = .ok (.aload_n 2, 1) := by decide +kernel
theorem d_L12_657 : decode b_L12 657 = .ok (.invokevirtual 88, 3) := by decide +kernel
theorem d_L12_660 : decode b_L12 660 = .ok (.if_icmp .eq 5, 3) := by decide +kernel
theorem d_L12_663 : decode b_L12 663 = .ok (.iconst 0, 1) := by decide +kernel
theorem d_L12_664 : decode b_L12 664 = .ok (.ireturn, 1) := by decide +kernel
theorem d_L12_665 : decode b_L12 665 = .ok (.iinc 4 5, 3) := by decide +kernel
theorem d_L12_668 : decode b_L12 668 = .ok (.goto (-645), 3) := by decide +kernel
theorem d_L12_671 : decode b_L12 671 = .ok (.iconst 1, 1) := by decide +kernel
theorem d_L12_672 : decode b_L12 672 = .ok (.ireturn, 1) := by decide +kernel
end
section
/-! ===== Int32 by its bits: bt x i ===== -/
def bt (x : Int32) (i : Nat) : Bool := x.toBitVec.getLsbD i
theorem b_ext {x y : Int32} (h : ∀ i, i < 32 → bt x i = bt y i) : x = y := Int32.toBitVec_inj.mp (BitVec.eq_of_getLsbD_eq (fun i hi => h i hi))
theorem b_or (x y : Int32) (i : Nat) : bt (x ||| y) i = (bt x i || bt y i) := by unfold bt; rw [Int32.toBitVec_or, BitVec.getLsbD_or]
theorem b_and (x y : Int32) (i : Nat) : bt (x &&& y) i = (bt x i && bt y i) := by unfold bt; rw [Int32.toBitVec_and, BitVec.getLsbD_and]
theorem b_xor (x y : Int32) (i : Nat) : bt (x ^^^ y) i = (bt x i ^^ bt y i) := by unfold bt; rw [Int32.toBitVec_xor, BitVec.getLsbD_xor]
theorem b_big {x : Int32} {i : Nat} (h : 32 ≤ i) : bt x i = false := BitVec.getLsbD_of_ge _ _ h
theorem b_255 (i : Nat) : bt 255 i = decide (i < 8) := by
  rcases Nat.lt_or_ge i 32 with h | h
  · exact (by decide +kernel : ∀ i, i < 32 → bt 255 i = decide (i < 8)) i h
  · rw [b_big h, decide_eq_false (by omega)]
theorem b_65535 (i : Nat) : bt 65535 i = decide (i < 16) := by
  rcases Nat.lt_or_ge i 32 with h | h
  · exact (by decide +kernel : ∀ i, i < 32 → bt 65535 i = decide (i < 16)) i h
  · rw [b_big h, decide_eq_false (by omega)]
theorem b_m1 : ∀ i, i < 32 → bt (-1) i = true := by decide +kernel
theorem b_0 (i : Nat) : bt 0 i = false := BitVec.getLsbD_zero
theorem s_l : ∀ n, n < 32 → ((nI n &&& 31).toBitVec.smod 32).toNat = n := by decide +kernel
theorem s_u : ∀ n, n < 32 → (((nI n).toUInt32 &&& Int32.toUInt32 31).toBitVec % 32).toNat = n := by decide +kernel
theorem b_shl (n : Nat) (hn : n < 32) (x : Int32) {i : Nat} (hi : i < 32) : bt (x <<< (nI n &&& 31)) i = (decide (n ≤ i) && bt x (i - n)) := by
  unfold bt
  rw [Int32.toBitVec_shiftLeft]
  show (x.toBitVec <<< ((nI n &&& 31).toBitVec.smod 32).toNat).getLsbD i = _
  rw [s_l n hn, BitVec.getLsbD_shiftLeft]
  rcases Nat.lt_or_ge i n with h | h
  · simp [h, Nat.not_le.mpr h]
  · simp [hi, h, Nat.not_lt.mpr h]
theorem b_ushr (n : Nat) (hn : n < 32) (x : Int32) (i : Nat) : bt ((x.toUInt32 >>> ((nI n).toUInt32 &&& Int32.toUInt32 31)).toInt32) i = bt x (n + i) := by
  show (x.toUInt32 >>> ((nI n).toUInt32 &&& Int32.toUInt32 31)).toBitVec.getLsbD i = x.toUInt32.toBitVec.getLsbD (n + i)
  rw [UInt32.toBitVec_shiftRight]
  show (x.toUInt32.toBitVec >>> (((nI n).toUInt32 &&& Int32.toUInt32 31).toBitVec % 32).toNat).getLsbD i = _
  rw [s_u n hn, BitVec.getLsbD_ushiftRight]
theorem b_sshr (n : Nat) (hn : n < 32) (x : Int32) {i : Nat} (hi : i < 32) : bt (x >>> (nI n &&& 31)) i = if n + i < 32 then bt x (n + i) else bt x 31 := by
  unfold bt
  rw [Int32.toBitVec_shiftRight]
  show (x.toBitVec.sshiftRight ((nI n &&& 31).toBitVec.smod 32).toNat).getLsbD i = _
  rw [s_l n hn, BitVec.getLsbD_sshiftRight, BitVec.msb_eq_getLsbD_last]
  simp [hi]
theorem b_shl8 (x : Int32) {i : Nat} (hi : i < 32) : bt (x <<< ((8 : Int32) &&& 31)) i = (decide (8 ≤ i) && bt x (i - 8)) := b_shl 8 (by omega) x hi
theorem b_shl16 (x : Int32) {i : Nat} (hi : i < 32) : bt (x <<< ((16 : Int32) &&& 31)) i = (decide (16 ≤ i) && bt x (i - 16)) := b_shl 16 (by omega) x hi
theorem b_shl24 (x : Int32) {i : Nat} (hi : i < 32) : bt (x <<< ((24 : Int32) &&& 31)) i = (decide (24 ≤ i) && bt x (i - 24)) := b_shl 24 (by omega) x hi
theorem b_sshr8 (x : Int32) {i : Nat} (hi : i < 32) : bt (x >>> ((8 : Int32) &&& 31)) i = if 8 + i < 32 then bt x (8 + i) else bt x 31 := b_sshr 8 (by omega) x hi
/-! a truth value as an int; one place changed -/
def zb (b : Bool) : Int32 := if b then 1 else 0
def zs {α : Type} (f : Nat → α) (i : Nat) (b : α) : Nat → α := fun j => if j = i then b else f j
theorem zs_at {α : Type} (f : Nat → α) (i : Nat) (b : α) : zs f i b i = b := by simp [zs]
theorem zs_ne {α : Type} (f : Nat → α) {i j : Nat} (b : α) (h : j ≠ i) : zs f i b j = f j := by simp [zs, h]
theorem zb_0 (b : Bool) : zb b = 0 ↔ b = false := by cases b <;> simp [zb]
theorem zb_1 (b : Bool) : zb b = 1 ↔ b = true := by cases b <;> simp [zb]
theorem zb_inj {a b : Bool} : zb a = zb b ↔ a = b := by cases a <;> cases b <;> simp [zb]
theorem zb_nar (b : Bool) : narrow .boolean (.int (zb b)) = .int (zb b) := by cases b <;> rfl
theorem zb_vp (b : Bool) : vp_nar .boolean (zb b) = zb b := by cases b <;> rfl
theorem zb_up (f : Nat → Bool) (i : Nat) (b : Bool) : upd (fun j => zb (f j)) i (vp_nar .boolean (zb b)) = fun j => zb (zs f i b j) := by
  funext j
  by_cases h : j = i
  · simp [upd, zs, h, zb_vp]
  · simp [upd, zs, h]
theorem zy_up (f : Nat → Int8) (i : Nat) (x : Int32) : upd (fun j => (f j).toInt32) i (vp_nar .byte x.toInt8.toInt32) = fun j => (zs f i x.toInt8 j).toInt32 := by
  funext j
  by_cases h : j = i
  · subst h
    simp only [upd, zs, if_pos]
    exact pk_vb x
  · simp [upd, zs, h]
theorem zi_up (f : Nat → Int32) (i : Nat) (x : Int32) : upd f i x = zs f i x := by
  funext j
  simp [upd, zs]
theorem zi_inc (k : Nat) : nI k + Int32.ofInt 1 = nI (k + 1) := nI_1 k
theorem zi_ix (r k : Nat) : (32 : Int32) * nI r + nI k = nI (32 * r + k) := by
  rw [show (32 : Int32) = nI 32 from rfl, pk_mul, nI_add]
theorem zi_i8 (r k : Nat) : (8 : Int32) * nI r + nI k = nI (8 * r + k) := by
  rw [show (8 : Int32) = nI 8 from rfl, pk_mul, nI_add]
theorem zi_ge {M : Int32} (N : Nat) (hM : M = nI N) {k : Nat} (h : M ≤ nI k) (hk : k ≤ N) (hN : N < 2 ^ 31) : k = N := by
  subst hM
  have := (nI_leI hN (by omega)).mp h
  omega
theorem zi_lt {M : Int32} (N : Nat) (hM : M = nI N) {k : Nat} (h : ¬ M ≤ nI k) (hk : k ≤ N) (hN : N < 2 ^ 31) : k < N := by
  subst hM
  have := mt (nI_leI hN (by omega)).mpr h
  omega
end
section
theorem zq_X (k : Nat) : (zf_X k).1 = zc_X := by unfold zf_X; split <;> rfl
theorem zq_M (k : Nat) : (zf_M k).1 = zc_M := by unfold zf_M; split <;> rfl
section ZRA
variable {p : Program} {l : Launch} {e : Env} {R : Room} {s : State} {m : MethodId} {args : Array Value} {below : List Frame} {meth : Method} {c : Code} {H : Heap} {locs : List Loc} {cells slots : Nat} {Q : State → Prop}
variable {cc : ByteArray} {nL pc ix a x : Nat} {w0 : Cond} {D : va_G} {tys : List (ClassId × FieldType)} {ws : va_W} {fs : List Value} {ls : Array Slot} {rest : List Value} {A : Nat → Prop} {H0 : Heap}
theorem zg_X {v : Value} (S : CallFix p m c cc nL s args (zw w0) "ShadowMath") (hK : va_K D zC tys s) (hP : va_P D zC ws H) (he : ws[0]? = some (x, .inr (0, fs))) (k : Nat) (hk : k < 4) (hl : Cond.fieldLink zc_X ix zc_X (zf_X k).2.1 (zf_X k).2.2.1 ∈ gw_L) (hv : fs[k]? = some v) (hdg : decode cc pc = .ok (.getfield ix, 3))
    (kk : W p l e R s m args below meth c H locs cells slots Q (F0 m (pc + 3) ls (v :: rest))) : W p l e R s m args below meth c H locs cells slots Q (F0 m pc ls (.ref x :: rest)) :=
  va_get (D := D) (ci := 0) (C := zc_X) (T := zf_X) (N := 4) S.1 S.2.1 S.2.2.2.2 (fun w h => List.mem_cons_of_mem _ (zu_X w h)) S.2.2.2.1 hK hP 0 he rfl k hk (zw_at S.2.2.2.2 hl) (fun x h9 => by rw [zq_X] at h9; exact h9) hv hdg kk
theorem zg_M {v : Value} (S : CallFix p m c cc nL s args (zw w0) "ShadowMathModel") (hK : va_K D zC tys s) (hP : va_P D zC ws H) (he : ws[0]? = some (x, .inr (1, fs))) (k : Nat) (hk : k < 7) (hl : Cond.fieldLink zc_M ix zc_M (zf_M k).2.1 (zf_M k).2.2.1 ∈ gw_L) (hv : fs[k]? = some v) (hdg : decode cc pc = .ok (.getfield ix, 3))
    (kk : W p l e R s m args below meth c H locs cells slots Q (F0 m (pc + 3) ls (v :: rest))) : W p l e R s m args below meth c H locs cells slots Q (F0 m pc ls (.ref x :: rest)) :=
  va_get (D := D) (ci := 1) (C := zc_M) (T := zf_M) (N := 7) S.1 S.2.1 S.2.2.2.2 (fun w h => List.mem_cons_of_mem _ (zu_M w h)) S.2.2.2.1 hK hP 0 he rfl k hk (zw_at S.2.2.2.2 hl) (fun x h9 => by rw [zq_M] at h9; exact h9) hv hdg kk
theorem zi_ld (hx : p.tables.exec = Jvm.exec) (hb : c.code = cc) (hK : va_K D zC tys s) (hP : va_P D zC ws H) (q0 t0 : Nat) {cA : ClassId} {n : Nat} {f : Nat → Int32} (ha : ws[q0]? = some (a, .inl (cA, n, .inl f))) (ht : tys[t0]? = some (cA, .int)) {j : Nat} (hj : j < n) (hn : n < 2 ^ 31) (hdg : decode cc pc = .ok (.iaload, 1))
    (kk : W p l e R s m args below meth c H locs cells slots Q (F0 m (pc + 1) ls (.int (f j) :: rest))) : W p l e R s m args below meth c H locs cells slots Q (F0 m pc ls (.int (nI j) :: .ref a :: rest)) := by
  refine va_iald hx hb hK hP q0 t0 ha ht (vp_in_nI hj hn) hdg ?_
  rw [nI_clamp (by omega)]
  exact kk
theorem zy_ld (hx : p.tables.exec = Jvm.exec) (hb : c.code = cc) (hK : va_K D zC tys s) (hP : va_P D zC ws H) (q0 t0 : Nat) {cA : ClassId} {n : Nat} {f : Nat → Int32} (ha : ws[q0]? = some (a, .inl (cA, n, .inl f))) (ht : tys[t0]? = some (cA, .byte)) {j : Nat} (hj : j < n) (hn : n < 2 ^ 31) (hdg : decode cc pc = .ok (.baload, 1))
    (kk : W p l e R s m args below meth c H locs cells slots Q (F0 m (pc + 1) ls (.int (f j) :: rest))) : W p l e R s m args below meth c H locs cells slots Q (F0 m pc ls (.int (nI j) :: .ref a :: rest)) := by
  refine va_bald hx hb hK hP q0 t0 ha ht (vp_in_nI hj hn) hdg ?_
  rw [nI_clamp (by omega)]
  exact kk
theorem zz_ld (hx : p.tables.exec = Jvm.exec) (hb : c.code = cc) (hK : va_K D zC tys s) (hP : va_P D zC ws H) (q0 t0 : Nat) {cA : ClassId} {n : Nat} {f : Nat → Bool} (ha : ws[q0]? = some (a, .inl (cA, n, .inl (fun j => zb (f j))))) (ht : tys[t0]? = some (cA, .boolean)) {j : Nat} (hj : j < n) (hn : n < 2 ^ 31) (hdg : decode cc pc = .ok (.baload, 1))
    (kk : W p l e R s m args below meth c H locs cells slots Q (F0 m (pc + 1) ls (.int (zb (f j)) :: rest))) : W p l e R s m args below meth c H locs cells slots Q (F0 m pc ls (.int (nI j) :: .ref a :: rest)) := by
  refine va_zald hx hb hK hP q0 t0 ha ht (vp_in_nI hj hn) hdg ?_
  rw [nI_clamp (by omega)]
  exact kk
theorem zi_st (hx : p.tables.exec = Jvm.exec) (hb : c.code = cc) (hK : va_K D zC tys s) (hP : va_P D zC ws H) (hD : va_D A ws) (hS : va_S A H0 H locs) (q0 t0 : Nat) {cA : ClassId} {n : Nat} {f : Nat → Int32} (ha : ws[q0]? = some (a, .inl (cA, n, .inl f))) (ht : tys[t0]? = some (cA, .int)) {j : Nat} {x : Int32} (hj : j < n) (hn : n < 2 ^ 31) (hdg : decode cc pc = .ok (.iastore, 1))
    (kk : ∀ (H1 : Heap) (locs1 : List Loc), va_P D zC (ws.set q0 (a, .inl (cA, n, .inl (zs f j x)))) H1 → va_S A H0 H1 locs1 → H1.size = H.size → W p l e R s m args below meth c H1 locs1 cells slots Q (F0 m (pc + 1) ls rest)) : W p l e R s m args below meth c H locs cells slots Q (F0 m pc ls (.int x :: .int (nI j) :: .ref a :: rest)) := by
  refine W.iast hx hb (hP q0 _ ha) ((hK.2 t0 _ ht).1 n (fun j => .int (f j))) (fun q => by cases q) (by show ¬ (nI j < 0 ∨ (arrV _ _ _).slots.size ≤ _); rw [arrV_size]; exact nI_in hj hn) rfl rfl hdg fun H1 e1 z oq => ?_
  refine kk H1 _ (hP.set hD ha ?_ oq) (hS.put z oq (hD.2 q0 _ ha)) z
  show H1[a]? = some (vp_cell _ _)
  rw [e1, vp_cell_i, vp_cell_i, arrV_store, nI_clamp (by omega)]
  congr 2
  funext q
  by_cases hq : q = j
  · subst hq; simp [updV, zs]
  · simp [updV, zs, hq]
theorem zy_st (hx : p.tables.exec = Jvm.exec) (hb : c.code = cc) (hK : va_K D zC tys s) (hP : va_P D zC ws H) (hD : va_D A ws) (hS : va_S A H0 H locs) (q0 t0 : Nat) {cA : ClassId} {n : Nat} {f : Nat → Int8} (ha : ws[q0]? = some (a, .inl (cA, n, .inl (fun j => (f j).toInt32)))) (ht : tys[t0]? = some (cA, .byte)) {j : Nat} {x : Int32} (hj : j < n) (hn : n < 2 ^ 31) (hdg : decode cc pc = .ok (.bastore, 1))
    (kk : ∀ (H1 : Heap) (locs1 : List Loc), va_P D zC (ws.set q0 (a, .inl (cA, n, .inl (fun i => (zs f j x.toInt8 i).toInt32)))) H1 → va_S A H0 H1 locs1 → H1.size = H.size → W p l e R s m args below meth c H1 locs1 cells slots Q (F0 m (pc + 1) ls rest)) : W p l e R s m args below meth c H locs cells slots Q (F0 m pc ls (.int x.toInt8.toInt32 :: .int (nI j) :: .ref a :: rest)) := by
  refine W.bast hx hb (hP q0 _ ha) ((hK.2 t0 _ ht).1 n (fun j => .int (f j).toInt32)) (fun q => by cases q) (by show ¬ (nI j < 0 ∨ (arrV _ _ _).slots.size ≤ _); rw [arrV_size]; exact nI_in hj hn) rfl rfl hdg fun H1 e1 z oq => ?_
  refine kk H1 _ (hP.set hD ha ?_ oq) (hS.put z oq (hD.2 q0 _ ha)) z
  show H1[a]? = some (vp_cell _ _)
  rw [e1, vp_cell_i, vp_cell_i, arrV_store, nI_clamp (by omega), pk_nb]
  congr 2
  funext q
  by_cases hq : q = j
  · subst hq; simp [updV, zs]
  · simp [updV, zs, hq]
theorem zz_st (hx : p.tables.exec = Jvm.exec) (hb : c.code = cc) (hK : va_K D zC tys s) (hP : va_P D zC ws H) (hD : va_D A ws) (hS : va_S A H0 H locs) (q0 t0 : Nat) {cA : ClassId} {n : Nat} {f : Nat → Bool} (ha : ws[q0]? = some (a, .inl (cA, n, .inl (fun j => zb (f j))))) (ht : tys[t0]? = some (cA, .boolean)) {j : Nat} {x : Bool} (hj : j < n) (hn : n < 2 ^ 31) (hdg : decode cc pc = .ok (.bastore, 1))
    (kk : ∀ (H1 : Heap) (locs1 : List Loc), va_P D zC (ws.set q0 (a, .inl (cA, n, .inl (fun i => zb (zs f j x i))))) H1 → va_S A H0 H1 locs1 → H1.size = H.size → W p l e R s m args below meth c H1 locs1 cells slots Q (F0 m (pc + 1) ls rest)) : W p l e R s m args below meth c H locs cells slots Q (F0 m pc ls (.int (zb x) :: .int (nI j) :: .ref a :: rest)) := by
  refine W.zast hx hb (hP q0 _ ha) ((hK.2 t0 _ ht).1 n (fun j => .int (zb (f j)))) (fun q => by cases q) (by show ¬ (nI j < 0 ∨ (arrV _ _ _).slots.size ≤ _); rw [arrV_size]; exact nI_in hj hn) rfl rfl hdg fun H1 e1 z oq => ?_
  refine kk H1 _ (hP.set hD ha ?_ oq) (hS.put z oq (hD.2 q0 _ ha)) z
  show H1[a]? = some (vp_cell _ _)
  rw [e1, vp_cell_i, vp_cell_i, arrV_store, nI_clamp (by omega), zb_nar]
  congr 2
  funext q
  by_cases hq : q = j
  · subst hq; simp [updV, zs]
  · simp [updV, zs, hq]
theorem zd_of {L : List Nat} (hL : ws.map (fun q => q.1) = L) (hn : L.Nodup) : va_D (fun q => q ∈ L) ws := by
  subst hL
  refine ⟨fun i j x y hi hj hxy => ?_, fun k q hk => List.mem_map.mpr ⟨q, List.mem_of_getElem? hk, rfl⟩⟩
  have h1 : (ws.map (fun q => q.1))[i]? = some x.1 := by rw [List.getElem?_map, hi]; rfl
  have h2 : (ws.map (fun q => q.1))[j]? = some x.1 := by rw [List.getElem?_map, hj, hxy]; rfl
  have hi' := (List.getElem?_eq_some_iff.mp h1).1
  exact (List.getElem?_inj hi' hn).mp (h1.trans h2.symm)
end ZRA
end
section
section ZDM
variable {p : Program} {l : Launch} {e : Env} {R : Room} {s : State} {m : MethodId} {args : Array Value} {below : List Frame} {meth : Method} {c : Code} {H : Heap} {locs : List Loc} {cells slots : Nat} {Q : State → Prop} {cc : ByteArray} {pc : Nat} {ls : Array Slot} {rest : List Value}
theorem zd_icmp_eq (hx : p.tables.exec = Jvm.exec) (hb : c.code = cc) {x y : Int32} (d0 : decode cc pc = .ok (.if_icmp .eq 7, 3)) (d1 : decode cc (pc + 3) = .ok (.iconst 1, 1)) (d2 : decode cc (pc + 4) = .ok (.goto 4, 3)) (d3 : decode cc (pc + 7) = .ok (.iconst 0, 1))
    (k : W p l e R s m args below meth c H locs cells slots Q (F0 m (pc + 8) ls (.int (zb (decide (¬ x = y))) :: rest))) : W p l e R s m args below meth c H locs cells slots Q (F0 m pc ls (.int y :: .int x :: rest)) := by
  refine lv_icmp_eq (tgt := pc + 7) hx hb d0 (by omega) (fun h => ?_) (fun h => ?_)
  · refine lv_iconst (v := 0) hx hb d3 (by decide) ?_
    rw [show decide (¬ x = y) = false from decide_eq_false (by first | exact h | exact fun q => q h | (intro q; first | exact h q | (simp only [Int32.lt_iff_toInt_lt, Int32.le_iff_toInt_le] at *; omega)))] at k
    exact k
  · refine lv_iconst (v := 1) hx hb d1 (by decide) ?_
    refine lv_goto (tgt := pc + 8) hx hb d2 (by omega) ?_
    rw [show decide (¬ x = y) = true from decide_eq_true (by first | exact h | exact Classical.not_not.mp h | (simp only [Int32.lt_iff_toInt_lt, Int32.le_iff_toInt_le] at *; omega))] at k
    exact k
theorem zd_icmp_ne (hx : p.tables.exec = Jvm.exec) (hb : c.code = cc) {x y : Int32} (d0 : decode cc pc = .ok (.if_icmp .ne 7, 3)) (d1 : decode cc (pc + 3) = .ok (.iconst 1, 1)) (d2 : decode cc (pc + 4) = .ok (.goto 4, 3)) (d3 : decode cc (pc + 7) = .ok (.iconst 0, 1))
    (k : W p l e R s m args below meth c H locs cells slots Q (F0 m (pc + 8) ls (.int (zb (decide (x = y))) :: rest))) : W p l e R s m args below meth c H locs cells slots Q (F0 m pc ls (.int y :: .int x :: rest)) := by
  refine lv_icmp_ne (tgt := pc + 7) hx hb d0 (by omega) (fun h => ?_) (fun h => ?_)
  · refine lv_iconst (v := 0) hx hb d3 (by decide) ?_
    rw [show decide (x = y) = false from decide_eq_false (by first | exact h | exact fun q => q h | (intro q; first | exact h q | (simp only [Int32.lt_iff_toInt_lt, Int32.le_iff_toInt_le] at *; omega)))] at k
    exact k
  · refine lv_iconst (v := 1) hx hb d1 (by decide) ?_
    refine lv_goto (tgt := pc + 8) hx hb d2 (by omega) ?_
    rw [show decide (x = y) = true from decide_eq_true (by first | exact h | exact Classical.not_not.mp h | (simp only [Int32.lt_iff_toInt_lt, Int32.le_iff_toInt_le] at *; omega))] at k
    exact k
theorem zd_icmp_lt (hx : p.tables.exec = Jvm.exec) (hb : c.code = cc) {x y : Int32} (d0 : decode cc pc = .ok (.if_icmp .lt 7, 3)) (d1 : decode cc (pc + 3) = .ok (.iconst 1, 1)) (d2 : decode cc (pc + 4) = .ok (.goto 4, 3)) (d3 : decode cc (pc + 7) = .ok (.iconst 0, 1))
    (k : W p l e R s m args below meth c H locs cells slots Q (F0 m (pc + 8) ls (.int (zb (decide (¬ x < y))) :: rest))) : W p l e R s m args below meth c H locs cells slots Q (F0 m pc ls (.int y :: .int x :: rest)) := by
  refine lv_icmp_lt (tgt := pc + 7) hx hb d0 (by omega) (fun h => ?_) (fun h => ?_)
  · refine lv_iconst (v := 0) hx hb d3 (by decide) ?_
    rw [show decide (¬ x < y) = false from decide_eq_false (by first | exact h | exact fun q => q h | (intro q; first | exact h q | (simp only [Int32.lt_iff_toInt_lt, Int32.le_iff_toInt_le] at *; omega)))] at k
    exact k
  · refine lv_iconst (v := 1) hx hb d1 (by decide) ?_
    refine lv_goto (tgt := pc + 8) hx hb d2 (by omega) ?_
    rw [show decide (¬ x < y) = true from decide_eq_true (by first | exact h | exact Classical.not_not.mp h | (simp only [Int32.lt_iff_toInt_lt, Int32.le_iff_toInt_le] at *; omega))] at k
    exact k
theorem zd_icmp_ge (hx : p.tables.exec = Jvm.exec) (hb : c.code = cc) {x y : Int32} (d0 : decode cc pc = .ok (.if_icmp .ge 7, 3)) (d1 : decode cc (pc + 3) = .ok (.iconst 1, 1)) (d2 : decode cc (pc + 4) = .ok (.goto 4, 3)) (d3 : decode cc (pc + 7) = .ok (.iconst 0, 1))
    (k : W p l e R s m args below meth c H locs cells slots Q (F0 m (pc + 8) ls (.int (zb (decide (x < y))) :: rest))) : W p l e R s m args below meth c H locs cells slots Q (F0 m pc ls (.int y :: .int x :: rest)) := by
  refine lv_icmp_ge (tgt := pc + 7) hx hb d0 (by omega) (fun h => ?_) (fun h => ?_)
  · refine lv_iconst (v := 0) hx hb d3 (by decide) ?_
    rw [show decide (x < y) = false from decide_eq_false (by first | exact h | exact fun q => q h | (intro q; first | exact h q | (simp only [Int32.lt_iff_toInt_lt, Int32.le_iff_toInt_le] at *; omega)))] at k
    exact k
  · refine lv_iconst (v := 1) hx hb d1 (by decide) ?_
    refine lv_goto (tgt := pc + 8) hx hb d2 (by omega) ?_
    rw [show decide (x < y) = true from decide_eq_true (by first | exact h | exact Classical.not_not.mp h | (simp only [Int32.lt_iff_toInt_lt, Int32.le_iff_toInt_le] at *; omega))] at k
    exact k
theorem zd_icmp_gt (hx : p.tables.exec = Jvm.exec) (hb : c.code = cc) {x y : Int32} (d0 : decode cc pc = .ok (.if_icmp .gt 7, 3)) (d1 : decode cc (pc + 3) = .ok (.iconst 1, 1)) (d2 : decode cc (pc + 4) = .ok (.goto 4, 3)) (d3 : decode cc (pc + 7) = .ok (.iconst 0, 1))
    (k : W p l e R s m args below meth c H locs cells slots Q (F0 m (pc + 8) ls (.int (zb (decide (¬ y < x))) :: rest))) : W p l e R s m args below meth c H locs cells slots Q (F0 m pc ls (.int y :: .int x :: rest)) := by
  refine lv_icmp_gt (tgt := pc + 7) hx hb d0 (by omega) (fun h => ?_) (fun h => ?_)
  · refine lv_iconst (v := 0) hx hb d3 (by decide) ?_
    rw [show decide (¬ y < x) = false from decide_eq_false (by first | exact h | exact fun q => q h | (intro q; first | exact h q | (simp only [Int32.lt_iff_toInt_lt, Int32.le_iff_toInt_le] at *; omega)))] at k
    exact k
  · refine lv_iconst (v := 1) hx hb d1 (by decide) ?_
    refine lv_goto (tgt := pc + 8) hx hb d2 (by omega) ?_
    rw [show decide (¬ y < x) = true from decide_eq_true (by first | exact h | exact Classical.not_not.mp h | (simp only [Int32.lt_iff_toInt_lt, Int32.le_iff_toInt_le] at *; omega))] at k
    exact k
theorem zd_icmp_le (hx : p.tables.exec = Jvm.exec) (hb : c.code = cc) {x y : Int32} (d0 : decode cc pc = .ok (.if_icmp .le 7, 3)) (d1 : decode cc (pc + 3) = .ok (.iconst 1, 1)) (d2 : decode cc (pc + 4) = .ok (.goto 4, 3)) (d3 : decode cc (pc + 7) = .ok (.iconst 0, 1))
    (k : W p l e R s m args below meth c H locs cells slots Q (F0 m (pc + 8) ls (.int (zb (decide (y < x))) :: rest))) : W p l e R s m args below meth c H locs cells slots Q (F0 m pc ls (.int y :: .int x :: rest)) := by
  refine lv_icmp_le (tgt := pc + 7) hx hb d0 (by omega) (fun h => ?_) (fun h => ?_)
  · refine lv_iconst (v := 0) hx hb d3 (by decide) ?_
    rw [show decide (y < x) = false from decide_eq_false (by first | exact h | exact fun q => q h | (intro q; first | exact h q | (simp only [Int32.lt_iff_toInt_lt, Int32.le_iff_toInt_le] at *; omega)))] at k
    exact k
  · refine lv_iconst (v := 1) hx hb d1 (by decide) ?_
    refine lv_goto (tgt := pc + 8) hx hb d2 (by omega) ?_
    rw [show decide (y < x) = true from decide_eq_true (by first | exact h | exact Classical.not_not.mp h | (simp only [Int32.lt_iff_toInt_lt, Int32.le_iff_toInt_le] at *; omega))] at k
    exact k
theorem zd_if_eq (hx : p.tables.exec = Jvm.exec) (hb : c.code = cc) {x : Int32} (d0 : decode cc pc = .ok (.ifCond .eq 7, 3)) (d1 : decode cc (pc + 3) = .ok (.iconst 1, 1)) (d2 : decode cc (pc + 4) = .ok (.goto 4, 3)) (d3 : decode cc (pc + 7) = .ok (.iconst 0, 1))
    (k : W p l e R s m args below meth c H locs cells slots Q (F0 m (pc + 8) ls (.int (zb (decide (¬ x = 0))) :: rest))) : W p l e R s m args below meth c H locs cells slots Q (F0 m pc ls (.int x :: rest)) := by
  refine lv_if_eq (tgt := pc + 7) hx hb d0 (by omega) (fun h => ?_) (fun h => ?_)
  · refine lv_iconst (v := 0) hx hb d3 (by decide) ?_
    rw [show decide (¬ x = 0) = false from decide_eq_false (by first | exact h | exact fun q => q h | (intro q; first | exact h q | (simp only [Int32.lt_iff_toInt_lt, Int32.le_iff_toInt_le] at *; omega)))] at k
    exact k
  · refine lv_iconst (v := 1) hx hb d1 (by decide) ?_
    refine lv_goto (tgt := pc + 8) hx hb d2 (by omega) ?_
    rw [show decide (¬ x = 0) = true from decide_eq_true (by first | exact h | exact Classical.not_not.mp h | (simp only [Int32.lt_iff_toInt_lt, Int32.le_iff_toInt_le] at *; omega))] at k
    exact k
theorem zd_if_ne (hx : p.tables.exec = Jvm.exec) (hb : c.code = cc) {x : Int32} (d0 : decode cc pc = .ok (.ifCond .ne 7, 3)) (d1 : decode cc (pc + 3) = .ok (.iconst 1, 1)) (d2 : decode cc (pc + 4) = .ok (.goto 4, 3)) (d3 : decode cc (pc + 7) = .ok (.iconst 0, 1))
    (k : W p l e R s m args below meth c H locs cells slots Q (F0 m (pc + 8) ls (.int (zb (decide (x = 0))) :: rest))) : W p l e R s m args below meth c H locs cells slots Q (F0 m pc ls (.int x :: rest)) := by
  refine lv_if_ne (tgt := pc + 7) hx hb d0 (by omega) (fun h => ?_) (fun h => ?_)
  · refine lv_iconst (v := 0) hx hb d3 (by decide) ?_
    rw [show decide (x = 0) = false from decide_eq_false (by first | exact h | exact fun q => q h | (intro q; first | exact h q | (simp only [Int32.lt_iff_toInt_lt, Int32.le_iff_toInt_le] at *; omega)))] at k
    exact k
  · refine lv_iconst (v := 1) hx hb d1 (by decide) ?_
    refine lv_goto (tgt := pc + 8) hx hb d2 (by omega) ?_
    rw [show decide (x = 0) = true from decide_eq_true (by first | exact h | exact Classical.not_not.mp h | (simp only [Int32.lt_iff_toInt_lt, Int32.le_iff_toInt_le] at *; omega))] at k
    exact k
theorem zd_if_lt (hx : p.tables.exec = Jvm.exec) (hb : c.code = cc) {x : Int32} (d0 : decode cc pc = .ok (.ifCond .lt 7, 3)) (d1 : decode cc (pc + 3) = .ok (.iconst 1, 1)) (d2 : decode cc (pc + 4) = .ok (.goto 4, 3)) (d3 : decode cc (pc + 7) = .ok (.iconst 0, 1))
    (k : W p l e R s m args below meth c H locs cells slots Q (F0 m (pc + 8) ls (.int (zb (decide (¬ x < 0))) :: rest))) : W p l e R s m args below meth c H locs cells slots Q (F0 m pc ls (.int x :: rest)) := by
  refine lv_if_lt (tgt := pc + 7) hx hb d0 (by omega) (fun h => ?_) (fun h => ?_)
  · refine lv_iconst (v := 0) hx hb d3 (by decide) ?_
    rw [show decide (¬ x < 0) = false from decide_eq_false (by first | exact h | exact fun q => q h | (intro q; first | exact h q | (simp only [Int32.lt_iff_toInt_lt, Int32.le_iff_toInt_le] at *; omega)))] at k
    exact k
  · refine lv_iconst (v := 1) hx hb d1 (by decide) ?_
    refine lv_goto (tgt := pc + 8) hx hb d2 (by omega) ?_
    rw [show decide (¬ x < 0) = true from decide_eq_true (by first | exact h | exact Classical.not_not.mp h | (simp only [Int32.lt_iff_toInt_lt, Int32.le_iff_toInt_le] at *; omega))] at k
    exact k
theorem zd_if_ge (hx : p.tables.exec = Jvm.exec) (hb : c.code = cc) {x : Int32} (d0 : decode cc pc = .ok (.ifCond .ge 7, 3)) (d1 : decode cc (pc + 3) = .ok (.iconst 1, 1)) (d2 : decode cc (pc + 4) = .ok (.goto 4, 3)) (d3 : decode cc (pc + 7) = .ok (.iconst 0, 1))
    (k : W p l e R s m args below meth c H locs cells slots Q (F0 m (pc + 8) ls (.int (zb (decide (x < 0))) :: rest))) : W p l e R s m args below meth c H locs cells slots Q (F0 m pc ls (.int x :: rest)) := by
  refine lv_if_ge (tgt := pc + 7) hx hb d0 (by omega) (fun h => ?_) (fun h => ?_)
  · refine lv_iconst (v := 0) hx hb d3 (by decide) ?_
    rw [show decide (x < 0) = false from decide_eq_false (by first | exact h | exact fun q => q h | (intro q; first | exact h q | (simp only [Int32.lt_iff_toInt_lt, Int32.le_iff_toInt_le] at *; omega)))] at k
    exact k
  · refine lv_iconst (v := 1) hx hb d1 (by decide) ?_
    refine lv_goto (tgt := pc + 8) hx hb d2 (by omega) ?_
    rw [show decide (x < 0) = true from decide_eq_true (by first | exact h | exact Classical.not_not.mp h | (simp only [Int32.lt_iff_toInt_lt, Int32.le_iff_toInt_le] at *; omega))] at k
    exact k
theorem zd_if_gt (hx : p.tables.exec = Jvm.exec) (hb : c.code = cc) {x : Int32} (d0 : decode cc pc = .ok (.ifCond .gt 7, 3)) (d1 : decode cc (pc + 3) = .ok (.iconst 1, 1)) (d2 : decode cc (pc + 4) = .ok (.goto 4, 3)) (d3 : decode cc (pc + 7) = .ok (.iconst 0, 1))
    (k : W p l e R s m args below meth c H locs cells slots Q (F0 m (pc + 8) ls (.int (zb (decide (¬ 0 < x))) :: rest))) : W p l e R s m args below meth c H locs cells slots Q (F0 m pc ls (.int x :: rest)) := by
  refine lv_if_gt (tgt := pc + 7) hx hb d0 (by omega) (fun h => ?_) (fun h => ?_)
  · refine lv_iconst (v := 0) hx hb d3 (by decide) ?_
    rw [show decide (¬ 0 < x) = false from decide_eq_false (by first | exact h | exact fun q => q h | (intro q; first | exact h q | (simp only [Int32.lt_iff_toInt_lt, Int32.le_iff_toInt_le] at *; omega)))] at k
    exact k
  · refine lv_iconst (v := 1) hx hb d1 (by decide) ?_
    refine lv_goto (tgt := pc + 8) hx hb d2 (by omega) ?_
    rw [show decide (¬ 0 < x) = true from decide_eq_true (by first | exact h | exact Classical.not_not.mp h | (simp only [Int32.lt_iff_toInt_lt, Int32.le_iff_toInt_le] at *; omega))] at k
    exact k
theorem zd_if_le (hx : p.tables.exec = Jvm.exec) (hb : c.code = cc) {x : Int32} (d0 : decode cc pc = .ok (.ifCond .le 7, 3)) (d1 : decode cc (pc + 3) = .ok (.iconst 1, 1)) (d2 : decode cc (pc + 4) = .ok (.goto 4, 3)) (d3 : decode cc (pc + 7) = .ok (.iconst 0, 1))
    (k : W p l e R s m args below meth c H locs cells slots Q (F0 m (pc + 8) ls (.int (zb (decide (0 < x))) :: rest))) : W p l e R s m args below meth c H locs cells slots Q (F0 m pc ls (.int x :: rest)) := by
  refine lv_if_le (tgt := pc + 7) hx hb d0 (by omega) (fun h => ?_) (fun h => ?_)
  · refine lv_iconst (v := 0) hx hb d3 (by decide) ?_
    rw [show decide (0 < x) = false from decide_eq_false (by first | exact h | exact fun q => q h | (intro q; first | exact h q | (simp only [Int32.lt_iff_toInt_lt, Int32.le_iff_toInt_le] at *; omega)))] at k
    exact k
  · refine lv_iconst (v := 1) hx hb d1 (by decide) ?_
    refine lv_goto (tgt := pc + 8) hx hb d2 (by omega) ?_
    rw [show decide (0 < x) = true from decide_eq_true (by first | exact h | exact Classical.not_not.mp h | (simp only [Int32.lt_iff_toInt_lt, Int32.le_iff_toInt_le] at *; omega))] at k
    exact k
end ZDM
end
section
section ZLP
variable {p : Program} {l : Launch} {e : Env} {R : Room} {s : State} {m : MethodId} {args : Array Value} {below : List Frame} {meth : Method} {c : Code} {cells slots : Nat} {Q : State → Prop}
/-- a loop: the invariant holds the number of rounds down -/
theorem zl_loop (I : Nat → Heap → List Loc → Array Slot → Prop) (pc N : Nat) (hN : ∀ k H locs ls, I k H locs ls → k ≤ N)
    (step : ∀ k H locs ls, I k H locs ls → (∀ H' locs' ls', I (k + 1) H' locs' ls' → W p l e R s m args below meth c H' locs' cells slots Q (F0 m pc ls' [])) → W p l e R s m args below meth c H locs cells slots Q (F0 m pc ls []))
    (k : Nat) (H : Heap) (locs : List Loc) (ls : Array Slot) (h : I k H locs ls) : W p l e R s m args below meth c H locs cells slots Q (F0 m pc ls []) := by
  have key : ∀ (f k : Nat) (H : Heap) (locs : List Loc) (ls : Array Slot), N < k + f → I k H locs ls → W p l e R s m args below meth c H locs cells slots Q (F0 m pc ls []) := by
    intro f
    induction f with
    | zero => intro k H locs ls hf hI; exact absurd (hN k H locs ls hI) (by omega)
    | succ f ih => intro k H locs ls hf hI; exact step k H locs ls hI (fun H' locs' ls' h' => ih (k + 1) H' locs' ls' (by omega) h')
  exact key (N + 1) k H locs ls (by omega) h
end ZLP
/-! the lowest bit that is 1 (32: none) -/
def zlo (x : Int32) : Nat := (List.range 32).findIdx (fun i => bt x i)
theorem zlo_le (x : Int32) : zlo x ≤ 32 := by
  have h := List.findIdx_le_length (p := fun i => bt x i) (xs := List.range 32)
  simpa [zlo] using h
theorem zlo_lt {x : Int32} {i : Nat} (h : i < zlo x) : bt x i = false := by
  have h1 := List.not_of_lt_findIdx (p := fun i => bt x i) (xs := List.range 32) h
  have h2 := zlo_le x
  rw [List.getElem_range] at h1
  simpa using h1
theorem zlo_at {x : Int32} (h : zlo x < 32) : bt x (zlo x) = true := by
  have h1 := List.findIdx_getElem (p := fun i => bt x i) (xs := List.range 32) (w := by simpa [zlo] using h)
  rw [List.getElem_range] at h1
  exact h1
theorem zlo_eq {x : Int32} {k : Nat} (h1 : ∀ i, i < k → bt x i = false) (h2 : k = 32 ∨ (k < 32 ∧ bt x k = true)) : zlo x = k := by
  rcases Nat.lt_trichotomy (zlo x) k with h | h | h
  · have hk : k ≤ 32 := by omega
    have h3 := zlo_at (x := x) (by omega)
    rw [h1 _ h] at h3
    cases h3
  · exact h
  · have := zlo_le x
    rcases h2 with rfl | ⟨-, h2⟩
    · omega
    · rw [zlo_lt h] at h2
      cases h2
theorem zlo_zero : zlo 0 = 32 := zlo_eq (fun i _ => b_0 i) (Or.inl rfl)
theorem zlo_32 {x : Int32} : zlo x = 32 ↔ x = 0 := by
  refine ⟨fun h => b_ext (fun i hi => ?_), fun h => by rw [h]; exact zlo_zero⟩
  rw [zlo_lt (by omega), b_0]
theorem zlo_or (x y : Int32) : zlo (x ||| y) = min (zlo x) (zlo y) := by
  have hx := zlo_le x
  have hy := zlo_le y
  refine zlo_eq (fun i hi => ?_) ?_
  · rw [b_or, zlo_lt (by omega), zlo_lt (by omega)]; rfl
  · by_cases h : min (zlo x) (zlo y) = 32
    · exact Or.inl h
    · refine Or.inr ⟨by omega, ?_⟩
      rw [b_or]
      by_cases h2 : zlo x ≤ zlo y
      · rw [Nat.min_eq_left h2, zlo_at (by omega)]; rfl
      · rw [Nat.min_eq_right (by omega), zlo_at (x := y) (by omega), Bool.or_true]
theorem zb_bit0 (z : Int32) : z &&& 1 = zb (bt z 0) := by
  refine b_ext (fun i hi => ?_)
  rw [b_and]
  have h1 : ∀ i, i < 32 → bt 1 i = decide (i = 0) := by decide +kernel
  rw [h1 i hi]
  by_cases h : i = 0
  · subst h
    cases bt z 0 <;> decide
  · have h2 : ∀ b : Bool, ∀ i, i < 32 → i ≠ 0 → bt (zb b) i = false := by decide +kernel
    rw [h2 _ i hi h]
    simp [h]
theorem zu_bit (z : Int32) (i : Nat) : bt ((z.toUInt32 >>> ((1 : Int32).toUInt32 &&& Int32.toUInt32 31)).toInt32) i = bt z (1 + i) := b_ushr 1 (by decide) z i
/-- from the place n on: all bits 1 (32: none) -/
theorem zm_shl {n : Nat} (hn : n < 32) {i : Nat} (hi : i < 32) : bt ((-1 : Int32) <<< (nI n &&& 31)) i = decide (n ≤ i) := by
  rw [b_shl n hn (-1) hi]
  by_cases h : n ≤ i
  · rw [b_m1 _ (by omega)]; simp [h]
  · simp [h]
/-- the bits of a product that aren't given -/
def zpr (a y : Int32) : Int32 := if a = 0 then 0 else if 32 ≤ zlo a + zlo y then 0 else (-1 : Int32) <<< (nI (zlo a + zlo y) &&& 31)
theorem zpr_bit (a y : Int32) {i : Nat} (hi : i < 32) : bt (zpr a y) i = decide (a ≠ 0 ∧ zlo a + zlo y ≤ i) := by
  unfold zpr
  by_cases h : a = 0
  · simp [h, b_0]
  · rw [if_neg h]
    by_cases h2 : 32 ≤ zlo a + zlo y
    · rw [if_pos h2, b_0]
      symm
      exact decide_eq_false (by omega)
    · rw [if_neg h2, zm_shl (by omega) hi]
      simp [h]
end
section
theorem zy_X : plainName "ShadowMath" = true := by decide
theorem zy_M : plainName "ShadowMathModel" = true := by decide
theorem zy_L : plainName "ShadowMathLaw" = true := by decide
def zk_16 (r : Int32) : Bool := decide (¬ r < 0 ∧ ¬ 16 ≤ r)
theorem zk_in {j : Nat} (h : j < 16) : zk_16 (nI j) = true := decide_eq_true ⟨nI_pos (by omega), nI_ge (a := j) (b := 16) h (by decide)⟩
theorem zk_out {r : Int32} (h : r < 0 ∨ nI 16 ≤ r) : zk_16 r = false := decide_eq_false (fun q => h.elim q.1 q.2)
theorem zk_cases (r : Int32) : (r < 0 ∨ nI 16 ≤ r) ∨ ∃ j : Nat, j < 16 ∧ r = nI j := by
  rcases pk_ix r (n := 16) (by decide) with h | h | h
  · exact Or.inl (Or.inl h)
  · exact Or.inl (Or.inr h)
  · exact Or.inr h
set_option maxHeartbeats 4000000 in
set_option maxRecDepth 100000 in
theorem c_X3 (l : Launch) (r : Int32) : Met l y_X3 (zw (.code y_X3 b_X3 1 (some .boolean))) (rmv 0 0 0) (va_Pc [.int r] (fun _ => True)) (vp_Si (fun z => z = zb (zk_16 r))) 0 0 (fun _ => False) := by
  refine zm_met (b := b_X3) [.int r] zy_X (Nat.le_of_ble_eq_true rfl) ?_
  intro p e s m below meth c ls S hr hlk hnm hl hB
  obtain ⟨hx, hb, hml, hown, hts⟩ := id S
  have hl : lv_has ls 1 [(0, .int r)] := hl
  refine lv_iload_n hx hb d_X3_0 rfl (lv_at hl 0 rfl) ?_
  refine lv_if_lt (tgt := 14) hx hb d_X3_1 (by decide) (fun h1 => ?_) (fun h1 => ?_)
  · refine lv_iconst (v := 0) hx hb d_X3_14 (by decide) ?_
    exact W.zret (v := 0) hx hb hr (rfl) (fun t ht hW => ⟨_, rfl, by rw [show zk_16 r = false from decide_eq_false (fun q => q.1 h1)]; rfl, ht⟩) (fun q h => by cases h) d_X3_15
  · refine lv_iload_n hx hb d_X3_4 rfl (lv_at hl 0 rfl) ?_
    refine lv_bipush (v := 16) hx hb d_X3_5 (by decide) ?_
    refine lv_icmp_ge (tgt := 14) hx hb d_X3_7 (by decide) (fun h2 => ?_) (fun h2 => ?_)
    · refine lv_iconst (v := 0) hx hb d_X3_14 (by decide) ?_
      exact W.zret (v := 0) hx hb hr (rfl) (fun t ht hW => ⟨_, rfl, by rw [show zk_16 r = false from decide_eq_false (fun q => q.2 h2)]; rfl, ht⟩) (fun q h => by cases h) d_X3_15
    · refine lv_iconst (v := 1) hx hb d_X3_10 (by decide) ?_
      refine lv_goto (tgt := 15) hx hb d_X3_11 (by decide) ?_
      exact W.zret (v := 1) hx hb hr (rfl) (fun t ht hW => ⟨_, rfl, by rw [show zk_16 r = true from decide_eq_true ⟨h1, h2⟩]; rfl, ht⟩) (fun q h => by cases h) d_X3_15
set_option maxHeartbeats 4000000 in
set_option maxRecDepth 100000 in
theorem c_X5 (l : Launch) (x : Int32) : Met l y_X5 (zw (.code y_X5 b_X5 1 (some .int))) (rmv 0 0 0) (va_Pc [.int x] (fun _ => True)) (vp_Si (fun z => z = x ||| -x)) 0 0 (fun _ => False) := by
  refine zm_met (b := b_X5) [.int x] zy_X (Nat.le_of_ble_eq_true rfl) ?_
  intro p e s m below meth c ls S hr hlk hnm hl hB
  obtain ⟨hx, hb, hml, hown, hts⟩ := id S
  have hl : lv_has ls 1 [(0, .int x)] := hl
  refine lv_iload_n hx hb d_X5_0 rfl (lv_at hl 0 rfl) ?_
  refine lv_iload_n hx hb d_X5_1 rfl (lv_at hl 0 rfl) ?_
  refine lv_ineg hx hb d_X5_2 ?_
  refine lv_ior hx hb d_X5_3 ?_
  exact W.iret (v := (x ||| (-x))) hx hb hr (fun t ht hW => ⟨_, rfl, rfl, ht⟩) (fun q h => by cases h) d_X5_4
set_option maxHeartbeats 4000000 in
set_option maxRecDepth 100000 in
theorem c_X6 (l : Launch) (x q : Int32) : Met l y_X6 (zw (.code y_X6 b_X6 2 (some .int))) (rmv 0 0 0) (va_Pc [.int x, .int q] (fun _ => True)) (vp_Si (fun z => z = x ||| q)) 0 0 (fun _ => False) := by
  refine zm_met (b := b_X6) [.int x, .int q] zy_X (Nat.le_of_ble_eq_true rfl) ?_
  intro p e s m below meth c ls S hr hlk hnm hl hB
  obtain ⟨hx, hb, hml, hown, hts⟩ := id S
  have hl : lv_has ls 2 [(0, .int x), (1, .int q)] := hl
  refine lv_iload_n hx hb d_X6_0 rfl (lv_at hl 0 rfl) ?_
  refine lv_iload_n hx hb d_X6_1 rfl (lv_at hl 1 rfl) ?_
  refine lv_ior hx hb d_X6_2 ?_
  exact W.iret (v := (x ||| q)) hx hb hr (fun t ht hW => ⟨_, rfl, rfl, ht⟩) (fun q h => by cases h) d_X6_3
set_option maxHeartbeats 4000000 in
set_option maxRecDepth 100000 in
theorem c_X7 (l : Launch) (x q : Int32) : Met l y_X7 (zw (.code y_X7 b_X7 2 (some .int))) (rmv 0 0 0) (va_Pc [.int x, .int q] (fun _ => True)) (vp_Si (fun z => z = (x ^^^ (-1)) ||| q)) 0 0 (fun _ => False) := by
  refine zm_met (b := b_X7) [.int x, .int q] zy_X (Nat.le_of_ble_eq_true rfl) ?_
  intro p e s m below meth c ls S hr hlk hnm hl hB
  obtain ⟨hx, hb, hml, hown, hts⟩ := id S
  have hl : lv_has ls 2 [(0, .int x), (1, .int q)] := hl
  refine lv_iload_n hx hb d_X7_0 rfl (lv_at hl 0 rfl) ?_
  refine lv_iconst (v := (-1)) hx hb d_X7_1 (by decide) ?_
  refine lv_ixor hx hb d_X7_2 ?_
  refine lv_iload_n hx hb d_X7_3 rfl (lv_at hl 1 rfl) ?_
  refine lv_ior hx hb d_X7_4 ?_
  exact W.iret (v := ((x ^^^ (-1)) ||| q)) hx hb hr (fun t ht hW => ⟨_, rfl, rfl, ht⟩) (fun q h => by cases h) d_X7_5
set_option maxHeartbeats 4000000 in
set_option maxRecDepth 100000 in
theorem c_X9 (l : Launch) (x q : Int32) : Met l y_X9 (zw (.code y_X9 b_X9 2 (some .int))) (rmv 0 0 0) (va_Pc [.int x, .int q] (fun _ => True)) (vp_Si (fun z => z = (x &&& (q ^^^ (-1))) ||| (q &&& (-2147483648)))) 0 0 (fun _ => False) := by
  refine zm_met (b := b_X9) [.int x, .int q] zy_X (Nat.le_of_ble_eq_true rfl) ?_
  intro p e s m below meth c ls S hr hlk hnm hl hB
  obtain ⟨hx, hb, hml, hown, hts⟩ := id S
  have hl : lv_has ls 2 [(0, .int x), (1, .int q)] := hl
  refine lv_iload_n hx hb d_X9_0 rfl (lv_at hl 0 rfl) ?_
  refine lv_iload_n hx hb d_X9_1 rfl (lv_at hl 1 rfl) ?_
  refine lv_iconst (v := (-1)) hx hb d_X9_2 (by decide) ?_
  refine lv_ixor hx hb d_X9_3 ?_
  refine lv_iand hx hb d_X9_4 ?_
  refine lv_iload_n hx hb d_X9_5 rfl (lv_at hl 1 rfl) ?_
  refine lv_ldc hx hb hown (zw_at hts gx_min) d_X9_6 ?_
  refine lv_iand hx hb d_X9_8 ?_
  refine lv_ior hx hb d_X9_9 ?_
  exact W.iret (v := ((x &&& (q ^^^ (-1))) ||| (q &&& (-2147483648)))) hx hb hr (fun t ht hW => ⟨_, rfl, rfl, ht⟩) (fun q h => by cases h) d_X9_10
set_option maxHeartbeats 4000000 in
set_option maxRecDepth 100000 in
theorem c_X10 (l : Launch) (x q : Int32) : Met l y_X10 (zw (.code y_X10 b_X10 2 (some .int))) (rmv 0 0 0) (va_Pc [.int x, .int q] (fun _ => True)) (vp_Si (fun z => z = (x ||| q) &&& ((q &&& (-2147483648)) ^^^ (-1)))) 0 0 (fun _ => False) := by
  refine zm_met (b := b_X10) [.int x, .int q] zy_X (Nat.le_of_ble_eq_true rfl) ?_
  intro p e s m below meth c ls S hr hlk hnm hl hB
  obtain ⟨hx, hb, hml, hown, hts⟩ := id S
  have hl : lv_has ls 2 [(0, .int x), (1, .int q)] := hl
  refine lv_iload_n hx hb d_X10_0 rfl (lv_at hl 0 rfl) ?_
  refine lv_iload_n hx hb d_X10_1 rfl (lv_at hl 1 rfl) ?_
  refine lv_ior hx hb d_X10_2 ?_
  refine lv_iload_n hx hb d_X10_3 rfl (lv_at hl 1 rfl) ?_
  refine lv_ldc hx hb hown (zw_at hts gx_min) d_X10_4 ?_
  refine lv_iand hx hb d_X10_6 ?_
  refine lv_iconst (v := (-1)) hx hb d_X10_7 (by decide) ?_
  refine lv_ixor hx hb d_X10_8 ?_
  refine lv_iand hx hb d_X10_9 ?_
  exact W.iret (v := ((x ||| q) &&& ((q &&& (-2147483648)) ^^^ (-1)))) hx hb hr (fun t ht hW => ⟨_, rfl, rfl, ht⟩) (fun q h => by cases h) d_X10_10
set_option maxHeartbeats 4000000 in
set_option maxRecDepth 100000 in
theorem c_X2 (l : Launch)  : Met l y_X2 (zw (.code y_X2 b_X2 1 none)) (rmv 0 0 0) (va_Pc [.int 1] (fun _ => True)) (va_Sv (fun _ => True)) 0 0 (fun _ => False) := by
  refine zm_met (b := b_X2) [.int 1] zy_X (Nat.le_of_ble_eq_true rfl) ?_
  intro p e s m below meth c ls S hr hlk hnm hl hB
  obtain ⟨hx, hb, hml, hown, hts⟩ := id S
  have hl : lv_has ls 1 [(0, .int 1)] := hl
  refine lv_iload_n hx hb d_X2_0 rfl (lv_at hl 0 rfl) ?_
  refine lv_if_ne (tgt := 12) hx hb d_X2_1 (by decide) (fun hc => ?_) (fun hc => ?_)
  · exact W.vret hx hb hr (fun t ht hW => ⟨rfl, trivial, ht⟩) (fun q h => by cases h) d_X2_12
  · exact absurd hc (by decide)
set_option maxHeartbeats 4000000 in
set_option maxRecDepth 100000 in
theorem x_X2 (l : Launch) (hfl : l.flags = flags0) : MetX l y_X2 (zw (.code y_X2 b_X2 1 none)) (rmv 6 1 6) (va_Pc [.int 0] zx_E) zx_io := by
  refine zx_met (b := b_X2) [.int 0] zy_X (Nat.le_of_ble_eq_true rfl) ?_
  intro p e s m below meth c ls S hlk hno hl hB
  obtain ⟨hx, hb, hml, hown, hts⟩ := id S
  have hl : lv_has ls 1 [(0, .int 0)] := hl
  refine lv_iload_n hx hb d_X2_0 rfl (lv_at hl 0 rfl) ?_
  refine lv_if_ne (tgt := 12) hx hb d_X2_1 (by decide) (fun hc => ?_) (fun hc => ?_)
  · exact absurd rfl hc
  · exact zx_throw hfl S hB zx_own_io (by decide) gx_x23 gx_in_io gx_ini_io hl.1 (by decide) d_X2_4 d_X2_7 d_X2_8 d_X2_11 hlk hno
end
section
set_option maxHeartbeats 4000000 in
set_option maxRecDepth 100000 in
theorem c_X8 (l : Launch) (x : Int32) : Met l y_X8 (zw (.code y_X8 b_X8 3 (some .int))) (rmv 0 0 0) (va_Pc [.int x] (fun _ => True)) (vp_Si (fun z => z = nI (zlo x))) 0 0 (fun _ => False) := by
  refine zm_met (b := b_X8) [.int x] zy_X (Nat.le_of_ble_eq_true rfl) ?_
  intro p e s m below meth c ls S hr hlk hnm hl hB
  obtain ⟨hx, hb, hml, hown, hts⟩ := id S
  have hl : lv_has ls 3 [(0, .int x)] := hl
  refine lv_iconst (v := 0) hx hb d_X8_0 (by decide) ?_
  refine lv_istore_n hx hb d_X8_1 rfl hl (by decide) rfl (fun ls hl => ?_)
  have hl : lv_has ls 3 [(1, .int 0), (0, .int x)] := hl
  refine lv_iload_n hx hb d_X8_2 rfl (lv_at hl 1 rfl) ?_
  refine lv_istore_n hx hb d_X8_3 rfl hl (by decide) rfl (fun ls hl => ?_)
  have hl : lv_has ls 3 [(2, .int x), (1, .int 0), (0, .int x)] := hl
  refine zl_loop (fun k H locs ls => H = s.heap ∧ locs = [] ∧ k ≤ 32 ∧ (∀ i, i < k → bt x i = false) ∧ ∃ z, (∀ i, bt z i = bt x (k + i)) ∧ lv_has ls 3 [(2, .int z), (1, .int (nI k)), (0, .int x)]) 4 32 (fun k H locs ls h => h.2.2.1) ?_ 0 _ _ _ ⟨rfl, rfl, by omega, fun i h => absurd h (by omega), x, fun i => by rw [Nat.zero_add], hl⟩
  intro k H locs ls hI ih
  obtain ⟨rfl, rfl, hk, h1, z, hz, hl⟩ := hI
  refine lv_iload_n hx hb d_X8_4 rfl (lv_at hl 1 rfl) ?_
  refine lv_bipush (v := 32) hx hb d_X8_5 (by decide) ?_
  refine lv_icmp_ge (tgt := 26) hx hb d_X8_7 (by decide) (fun hc => ?_) (fun hc => ?_)
  · have hk2 := zi_ge 32 rfl hc hk (by decide)
    refine lv_iload_n hx hb d_X8_26 rfl (lv_at hl 1 rfl) ?_
    exact W.iret (v := (nI k)) hx hb hr (fun t ht hW => ⟨_, rfl, by rw [zlo_eq (k := k) h1 (Or.inl hk2)], ht⟩) (fun q h => by cases h) d_X8_27
  · have hk2 := zi_lt 32 rfl hc hk (by decide)
    refine lv_iload_n hx hb d_X8_10 rfl (lv_at hl 0 rfl) ?_
    refine lv_iconst (v := 1) hx hb d_X8_11 (by decide) ?_
    refine lv_iand hx hb d_X8_12 ?_
    rw [zb_bit0]
    refine lv_if_ne (tgt := 26) hx hb d_X8_13 (by decide) (fun hd => ?_) (fun hd => ?_)
    · have h2 : bt x k = true := by have := mt (zb_0 _).mpr hd; rw [hz 0, Nat.add_zero] at this; simpa using this
      refine lv_iload_n hx hb d_X8_26 rfl (lv_at hl 1 rfl) ?_
      exact W.iret (v := (nI k)) hx hb hr (fun t ht hW => ⟨_, rfl, by rw [zlo_eq (k := k) h1 (Or.inr ⟨hk2, h2⟩)], ht⟩) (fun q h => by cases h) d_X8_27
    · have h2 : bt x k = false := by have := (zb_0 _).mp hd; rwa [hz 0, Nat.add_zero] at this
      refine lv_iinc (k := 1) (v := (nI (k + 1))) hx hb d_X8_16 hl rfl (zi_inc _) (by decide) rfl (fun ls hl => ?_)
      have hl : lv_has ls 3 [(1, .int (nI (k + 1))), (2, .int z), (0, .int x)] := hl
      refine lv_iload_n hx hb d_X8_19 rfl (lv_at hl 1 rfl) ?_
      refine lv_iconst (v := 1) hx hb d_X8_20 (by decide) ?_
      refine lv_iushr hx hb d_X8_21 rfl ?_
      refine lv_istore_n hx hb d_X8_22 rfl hl (by decide) rfl (fun ls hl => ?_)
      have hl : lv_has ls 3 [(2, .int ((z).toUInt32 >>> ((1 : Int32).toUInt32 &&& Int32.toUInt32 31)).toInt32), (1, .int (nI (k + 1))), (0, .int x)] := hl
      refine lv_goto (tgt := 4) hx hb d_X8_23 (by decide) ?_
      refine ih _ _ _ ⟨rfl, rfl, by omega, fun i hi => ?_, _, fun i => ?_, lv_sub hl [0, 1, 2] rfl⟩
      · by_cases h : i = k
        · rw [h]; exact h2
        · exact h1 i (by omega)
      · rw [zu_bit, hz, show k + (1 + i) = k + 1 + i by omega]
set_option maxHeartbeats 4000000 in
set_option maxRecDepth 100000 in
theorem c_X12 (l : Launch) (a y : Int32) : Met l y_X12 (zw (.code y_X12 b_X12 3 (some .int))) (rmv 1 0 0) (va_Pc [.int a, .int y] (fun _ => True)) (vp_Si (fun z => z = zpr a y)) 0 0 (fun _ => False) := by
  refine zm_met (b := b_X12) [.int a, .int y] zy_X (Nat.le_of_ble_eq_true rfl) ?_
  intro p e s m below meth c ls S hr hlk hnm hl hB
  obtain ⟨hx, hb, hml, hown, hts⟩ := id S
  have hl : lv_has ls 3 [(0, .int a), (1, .int y)] := hl
  refine lv_iload_n hx hb d_X12_0 rfl (lv_at hl 0 rfl) ?_
  refine lv_if_ne (tgt := 9) hx hb d_X12_1 (by decide) (fun hc => ?_) (fun hc => ?_)
  · refine lv_iload_n hx hb d_X12_9 rfl (lv_at hl 0 rfl) ?_
    refine zc_Si S k_X68 (c_X8 l a) zp_S ⟨Nat.le_of_ble_eq_true rfl, Nat.le_of_ble_eq_true rfl⟩ ⟨rfl, rfl⟩ rfl hl.1 rfl (Nat.le_of_ble_eq_true rfl) d_X12_10 ⟨Nat.zero_le _, Nat.zero_le _⟩ ?_
    refine lv_iload_n hx hb d_X12_13 rfl (lv_at hl 1 rfl) ?_
    refine zc_Si S k_X68 (c_X8 l y) zp_S ⟨Nat.le_of_ble_eq_true rfl, Nat.le_of_ble_eq_true rfl⟩ ⟨rfl, rfl⟩ rfl hl.1 rfl (Nat.le_of_ble_eq_true rfl) d_X12_14 ⟨Nat.zero_le _, Nat.zero_le _⟩ ?_
    refine lv_iadd hx hb d_X12_17 ?_
    refine lv_topi (fun zz ez => ?_)
    obtain rfl : zz = (nI (zlo a + zlo y)) := ez.trans (nI_add _ _)
    refine lv_istore_n hx hb d_X12_18 rfl hl (by decide) rfl (fun ls hl => ?_)
    have hl : lv_has ls 3 [(2, .int (nI (zlo a + zlo y))), (0, .int a), (1, .int y)] := hl
    refine lv_iload_n hx hb d_X12_19 rfl (lv_at hl 0 rfl) ?_
    refine lv_bipush (v := 32) hx hb d_X12_20 (by decide) ?_
    have hla := zlo_le a
    have hly := zlo_le y
    refine lv_icmp_lt (tgt := 29) hx hb d_X12_22 (by decide) (fun hd => ?_) (fun hd => ?_)
    · refine lv_iconst (v := (-1)) hx hb d_X12_29 (by decide) ?_
      refine lv_iload_n hx hb d_X12_30 rfl (lv_at hl 0 rfl) ?_
      refine lv_ishl hx hb d_X12_31 ?_
      exact W.iret (v := ((-1) <<< ((nI (zlo a + zlo y)) &&& 31))) hx hb hr (fun t ht hW => ⟨_, rfl, by rw [zpr, if_neg hc, if_neg (fun q => absurd ((nI_ltI (a := zlo a + zlo y) (b := 32) (by omega) (by decide)).mp hd) (by omega))], ht⟩) (fun q h => by cases h) d_X12_32
    · refine lv_iconst (v := 0) hx hb d_X12_25 (by decide) ?_
      refine lv_goto (tgt := 32) hx hb d_X12_26 (by decide) ?_
      exact W.iret (v := 0) hx hb hr (fun t ht hW => ⟨_, rfl, by rw [zpr, if_neg hc, if_pos (Nat.not_lt.mp (mt (nI_ltI (a := zlo a + zlo y) (b := 32) (by omega) (by decide)).mpr hd))], ht⟩) (fun q h => by cases h) d_X12_32
  · refine lv_bipush (v := 32) hx hb d_X12_4 (by decide) ?_
    refine lv_goto (tgt := 18) hx hb d_X12_6 (by decide) ?_
    refine lv_istore_n hx hb d_X12_18 rfl hl (by decide) rfl (fun ls hl => ?_)
    have hl : lv_has ls 3 [(2, .int 32), (0, .int a), (1, .int y)] := hl
    refine lv_iload_n hx hb d_X12_19 rfl (lv_at hl 0 rfl) ?_
    refine lv_bipush (v := 32) hx hb d_X12_20 (by decide) ?_
    refine lv_icmp_lt (tgt := 29) hx hb d_X12_22 (by decide) (fun hd => ?_) (fun hd => ?_)
    · exact absurd hd (by decide)
    · refine lv_iconst (v := 0) hx hb d_X12_25 (by decide) ?_
      refine lv_goto (tgt := 32) hx hb d_X12_26 (by decide) ?_
      exact W.iret (v := 0) hx hb hr (fun t ht hW => ⟨_, rfl, by rw [zpr, if_pos hc], ht⟩) (fun q h => by cases h) d_X12_32
end
section
/-! the world of a ShadowMath: the object, its four arrays -/
abbrev XW (cI cB : ClassId) (x a0 a1 a2 a3 : Nat) (v n : Nat → Int32) (mm hh : Nat → Int8) : va_W := [(x, .inr (0, [.ref a0, .ref a1, .ref a2, .ref a3])), (a0, .inl (cI, 16, .inl v)), (a1, .inl (cI, 16, .inl n)), (a2, .inl (cB, 256, .inl (fun j => (mm j).toInt32))), (a3, .inl (cB, 256, .inl (fun j => (hh j).toInt32)))]
abbrev xT (cI cB : ClassId) : List (ClassId × FieldType) := [(cI, .int), (cB, .byte)]
theorem xw_pre {s : State} {H : Heap} {D : va_G} {cI cB : ClassId} {x a0 a1 a2 a3 : Nat} {v n : Nat → Int32} {mm hh : Nat → Int8} {As : List Value} (hK : va_K D zC (xT cI cB) s) (hP : va_P D zC (XW cI cB x a0 a1 a2 a3 v n mm hh) H) : PreV s H zc_X x (va_Pc (.ref x :: As) (zp_W D (xT cI cB) (XW cI cB x a0 a1 a2 a3 v n mm hh))) As := zp_WV hK hP (ci := 0) rfl 0 rfl hP
/-! what an operation makes: the value, and the bits that aren't given -/
abbrev zMin : Int32 := -2147483648
def zhi (x p : Int32) : Int32 := (x ||| p) &&& ((p &&& (-2147483648)) ^^^ (-1))
def zlw (x p : Int32) : Int32 := (x &&& (p ^^^ (-1))) ||| (p &&& (-2147483648))
def zult (x y : Int32) : Bool := decide (x.toBitVec.toNat < y.toBitVec.toNat)
def oV (op : Nat) (x y w : Int32) : Int32 := match op with
  | 0 => x + y
  | 1 => x - y
  | 2 => x &&& y
  | 3 => x ||| y
  | 4 => x ^^^ y
  | 5 => x <<< ((y &&& 31) &&& 31)
  | 6 => (x.toUInt32 >>> ((y &&& 31).toUInt32 &&& Int32.toUInt32 31)).toInt32
  | 7 => x >>> ((y &&& 31) &&& 31)
  | 8 => x * y
  | 9 => zb (decide (x < y))
  | 10 => zb (zult x y)
  | 11 => zb (decide (x = y))
  | _ => if bt y 0 then x else w
def oN (op : Nat) (x y p q w r : Int32) : Int32 := match op with
  | 0 => (p ||| q) ||| -(p ||| q)
  | 1 => (p ||| q) ||| -(p ||| q)
  | 2 => ((p ||| q) &&& (x ||| p)) &&& (y ||| q)
  | 3 => ((p ||| q) &&& ((x ^^^ (-1)) ||| p)) &&& ((y ^^^ (-1)) ||| q)
  | 4 => p ||| q
  | 5 => if q &&& 31 = 0 then p <<< ((y &&& 31) &&& 31) else -1
  | 6 => if q &&& 31 = 0 then (p.toUInt32 >>> ((y &&& 31).toUInt32 &&& Int32.toUInt32 31)).toInt32 else -1
  | 7 => if q &&& 31 = 0 then p >>> ((y &&& 31) &&& 31) else -1
  | 8 => zpr p (y ||| q) ||| zpr q (x ||| p)
  | 9 => zb (!decide (zhi x p < zlw y q) && decide (zlw x p < zhi y q))
  | 10 => zb (!zult (x ||| p) (y &&& (q ^^^ (-1))) && zult (x &&& (p ^^^ (-1))) (y ||| q))
  | 11 => zb (!decide (x = y ∧ p ||| q = 0) && decide (((x ^^^ y) &&& (p ^^^ (-1))) &&& (q ^^^ (-1)) = 0))
  | _ => if bt q 0 = false then (if bt y 0 then p else r) else (p ||| r) ||| (x ^^^ w)
theorem zul_off (x : Int32) : (x + (-2147483648)).toInt = (x.toBitVec.toNat : Int) - 2147483648 := by
  have h1 : x.toInt = if 2 * x.toBitVec.toNat < 2 ^ 32 then (x.toBitVec.toNat : Int) else (x.toBitVec.toNat : Int) - ((2 ^ 32 : Nat) : Int) := BitVec.toInt_eq_toNat_cond x.toBitVec
  have h2 : x.toBitVec.toNat < 2 ^ 32 := x.toBitVec.isLt
  have h3 : (-2147483648 : Int32).toInt = -2147483648 := by decide +kernel
  rw [Int32.toInt_add, h3, h1, Int.bmod_def]
  generalize x.toBitVec.toNat = n at *
  split <;> split <;> omega
theorem zult_eq (x y : Int32) : decide (x + (-2147483648) < y + (-2147483648)) = zult x y := by
  unfold zult
  congr 1
  rw [Int32.lt_iff_toInt_lt, zul_off, zul_off]
  exact propext ⟨fun h => by omega, fun h => by omega⟩
theorem oV_0 (x y w : Int32) : oV 0 x y w = x + y := rfl
theorem oV_1 (x y w : Int32) : oV 1 x y w = x - y := rfl
theorem oV_2 (x y w : Int32) : oV 2 x y w = x &&& y := rfl
theorem oV_3 (x y w : Int32) : oV 3 x y w = x ||| y := rfl
theorem oV_4 (x y w : Int32) : oV 4 x y w = x ^^^ y := rfl
theorem oV_5 (x y w : Int32) : oV 5 x y w = x <<< ((y &&& 31) &&& 31) := rfl
theorem oV_6 (x y w : Int32) : oV 6 x y w = (x.toUInt32 >>> ((y &&& 31).toUInt32 &&& Int32.toUInt32 31)).toInt32 := rfl
theorem oV_7 (x y w : Int32) : oV 7 x y w = x >>> ((y &&& 31) &&& 31) := rfl
theorem oV_8 (x y w : Int32) : oV 8 x y w = x * y := rfl
theorem oV_9 (x y w : Int32) : oV 9 x y w = zb (decide (x < y)) := rfl
theorem oV_10 (x y w : Int32) : oV 10 x y w = zb (zult x y) := rfl
theorem oV_11 (x y w : Int32) : oV 11 x y w = zb (decide (x = y)) := rfl
theorem oV_12 (x y w : Int32) : oV 12 x y w = if bt y 0 then x else w := rfl
theorem oN_0 (x y p q w r : Int32) : oN 0 x y p q w r = (p ||| q) ||| -(p ||| q) := rfl
theorem oN_1 (x y p q w r : Int32) : oN 1 x y p q w r = (p ||| q) ||| -(p ||| q) := rfl
theorem oN_2 (x y p q w r : Int32) : oN 2 x y p q w r = ((p ||| q) &&& (x ||| p)) &&& (y ||| q) := rfl
theorem oN_3 (x y p q w r : Int32) : oN 3 x y p q w r = ((p ||| q) &&& ((x ^^^ (-1)) ||| p)) &&& ((y ^^^ (-1)) ||| q) := rfl
theorem oN_4 (x y p q w r : Int32) : oN 4 x y p q w r = p ||| q := rfl
theorem oN_5 (x y p q w r : Int32) : oN 5 x y p q w r = if q &&& 31 = 0 then p <<< ((y &&& 31) &&& 31) else -1 := rfl
theorem oN_6 (x y p q w r : Int32) : oN 6 x y p q w r = if q &&& 31 = 0 then (p.toUInt32 >>> ((y &&& 31).toUInt32 &&& Int32.toUInt32 31)).toInt32 else -1 := rfl
theorem oN_7 (x y p q w r : Int32) : oN 7 x y p q w r = if q &&& 31 = 0 then p >>> ((y &&& 31) &&& 31) else -1 := rfl
theorem oN_8 (x y p q w r : Int32) : oN 8 x y p q w r = zpr p (y ||| q) ||| zpr q (x ||| p) := rfl
theorem oN_9 (x y p q w r : Int32) : oN 9 x y p q w r = zb (!decide (zhi x p < zlw y q) && decide (zlw x p < zhi y q)) := rfl
theorem oN_10 (x y p q w r : Int32) : oN 10 x y p q w r = zb (!zult (x ||| p) (y &&& (q ^^^ (-1))) && zult (x &&& (p ^^^ (-1))) (y ||| q)) := rfl
theorem oN_11 (x y p q w r : Int32) : oN 11 x y p q w r = zb (!decide (x = y ∧ p ||| q = 0) && decide (((x ^^^ y) &&& (p ^^^ (-1))) &&& (q ^^^ (-1)) = 0)) := rfl
theorem oN_12 (x y p q w r : Int32) : oN 12 x y p q w r = if bt q 0 = false then (if bt y 0 then p else r) else (p ||| r) ||| (x ^^^ w) := rfl
end
section
set_option maxHeartbeats 4000000 in
set_option maxRecDepth 100000 in
theorem c_X14 (l : Launch) (D : va_G) (cI cB : ClassId) (x a0 a1 a2 a3 : Nat) (hnd : [x, a0, a1, a2, a3].Nodup) (v n : Nat → Int32) (mm hh : Nat → Int8) (d : Nat) (hd : d < 16) (y q : Int32) : Met l y_X14 (zw (.code y_X14 b_X14 4 none)) (rmv 0 0 0) (va_Pc [.ref x, .int (nI d), .int y, .int q] (zp_W D (xT cI cB) (XW cI cB x a0 a1 a2 a3 v n mm hh))) (zq_w (fun rv H => rv = none ∧ va_P D zC (XW cI cB x a0 a1 a2 a3 (zs v d y) (zs n d q) mm hh) H) (fun q => q ∈ [x, a0, a1, a2, a3])) 0 0 (fun q => q ∈ [x, a0, a1, a2, a3]) := by
  refine zm_met (b := b_X14) [.ref x, .int (nI d), .int y, .int q] zy_X (Nat.le_of_ble_eq_true rfl) ?_
  intro p e s m below meth c ls S hr hlk hnm hl hB
  obtain ⟨hx, hb, hml, hown, hts⟩ := id S
  have hl : lv_has ls 4 [(0, .ref x), (1, .int (nI d)), (2, .int y), (3, .int q)] := hl
  obtain ⟨hP, hK⟩ := hB
  have hS : va_S (fun q => q ∈ [x, a0, a1, a2, a3]) s.heap s.heap [] := va_S.rf
  have hz : s.heap.size = s.heap.size := rfl
  refine lv_aload_n hx hb d_X14_0 rfl (lv_at hl 0 rfl) ?_
  refine zg_X S hK hP rfl 0 (by decide) zl_X0 rfl d_X14_1 ?_
  refine lv_iload_n hx hb d_X14_4 rfl (lv_at hl 1 rfl) ?_
  refine lv_iload_n hx hb d_X14_5 rfl (lv_at hl 2 rfl) ?_
  refine zi_st hx hb hK hP (zd_of rfl hnd) hS 1 0 rfl rfl (j := d) hd (by decide) d_X14_6 (fun H locs hP hS hz1 => ?_)
  have hP : va_P D zC (XW cI cB x a0 a1 a2 a3 (zs v (d) y) n mm hh) H := hP
  have hz : H.size = s.heap.size := hz1.trans hz
  clear hz1
  refine lv_aload_n hx hb d_X14_7 rfl (lv_at hl 0 rfl) ?_
  refine zg_X S hK hP rfl 1 (by decide) zl_X1 rfl d_X14_8 ?_
  refine lv_iload_n hx hb d_X14_11 rfl (lv_at hl 1 rfl) ?_
  refine lv_iload_n hx hb d_X14_12 rfl (lv_at hl 3 rfl) ?_
  refine zi_st hx hb hK hP (zd_of rfl hnd) hS 2 0 rfl rfl (j := d) hd (by decide) d_X14_13 (fun H locs hP hS hz1 => ?_)
  have hP : va_P D zC (XW cI cB x a0 a1 a2 a3 (zs v (d) y) (zs n (d) q) mm hh) H := hP
  have hz : H.size = s.heap.size := hz1.trans hz
  clear hz1
  exact W.vret hx hb hr (fun t ht hW => zq_end hS hz ⟨rfl, hP⟩ ht) hS.2.2 d_X14_14
set_option maxHeartbeats 4000000 in
set_option maxRecDepth 100000 in
theorem c_X13 (l : Launch) (D : va_G) (cI cB : ClassId) (x a0 a1 a2 a3 : Nat) (hnd : [x, a0, a1, a2, a3].Nodup) (v n : Nat → Int32) (mm hh : Nat → Int8) (d : Nat) (hd : d < 16) (i mu ma : Bool) : Met l y_X13 (zw (.code y_X13 b_X13 5 none)) (rmv 1 0 0) (va_Pc [.ref x, .int (nI d), .int (zb i), .int (zb mu), .int (zb ma)] (zp_W D (xT cI cB) (XW cI cB x a0 a1 a2 a3 v n mm hh))) (zq_w (fun rv H => rv = none ∧ va_P D zC (XW cI cB x a0 a1 a2 a3 (zs v d (zb i)) (zs n d (zb (!mu && ma))) mm hh) H) (fun q => q ∈ [x, a0, a1, a2, a3])) 0 0 (fun q => q ∈ [x, a0, a1, a2, a3]) := by
  refine zm_met (b := b_X13) [.ref x, .int (nI d), .int (zb i), .int (zb mu), .int (zb ma)] zy_X (Nat.le_of_ble_eq_true rfl) ?_
  intro p e s m below meth c ls S hr hlk hnm hl hB
  obtain ⟨hx, hb, hml, hown, hts⟩ := id S
  have hl : lv_has ls 5 [(0, .ref x), (1, .int (nI d)), (2, .int (zb i)), (3, .int (zb mu)), (4, .int (zb ma))] := hl
  obtain ⟨hP, hK⟩ := hB
  have hS : va_S (fun q => q ∈ [x, a0, a1, a2, a3]) s.heap s.heap [] := va_S.rf
  have hz : s.heap.size = s.heap.size := rfl
  refine lv_aload_n hx hb d_X13_0 rfl (lv_at hl 0 rfl) ?_
  refine lv_iload_n hx hb d_X13_1 rfl (lv_at hl 1 rfl) ?_
  refine lv_iload_n hx hb d_X13_2 rfl (lv_at hl 2 rfl) ?_
  refine zd_if_eq hx hb d_X13_3 d_X13_6 d_X13_7 d_X13_10 ?_
  refine lv_topi (fun zz ez => ?_)
  obtain rfl : zz = (zb i) := ez.trans (by cases i <;> rfl)
  refine zj_i (x := zb (!mu && ma)) (pc := 25) (ls := ls) (rest := [.int (zb i), .int (nI d), .ref x]) ?_ (fun J => ?_)
  · intro z hz9
    subst hz9
    refine zc_Vw (C := zc_X) S k_X44 (c_X14 l D cI cB x a0 a1 a2 a3 hnd v n mm hh d hd (zb i) (zb (!mu && ma))) rfl (xw_pre hK hP) ⟨Nat.le_of_ble_eq_true rfl, Nat.le_of_ble_eq_true rfl⟩ ⟨rfl, rfl⟩ rfl hl.1 rfl (Nat.le_of_ble_eq_true rfl) d_X13_25 ⟨Nat.zero_le _, Nat.zero_le _⟩ hS (fun rv H locs hq hz1 hS => ?_)
    obtain ⟨rfl, hP⟩ := hq
    have hz : H.size = s.heap.size := hz1.trans hz
    clear hz1
    exact W.vret hx hb hr (fun t ht hW => zq_end hS hz ⟨rfl, hP⟩ ht) hS.2.2 d_X13_28
  refine lv_iload_n hx hb d_X13_11 rfl (lv_at hl 3 rfl) ?_
  refine lv_if_ne (tgt := 20) hx hb d_X13_12 (by decide) (fun h1 => ?_) (fun h1 => ?_)
  · refine lv_iconst (v := 0) hx hb d_X13_20 (by decide) ?_
    refine lv_goto (tgt := 25) hx hb d_X13_21 (by decide) ?_
    exact J _ (by have := mt (zb_0 mu).mpr h1; cases mu <;> simp_all [zb])
  · refine lv_iload hx hb d_X13_15 (lv_at hl 4 rfl) ?_
    refine lv_if_ne (tgt := 24) hx hb d_X13_17 (by decide) (fun h2 => ?_) (fun h2 => ?_)
    · refine lv_iconst (v := 1) hx hb d_X13_24 (by decide) ?_
      exact J _ (by have := (zb_0 mu).mp h1; have := mt (zb_0 ma).mpr h2; cases ma <;> simp_all [zb])
    · refine lv_iconst (v := 0) hx hb d_X13_20 (by decide) ?_
      refine lv_goto (tgt := 25) hx hb d_X13_21 (by decide) ?_
      exact J _ (by have := (zb_0 mu).mp h1; have := (zb_0 ma).mp h2; simp_all [zb])
set_option maxHeartbeats 4000000 in
set_option maxRecDepth 100000 in
theorem c_X4 (l : Launch) (D : va_G) (cI cB : ClassId) (x a0 a1 a2 a3 : Nat) (hnd : [x, a0, a1, a2, a3].Nodup) (v n : Nat → Int32) (mm hh : Nat → Int8) (r : Nat) (hr9 : r < 16) (y q : Int32) : Met l y_X4 (zw (.code y_X4 b_X4 4 none)) (rmv 1 0 0) (va_Pc [.ref x, .int (nI r), .int y, .int q] (zp_W D (xT cI cB) (XW cI cB x a0 a1 a2 a3 v n mm hh))) (zq_w (fun rv H => rv = none ∧ va_P D zC (XW cI cB x a0 a1 a2 a3 (zs v r y) (zs n r q) mm hh) H) (fun q => q ∈ [x, a0, a1, a2, a3])) 0 0 (fun q => q ∈ [x, a0, a1, a2, a3]) := by
  refine zm_met (b := b_X4) [.ref x, .int (nI r), .int y, .int q] zy_X (Nat.le_of_ble_eq_true rfl) ?_
  intro p e s m below meth c ls S hr hlk hnm hl hB
  obtain ⟨hx, hb, hml, hown, hts⟩ := id S
  have hl : lv_has ls 4 [(0, .ref x), (1, .int (nI r)), (2, .int y), (3, .int q)] := hl
  obtain ⟨hP, hK⟩ := hB
  have hS : va_S (fun q => q ∈ [x, a0, a1, a2, a3]) s.heap s.heap [] := va_S.rf
  have hz : s.heap.size = s.heap.size := rfl
  refine lv_iload_n hx hb d_X4_0 rfl (lv_at hl 1 rfl) ?_
  refine zc_Si S k_X26 (c_X3 l (nI r)) zp_S ⟨Nat.le_of_ble_eq_true rfl, Nat.le_of_ble_eq_true rfl⟩ ⟨rfl, rfl⟩ rfl hl.1 rfl (Nat.le_of_ble_eq_true rfl) d_X4_1 ⟨Nat.zero_le _, Nat.zero_le _⟩ ?_
  rw [zk_in hr9]
  refine zc_Sv S k_X30 (c_X2 l) zp_S ⟨Nat.le_of_ble_eq_true rfl, Nat.le_of_ble_eq_true rfl⟩ ⟨rfl, rfl⟩ rfl hl.1 rfl (Nat.le_of_ble_eq_true rfl) d_X4_4 ⟨Nat.zero_le _, Nat.zero_le _⟩ ?_
  refine lv_aload_n hx hb d_X4_7 rfl (lv_at hl 0 rfl) ?_
  refine zg_X S hK hP rfl 0 (by decide) zl_X0 rfl d_X4_8 ?_
  refine lv_iload_n hx hb d_X4_11 rfl (lv_at hl 1 rfl) ?_
  refine lv_iload_n hx hb d_X4_12 rfl (lv_at hl 2 rfl) ?_
  refine zi_st hx hb hK hP (zd_of rfl hnd) hS 1 0 rfl rfl (j := r) hr9 (by decide) d_X4_13 (fun H locs hP hS hz1 => ?_)
  have hP : va_P D zC (XW cI cB x a0 a1 a2 a3 (zs v (r) y) n mm hh) H := hP
  have hz : H.size = s.heap.size := hz1.trans hz
  clear hz1
  refine lv_aload_n hx hb d_X4_14 rfl (lv_at hl 0 rfl) ?_
  refine zg_X S hK hP rfl 1 (by decide) zl_X1 rfl d_X4_15 ?_
  refine lv_iload_n hx hb d_X4_18 rfl (lv_at hl 1 rfl) ?_
  refine lv_iload_n hx hb d_X4_19 rfl (lv_at hl 3 rfl) ?_
  refine zi_st hx hb hK hP (zd_of rfl hnd) hS 2 0 rfl rfl (j := r) hr9 (by decide) d_X4_20 (fun H locs hP hS hz1 => ?_)
  have hP : va_P D zC (XW cI cB x a0 a1 a2 a3 (zs v (r) y) (zs n (r) q) mm hh) H := hP
  have hz : H.size = s.heap.size := hz1.trans hz
  clear hz1
  exact W.vret hx hb hr (fun t ht hW => zq_end hS hz ⟨rfl, hP⟩ ht) hS.2.2 d_X4_21
end
section
set_option maxHeartbeats 4000000 in
set_option maxRecDepth 100000 in
theorem c_X11 (l : Launch) (D : va_G) (cI cB : ClassId) (x a0 a1 a2 a3 : Nat) (hnd : [x, a0, a1, a2, a3].Nodup) (v n : Nat → Int32) (mm hh : Nat → Int8) (op d a b : Nat) (hop : op < 13) (hd : d < 16) (ha : a < 16) (hb9 : b < 16) : Met l y_X11 (zw (.code y_X11 b_X11 13 none)) (rmv 2 0 0) (va_Pc [.ref x, .int (nI op), .int (nI d), .int (nI a), .int (nI b)] (zp_W D (xT cI cB) (XW cI cB x a0 a1 a2 a3 v n mm hh))) (zq_w (fun rv H => rv = none ∧ va_P D zC (XW cI cB x a0 a1 a2 a3 (zs v d (oV op (v a) (v b) (v d))) (zs n d (oN op (v a) (v b) (n a) (n b) (v d) (n d))) mm hh) H) (fun q => q ∈ [x, a0, a1, a2, a3])) 0 0 (fun q => q ∈ [x, a0, a1, a2, a3]) := by
  refine zm_met (b := b_X11) [.ref x, .int (nI op), .int (nI d), .int (nI a), .int (nI b)] zy_X (Nat.le_of_ble_eq_true rfl) ?_
  intro p e s m below meth c ls S hr hlk hnm hl hB
  obtain ⟨hx, hb, hml, hown, hts⟩ := id S
  have hl : lv_has ls 13 [(0, .ref x), (1, .int (nI op)), (2, .int (nI d)), (3, .int (nI a)), (4, .int (nI b))] := hl
  obtain ⟨hP, hK⟩ := hB
  have hS : va_S (fun q => q ∈ [x, a0, a1, a2, a3]) s.heap s.heap [] := va_S.rf
  have hz : s.heap.size = s.heap.size := rfl
  refine lv_iload_n hx hb d_X11_0 rfl (lv_at hl 1 rfl) ?_
  refine lv_if_lt (tgt := 10) hx hb d_X11_1 (by decide) (fun hc => ?_) (fun hc => ?_)
  · exact absurd hc (nI_pos (by omega))
  · refine lv_iload_n hx hb d_X11_4 rfl (lv_at hl 1 rfl) ?_
    refine lv_bipush (v := 13) hx hb d_X11_5 (by decide) ?_
    refine lv_icmp_lt (tgt := 18) hx hb d_X11_7 (by decide) (fun hc2 => ?_) (fun hc2 => ?_)
    · refine lv_iload_n hx hb d_X11_18 rfl (lv_at hl 2 rfl) ?_
      refine zc_Si S k_X26 (c_X3 l (nI d)) zp_S ⟨Nat.le_of_ble_eq_true rfl, Nat.le_of_ble_eq_true rfl⟩ ⟨rfl, rfl⟩ rfl hl.1 rfl (Nat.le_of_ble_eq_true rfl) d_X11_19 ⟨Nat.zero_le _, Nat.zero_le _⟩ ?_
      rw [zk_in hd]
      refine lv_if_eq (tgt := 44) hx hb d_X11_22 (by decide) (fun hq => absurd hq (by decide)) (fun hq => ?_)
      clear hq
      refine lv_iload_n hx hb d_X11_25 rfl (lv_at hl 3 rfl) ?_
      refine zc_Si S k_X26 (c_X3 l (nI a)) zp_S ⟨Nat.le_of_ble_eq_true rfl, Nat.le_of_ble_eq_true rfl⟩ ⟨rfl, rfl⟩ rfl hl.1 rfl (Nat.le_of_ble_eq_true rfl) d_X11_26 ⟨Nat.zero_le _, Nat.zero_le _⟩ ?_
      rw [zk_in ha]
      refine lv_if_eq (tgt := 44) hx hb d_X11_29 (by decide) (fun hq => absurd hq (by decide)) (fun hq => ?_)
      clear hq
      refine lv_iload hx hb d_X11_32 (lv_at hl 4 rfl) ?_
      refine zc_Si S k_X26 (c_X3 l (nI b)) zp_S ⟨Nat.le_of_ble_eq_true rfl, Nat.le_of_ble_eq_true rfl⟩ ⟨rfl, rfl⟩ rfl hl.1 rfl (Nat.le_of_ble_eq_true rfl) d_X11_34 ⟨Nat.zero_le _, Nat.zero_le _⟩ ?_
      rw [zk_in hb9]
      refine lv_if_eq (tgt := 44) hx hb d_X11_37 (by decide) (fun hq => absurd hq (by decide)) (fun hq => ?_)
      clear hq
      refine lv_iconst (v := 1) hx hb d_X11_40 (by decide) ?_
      refine lv_goto (tgt := 45) hx hb d_X11_41 (by decide) ?_
      refine zc_Sv S k_X30 (c_X2 l) zp_S ⟨Nat.le_of_ble_eq_true rfl, Nat.le_of_ble_eq_true rfl⟩ ⟨rfl, rfl⟩ rfl hl.1 rfl (Nat.le_of_ble_eq_true rfl) d_X11_45 ⟨Nat.zero_le _, Nat.zero_le _⟩ ?_
      refine lv_aload_n hx hb d_X11_48 rfl (lv_at hl 0 rfl) ?_
      refine zg_X S hK hP rfl 0 (by decide) zl_X0 rfl d_X11_49 ?_
      refine lv_iload_n hx hb d_X11_52 rfl (lv_at hl 3 rfl) ?_
      refine zi_ld hx hb hK hP 1 0 rfl rfl (j := a) ha (by decide) d_X11_53 ?_
      refine lv_istore hx hb d_X11_54 hl (by decide) rfl (fun ls hl => ?_)
      have hl : lv_has ls 13 [(5, .int (v a)), (0, .ref x), (1, .int (nI op)), (2, .int (nI d)), (3, .int (nI a)), (4, .int (nI b))] := hl
      refine lv_aload_n hx hb d_X11_56 rfl (lv_at hl 1 rfl) ?_
      refine zg_X S hK hP rfl 0 (by decide) zl_X0 rfl d_X11_57 ?_
      refine lv_iload hx hb d_X11_60 (lv_at hl 5 rfl) ?_
      refine zi_ld hx hb hK hP 1 0 rfl rfl (j := b) hb9 (by decide) d_X11_62 ?_
      refine lv_istore hx hb d_X11_63 hl (by decide) rfl (fun ls hl => ?_)
      have hl : lv_has ls 13 [(6, .int (v b)), (5, .int (v a)), (0, .ref x), (1, .int (nI op)), (2, .int (nI d)), (3, .int (nI a)), (4, .int (nI b))] := hl
      refine lv_aload_n hx hb d_X11_65 rfl (lv_at hl 2 rfl) ?_
      refine zg_X S hK hP rfl 1 (by decide) zl_X1 rfl d_X11_66 ?_
      refine lv_iload_n hx hb d_X11_69 rfl (lv_at hl 5 rfl) ?_
      refine zi_ld hx hb hK hP 2 0 rfl rfl (j := a) ha (by decide) d_X11_70 ?_
      refine lv_istore hx hb d_X11_71 hl (by decide) rfl (fun ls hl => ?_)
      have hl : lv_has ls 13 [(7, .int (n a)), (6, .int (v b)), (5, .int (v a)), (0, .ref x), (1, .int (nI op)), (2, .int (nI d)), (3, .int (nI a)), (4, .int (nI b))] := hl
      refine lv_aload_n hx hb d_X11_73 rfl (lv_at hl 3 rfl) ?_
      refine zg_X S hK hP rfl 1 (by decide) zl_X1 rfl d_X11_74 ?_
      refine lv_iload hx hb d_X11_77 (lv_at hl 7 rfl) ?_
      refine zi_ld hx hb hK hP 2 0 rfl rfl (j := b) hb9 (by decide) d_X11_79 ?_
      refine lv_istore hx hb d_X11_80 hl (by decide) rfl (fun ls hl => ?_)
      have hl : lv_has ls 13 [(8, .int (n b)), (7, .int (n a)), (6, .int (v b)), (5, .int (v a)), (0, .ref x), (1, .int (nI op)), (2, .int (nI d)), (3, .int (nI a)), (4, .int (nI b))] := hl
      refine lv_iload hx hb d_X11_82 (lv_at hl 2 rfl) ?_
      refine lv_bipush (v := 31) hx hb d_X11_84 (by decide) ?_
      refine lv_iand hx hb d_X11_86 ?_
      refine lv_istore hx hb d_X11_87 hl (by decide) rfl (fun ls hl => ?_)
      have hl : lv_has ls 13 [(9, .int ((v b) &&& 31)), (8, .int (n b)), (7, .int (n a)), (6, .int (v b)), (5, .int (v a)), (0, .ref x), (1, .int (nI op)), (2, .int (nI d)), (3, .int (nI a)), (4, .int (nI b))] := hl
      refine lv_iload hx hb d_X11_89 (lv_at hl 1 rfl) ?_
      refine lv_bipush (v := 31) hx hb d_X11_91 (by decide) ?_
      refine lv_iand hx hb d_X11_93 ?_
      refine zd_if_ne hx hb d_X11_94 d_X11_97 d_X11_98 d_X11_101 ?_
      refine lv_istore hx hb d_X11_102 hl (by decide) rfl (fun ls hl => ?_)
      have hl : lv_has ls 13 [(10, .int (zb (decide (((n b) &&& 31) = 0)))), (9, .int ((v b) &&& 31)), (8, .int (n b)), (7, .int (n a)), (6, .int (v b)), (5, .int (v a)), (0, .ref x), (1, .int (nI op)), (2, .int (nI d)), (3, .int (nI a)), (4, .int (nI b))] := hl
      refine lv_iload_n hx hb d_X11_104 rfl (lv_at hl 7 rfl) ?_
      obtain rfl | rfl | rfl | rfl | rfl | rfl | rfl | rfl | rfl | rfl | rfl | rfl | rfl : op = 0 ∨ op = 1 ∨ op = 2 ∨ op = 3 ∨ op = 4 ∨ op = 5 ∨ op = 6 ∨ op = 7 ∨ op = 8 ∨ op = 9 ∨ op = 10 ∨ op = 11 ∨ op = 12 := by omega
      · refine lv_tableIn (tgt := 168) hx hb d_X11_105 (by decide) (by decide) rfl (by decide) ?_
        rw [oV_0, oN_0]
        refine lv_aload_n hx hb d_X11_168 rfl (lv_at hl 6 rfl) ?_
        refine lv_iload_n hx hb d_X11_169 rfl (lv_at hl 8 rfl) ?_
        refine lv_iload hx hb d_X11_170 (lv_at hl 5 rfl) ?_
        refine lv_iload hx hb d_X11_172 (lv_at hl 4 rfl) ?_
        refine lv_iadd hx hb d_X11_174 ?_
        refine lv_iload hx hb d_X11_175 (lv_at hl 3 rfl) ?_
        refine lv_iload hx hb d_X11_177 (lv_at hl 2 rfl) ?_
        refine lv_ior hx hb d_X11_179 ?_
        refine zc_Si S k_X40 (c_X5 l _) zp_S ⟨Nat.le_of_ble_eq_true rfl, Nat.le_of_ble_eq_true rfl⟩ ⟨rfl, rfl⟩ rfl hl.1 rfl (Nat.le_of_ble_eq_true rfl) d_X11_180 ⟨Nat.zero_le _, Nat.zero_le _⟩ ?_
        refine zc_Vw (C := zc_X) S k_X44 (c_X14 l D cI cB x a0 a1 a2 a3 hnd v n mm hh d hd ((v a) + (v b)) (((n a) ||| (n b)) ||| -((n a) ||| (n b)))) rfl (xw_pre hK hP) ⟨Nat.le_of_ble_eq_true rfl, Nat.le_of_ble_eq_true rfl⟩ ⟨rfl, rfl⟩ rfl hl.1 rfl (Nat.le_of_ble_eq_true rfl) d_X11_183 ⟨Nat.zero_le _, Nat.zero_le _⟩ hS (fun rv H locs hq hz1 hS => ?_)
        obtain ⟨rfl, hP⟩ := hq
        have hz : H.size = s.heap.size := hz1.trans hz
        clear hz1
        refine lv_goto (tgt := 702) hx hb d_X11_186 (by decide) ?_
        exact W.vret hx hb hr (fun t ht hW => by exact zq_end hS hz ⟨rfl, hP⟩ ht) hS.2.2 d_X11_702
      · refine lv_tableIn (tgt := 189) hx hb d_X11_105 (by decide) (by decide) rfl (by decide) ?_
        rw [oV_1, oN_1]
        refine lv_aload_n hx hb d_X11_189 rfl (lv_at hl 6 rfl) ?_
        refine lv_iload_n hx hb d_X11_190 rfl (lv_at hl 8 rfl) ?_
        refine lv_iload hx hb d_X11_191 (lv_at hl 5 rfl) ?_
        refine lv_iload hx hb d_X11_193 (lv_at hl 4 rfl) ?_
        refine lv_isub hx hb d_X11_195 ?_
        refine lv_iload hx hb d_X11_196 (lv_at hl 3 rfl) ?_
        refine lv_iload hx hb d_X11_198 (lv_at hl 2 rfl) ?_
        refine lv_ior hx hb d_X11_200 ?_
        refine zc_Si S k_X40 (c_X5 l _) zp_S ⟨Nat.le_of_ble_eq_true rfl, Nat.le_of_ble_eq_true rfl⟩ ⟨rfl, rfl⟩ rfl hl.1 rfl (Nat.le_of_ble_eq_true rfl) d_X11_201 ⟨Nat.zero_le _, Nat.zero_le _⟩ ?_
        refine zc_Vw (C := zc_X) S k_X44 (c_X14 l D cI cB x a0 a1 a2 a3 hnd v n mm hh d hd ((v a) - (v b)) (((n a) ||| (n b)) ||| -((n a) ||| (n b)))) rfl (xw_pre hK hP) ⟨Nat.le_of_ble_eq_true rfl, Nat.le_of_ble_eq_true rfl⟩ ⟨rfl, rfl⟩ rfl hl.1 rfl (Nat.le_of_ble_eq_true rfl) d_X11_204 ⟨Nat.zero_le _, Nat.zero_le _⟩ hS (fun rv H locs hq hz1 hS => ?_)
        obtain ⟨rfl, hP⟩ := hq
        have hz : H.size = s.heap.size := hz1.trans hz
        clear hz1
        refine lv_goto (tgt := 702) hx hb d_X11_207 (by decide) ?_
        exact W.vret hx hb hr (fun t ht hW => by exact zq_end hS hz ⟨rfl, hP⟩ ht) hS.2.2 d_X11_702
      · refine lv_tableIn (tgt := 210) hx hb d_X11_105 (by decide) (by decide) rfl (by decide) ?_
        rw [oV_2, oN_2]
        refine lv_aload_n hx hb d_X11_210 rfl (lv_at hl 6 rfl) ?_
        refine lv_iload_n hx hb d_X11_211 rfl (lv_at hl 8 rfl) ?_
        refine lv_iload hx hb d_X11_212 (lv_at hl 5 rfl) ?_
        refine lv_iload hx hb d_X11_214 (lv_at hl 4 rfl) ?_
        refine lv_iand hx hb d_X11_216 ?_
        refine lv_iload hx hb d_X11_217 (lv_at hl 3 rfl) ?_
        refine lv_iload hx hb d_X11_219 (lv_at hl 2 rfl) ?_
        refine lv_ior hx hb d_X11_221 ?_
        refine lv_iload hx hb d_X11_222 (lv_at hl 5 rfl) ?_
        refine lv_iload hx hb d_X11_224 (lv_at hl 3 rfl) ?_
        refine zc_Si S k_X48 (c_X6 l _ _) zp_S ⟨Nat.le_of_ble_eq_true rfl, Nat.le_of_ble_eq_true rfl⟩ ⟨rfl, rfl⟩ rfl hl.1 rfl (Nat.le_of_ble_eq_true rfl) d_X11_226 ⟨Nat.zero_le _, Nat.zero_le _⟩ ?_
        refine lv_iand hx hb d_X11_229 ?_
        refine lv_iload hx hb d_X11_230 (lv_at hl 4 rfl) ?_
        refine lv_iload hx hb d_X11_232 (lv_at hl 2 rfl) ?_
        refine zc_Si S k_X48 (c_X6 l _ _) zp_S ⟨Nat.le_of_ble_eq_true rfl, Nat.le_of_ble_eq_true rfl⟩ ⟨rfl, rfl⟩ rfl hl.1 rfl (Nat.le_of_ble_eq_true rfl) d_X11_234 ⟨Nat.zero_le _, Nat.zero_le _⟩ ?_
        refine lv_iand hx hb d_X11_237 ?_
        refine zc_Vw (C := zc_X) S k_X44 (c_X14 l D cI cB x a0 a1 a2 a3 hnd v n mm hh d hd ((v a) &&& (v b)) ((((n a) ||| (n b)) &&& ((v a) ||| (n a))) &&& ((v b) ||| (n b)))) rfl (xw_pre hK hP) ⟨Nat.le_of_ble_eq_true rfl, Nat.le_of_ble_eq_true rfl⟩ ⟨rfl, rfl⟩ rfl hl.1 rfl (Nat.le_of_ble_eq_true rfl) d_X11_238 ⟨Nat.zero_le _, Nat.zero_le _⟩ hS (fun rv H locs hq hz1 hS => ?_)
        obtain ⟨rfl, hP⟩ := hq
        have hz : H.size = s.heap.size := hz1.trans hz
        clear hz1
        refine lv_goto (tgt := 702) hx hb d_X11_241 (by decide) ?_
        exact W.vret hx hb hr (fun t ht hW => by exact zq_end hS hz ⟨rfl, hP⟩ ht) hS.2.2 d_X11_702
      · refine lv_tableIn (tgt := 244) hx hb d_X11_105 (by decide) (by decide) rfl (by decide) ?_
        rw [oV_3, oN_3]
        refine lv_aload_n hx hb d_X11_244 rfl (lv_at hl 6 rfl) ?_
        refine lv_iload_n hx hb d_X11_245 rfl (lv_at hl 8 rfl) ?_
        refine lv_iload hx hb d_X11_246 (lv_at hl 5 rfl) ?_
        refine lv_iload hx hb d_X11_248 (lv_at hl 4 rfl) ?_
        refine lv_ior hx hb d_X11_250 ?_
        refine lv_iload hx hb d_X11_251 (lv_at hl 3 rfl) ?_
        refine lv_iload hx hb d_X11_253 (lv_at hl 2 rfl) ?_
        refine lv_ior hx hb d_X11_255 ?_
        refine lv_iload hx hb d_X11_256 (lv_at hl 5 rfl) ?_
        refine lv_iload hx hb d_X11_258 (lv_at hl 3 rfl) ?_
        refine zc_Si S k_X52 (c_X7 l _ _) zp_S ⟨Nat.le_of_ble_eq_true rfl, Nat.le_of_ble_eq_true rfl⟩ ⟨rfl, rfl⟩ rfl hl.1 rfl (Nat.le_of_ble_eq_true rfl) d_X11_260 ⟨Nat.zero_le _, Nat.zero_le _⟩ ?_
        refine lv_iand hx hb d_X11_263 ?_
        refine lv_iload hx hb d_X11_264 (lv_at hl 4 rfl) ?_
        refine lv_iload hx hb d_X11_266 (lv_at hl 2 rfl) ?_
        refine zc_Si S k_X52 (c_X7 l _ _) zp_S ⟨Nat.le_of_ble_eq_true rfl, Nat.le_of_ble_eq_true rfl⟩ ⟨rfl, rfl⟩ rfl hl.1 rfl (Nat.le_of_ble_eq_true rfl) d_X11_268 ⟨Nat.zero_le _, Nat.zero_le _⟩ ?_
        refine lv_iand hx hb d_X11_271 ?_
        refine zc_Vw (C := zc_X) S k_X44 (c_X14 l D cI cB x a0 a1 a2 a3 hnd v n mm hh d hd ((v a) ||| (v b)) ((((n a) ||| (n b)) &&& (((v a) ^^^ (-1)) ||| (n a))) &&& (((v b) ^^^ (-1)) ||| (n b)))) rfl (xw_pre hK hP) ⟨Nat.le_of_ble_eq_true rfl, Nat.le_of_ble_eq_true rfl⟩ ⟨rfl, rfl⟩ rfl hl.1 rfl (Nat.le_of_ble_eq_true rfl) d_X11_272 ⟨Nat.zero_le _, Nat.zero_le _⟩ hS (fun rv H locs hq hz1 hS => ?_)
        obtain ⟨rfl, hP⟩ := hq
        have hz : H.size = s.heap.size := hz1.trans hz
        clear hz1
        refine lv_goto (tgt := 702) hx hb d_X11_275 (by decide) ?_
        exact W.vret hx hb hr (fun t ht hW => by exact zq_end hS hz ⟨rfl, hP⟩ ht) hS.2.2 d_X11_702
      · refine lv_tableIn (tgt := 278) hx hb d_X11_105 (by decide) (by decide) rfl (by decide) ?_
        rw [oV_4, oN_4]
        refine lv_aload_n hx hb d_X11_278 rfl (lv_at hl 6 rfl) ?_
        refine lv_iload_n hx hb d_X11_279 rfl (lv_at hl 8 rfl) ?_
        refine lv_iload hx hb d_X11_280 (lv_at hl 5 rfl) ?_
        refine lv_iload hx hb d_X11_282 (lv_at hl 4 rfl) ?_
        refine lv_ixor hx hb d_X11_284 ?_
        refine lv_iload hx hb d_X11_285 (lv_at hl 3 rfl) ?_
        refine lv_iload hx hb d_X11_287 (lv_at hl 2 rfl) ?_
        refine lv_ior hx hb d_X11_289 ?_
        refine zc_Vw (C := zc_X) S k_X44 (c_X14 l D cI cB x a0 a1 a2 a3 hnd v n mm hh d hd ((v a) ^^^ (v b)) ((n a) ||| (n b))) rfl (xw_pre hK hP) ⟨Nat.le_of_ble_eq_true rfl, Nat.le_of_ble_eq_true rfl⟩ ⟨rfl, rfl⟩ rfl hl.1 rfl (Nat.le_of_ble_eq_true rfl) d_X11_290 ⟨Nat.zero_le _, Nat.zero_le _⟩ hS (fun rv H locs hq hz1 hS => ?_)
        obtain ⟨rfl, hP⟩ := hq
        have hz : H.size = s.heap.size := hz1.trans hz
        clear hz1
        refine lv_goto (tgt := 702) hx hb d_X11_293 (by decide) ?_
        exact W.vret hx hb hr (fun t ht hW => by exact zq_end hS hz ⟨rfl, hP⟩ ht) hS.2.2 d_X11_702
      · refine lv_tableIn (tgt := 296) hx hb d_X11_105 (by decide) (by decide) rfl (by decide) ?_
        rw [oV_5, oN_5]
        refine lv_aload_n hx hb d_X11_296 rfl (lv_at hl 6 rfl) ?_
        refine lv_iload_n hx hb d_X11_297 rfl (lv_at hl 8 rfl) ?_
        refine lv_iload hx hb d_X11_298 (lv_at hl 5 rfl) ?_
        refine lv_iload hx hb d_X11_300 (lv_at hl 1 rfl) ?_
        refine lv_ishl hx hb d_X11_302 ?_
        refine lv_iload hx hb d_X11_303 (lv_at hl 0 rfl) ?_
        refine lv_if_eq (tgt := 316) hx hb d_X11_305 (by decide) (fun hc3 => ?_) (fun hc3 => ?_)
        · have hq : ¬ (n b &&& 31 = 0) := by simpa using (zb_0 _).mp hc3
          rw [if_neg hq]
          refine lv_iconst (v := (-1)) hx hb d_X11_316 (by decide) ?_
          refine zc_Vw (C := zc_X) S k_X44 (c_X14 l D cI cB x a0 a1 a2 a3 hnd v n mm hh d hd ((v a) <<< ((((v b) &&& 31) : Int32) &&& 31)) (-1)) rfl (xw_pre hK hP) ⟨Nat.le_of_ble_eq_true rfl, Nat.le_of_ble_eq_true rfl⟩ ⟨rfl, rfl⟩ rfl hl.1 rfl (Nat.le_of_ble_eq_true rfl) d_X11_317 ⟨Nat.zero_le _, Nat.zero_le _⟩ hS (fun rv H locs hq hz1 hS => ?_)
          obtain ⟨rfl, hP⟩ := hq
          have hz : H.size = s.heap.size := hz1.trans hz
          clear hz1
          refine lv_goto (tgt := 702) hx hb d_X11_320 (by decide) ?_
          exact W.vret hx hb hr (fun t ht hW => by exact zq_end hS hz ⟨rfl, hP⟩ ht) hS.2.2 d_X11_702
        · have hq : n b &&& 31 = 0 := by simpa using mt (zb_0 _).mpr hc3
          rw [if_pos hq]
          refine lv_iload hx hb d_X11_308 (lv_at hl 3 rfl) ?_
          refine lv_iload hx hb d_X11_310 (lv_at hl 1 rfl) ?_
          refine lv_ishl hx hb d_X11_312 ?_
          refine lv_goto (tgt := 317) hx hb d_X11_313 (by decide) ?_
          refine zc_Vw (C := zc_X) S k_X44 (c_X14 l D cI cB x a0 a1 a2 a3 hnd v n mm hh d hd ((v a) <<< ((((v b) &&& 31) : Int32) &&& 31)) ((n a) <<< ((((v b) &&& 31) : Int32) &&& 31))) rfl (xw_pre hK hP) ⟨Nat.le_of_ble_eq_true rfl, Nat.le_of_ble_eq_true rfl⟩ ⟨rfl, rfl⟩ rfl hl.1 rfl (Nat.le_of_ble_eq_true rfl) d_X11_317 ⟨Nat.zero_le _, Nat.zero_le _⟩ hS (fun rv H locs hq hz1 hS => ?_)
          obtain ⟨rfl, hP⟩ := hq
          have hz : H.size = s.heap.size := hz1.trans hz
          clear hz1
          refine lv_goto (tgt := 702) hx hb d_X11_320 (by decide) ?_
          exact W.vret hx hb hr (fun t ht hW => by exact zq_end hS hz ⟨rfl, hP⟩ ht) hS.2.2 d_X11_702
      · refine lv_tableIn (tgt := 323) hx hb d_X11_105 (by decide) (by decide) rfl (by decide) ?_
        rw [oV_6, oN_6]
        refine lv_aload_n hx hb d_X11_323 rfl (lv_at hl 6 rfl) ?_
        refine lv_iload_n hx hb d_X11_324 rfl (lv_at hl 8 rfl) ?_
        refine lv_iload hx hb d_X11_325 (lv_at hl 5 rfl) ?_
        refine lv_iload hx hb d_X11_327 (lv_at hl 1 rfl) ?_
        refine lv_iushr hx hb d_X11_329 rfl ?_
        refine lv_iload hx hb d_X11_330 (lv_at hl 0 rfl) ?_
        refine lv_if_eq (tgt := 343) hx hb d_X11_332 (by decide) (fun hc3 => ?_) (fun hc3 => ?_)
        · have hq : ¬ (n b &&& 31 = 0) := by simpa using (zb_0 _).mp hc3
          rw [if_neg hq]
          refine lv_iconst (v := (-1)) hx hb d_X11_343 (by decide) ?_
          refine zc_Vw (C := zc_X) S k_X44 (c_X14 l D cI cB x a0 a1 a2 a3 hnd v n mm hh d hd (((v a)).toUInt32 >>> ((((v b) &&& 31) : Int32).toUInt32 &&& Int32.toUInt32 31)).toInt32 (-1)) rfl (xw_pre hK hP) ⟨Nat.le_of_ble_eq_true rfl, Nat.le_of_ble_eq_true rfl⟩ ⟨rfl, rfl⟩ rfl hl.1 rfl (Nat.le_of_ble_eq_true rfl) d_X11_344 ⟨Nat.zero_le _, Nat.zero_le _⟩ hS (fun rv H locs hq hz1 hS => ?_)
          obtain ⟨rfl, hP⟩ := hq
          have hz : H.size = s.heap.size := hz1.trans hz
          clear hz1
          refine lv_goto (tgt := 702) hx hb d_X11_347 (by decide) ?_
          exact W.vret hx hb hr (fun t ht hW => by exact zq_end hS hz ⟨rfl, hP⟩ ht) hS.2.2 d_X11_702
        · have hq : n b &&& 31 = 0 := by simpa using mt (zb_0 _).mpr hc3
          rw [if_pos hq]
          refine lv_iload hx hb d_X11_335 (lv_at hl 3 rfl) ?_
          refine lv_iload hx hb d_X11_337 (lv_at hl 1 rfl) ?_
          refine lv_iushr hx hb d_X11_339 rfl ?_
          refine lv_goto (tgt := 344) hx hb d_X11_340 (by decide) ?_
          refine zc_Vw (C := zc_X) S k_X44 (c_X14 l D cI cB x a0 a1 a2 a3 hnd v n mm hh d hd (((v a)).toUInt32 >>> ((((v b) &&& 31) : Int32).toUInt32 &&& Int32.toUInt32 31)).toInt32 (((n a)).toUInt32 >>> ((((v b) &&& 31) : Int32).toUInt32 &&& Int32.toUInt32 31)).toInt32) rfl (xw_pre hK hP) ⟨Nat.le_of_ble_eq_true rfl, Nat.le_of_ble_eq_true rfl⟩ ⟨rfl, rfl⟩ rfl hl.1 rfl (Nat.le_of_ble_eq_true rfl) d_X11_344 ⟨Nat.zero_le _, Nat.zero_le _⟩ hS (fun rv H locs hq hz1 hS => ?_)
          obtain ⟨rfl, hP⟩ := hq
          have hz : H.size = s.heap.size := hz1.trans hz
          clear hz1
          refine lv_goto (tgt := 702) hx hb d_X11_347 (by decide) ?_
          exact W.vret hx hb hr (fun t ht hW => by exact zq_end hS hz ⟨rfl, hP⟩ ht) hS.2.2 d_X11_702
      · refine lv_tableIn (tgt := 350) hx hb d_X11_105 (by decide) (by decide) rfl (by decide) ?_
        rw [oV_7, oN_7]
        refine lv_aload_n hx hb d_X11_350 rfl (lv_at hl 6 rfl) ?_
        refine lv_iload_n hx hb d_X11_351 rfl (lv_at hl 8 rfl) ?_
        refine lv_iload hx hb d_X11_352 (lv_at hl 5 rfl) ?_
        refine lv_iload hx hb d_X11_354 (lv_at hl 1 rfl) ?_
        refine lv_ishr hx hb d_X11_356 ?_
        refine lv_iload hx hb d_X11_357 (lv_at hl 0 rfl) ?_
        refine lv_if_eq (tgt := 370) hx hb d_X11_359 (by decide) (fun hc3 => ?_) (fun hc3 => ?_)
        · have hq : ¬ (n b &&& 31 = 0) := by simpa using (zb_0 _).mp hc3
          rw [if_neg hq]
          refine lv_iconst (v := (-1)) hx hb d_X11_370 (by decide) ?_
          refine zc_Vw (C := zc_X) S k_X44 (c_X14 l D cI cB x a0 a1 a2 a3 hnd v n mm hh d hd ((v a) >>> ((((v b) &&& 31) : Int32) &&& 31)) (-1)) rfl (xw_pre hK hP) ⟨Nat.le_of_ble_eq_true rfl, Nat.le_of_ble_eq_true rfl⟩ ⟨rfl, rfl⟩ rfl hl.1 rfl (Nat.le_of_ble_eq_true rfl) d_X11_371 ⟨Nat.zero_le _, Nat.zero_le _⟩ hS (fun rv H locs hq hz1 hS => ?_)
          obtain ⟨rfl, hP⟩ := hq
          have hz : H.size = s.heap.size := hz1.trans hz
          clear hz1
          refine lv_goto (tgt := 702) hx hb d_X11_374 (by decide) ?_
          exact W.vret hx hb hr (fun t ht hW => by exact zq_end hS hz ⟨rfl, hP⟩ ht) hS.2.2 d_X11_702
        · have hq : n b &&& 31 = 0 := by simpa using mt (zb_0 _).mpr hc3
          rw [if_pos hq]
          refine lv_iload hx hb d_X11_362 (lv_at hl 3 rfl) ?_
          refine lv_iload hx hb d_X11_364 (lv_at hl 1 rfl) ?_
          refine lv_ishr hx hb d_X11_366 ?_
          refine lv_goto (tgt := 371) hx hb d_X11_367 (by decide) ?_
          refine zc_Vw (C := zc_X) S k_X44 (c_X14 l D cI cB x a0 a1 a2 a3 hnd v n mm hh d hd ((v a) >>> ((((v b) &&& 31) : Int32) &&& 31)) ((n a) >>> ((((v b) &&& 31) : Int32) &&& 31))) rfl (xw_pre hK hP) ⟨Nat.le_of_ble_eq_true rfl, Nat.le_of_ble_eq_true rfl⟩ ⟨rfl, rfl⟩ rfl hl.1 rfl (Nat.le_of_ble_eq_true rfl) d_X11_371 ⟨Nat.zero_le _, Nat.zero_le _⟩ hS (fun rv H locs hq hz1 hS => ?_)
          obtain ⟨rfl, hP⟩ := hq
          have hz : H.size = s.heap.size := hz1.trans hz
          clear hz1
          refine lv_goto (tgt := 702) hx hb d_X11_374 (by decide) ?_
          exact W.vret hx hb hr (fun t ht hW => by exact zq_end hS hz ⟨rfl, hP⟩ ht) hS.2.2 d_X11_702
      · refine lv_tableIn (tgt := 377) hx hb d_X11_105 (by decide) (by decide) rfl (by decide) ?_
        rw [oV_8, oN_8]
        refine lv_aload_n hx hb d_X11_377 rfl (lv_at hl 6 rfl) ?_
        refine lv_iload_n hx hb d_X11_378 rfl (lv_at hl 8 rfl) ?_
        refine lv_iload hx hb d_X11_379 (lv_at hl 5 rfl) ?_
        refine lv_iload hx hb d_X11_381 (lv_at hl 4 rfl) ?_
        refine lv_imul hx hb d_X11_383 ?_
        refine lv_iload hx hb d_X11_384 (lv_at hl 3 rfl) ?_
        refine lv_iload hx hb d_X11_386 (lv_at hl 4 rfl) ?_
        refine lv_iload hx hb d_X11_388 (lv_at hl 2 rfl) ?_
        refine zc_Si S k_X48 (c_X6 l _ _) zp_S ⟨Nat.le_of_ble_eq_true rfl, Nat.le_of_ble_eq_true rfl⟩ ⟨rfl, rfl⟩ rfl hl.1 rfl (Nat.le_of_ble_eq_true rfl) d_X11_390 ⟨Nat.zero_le _, Nat.zero_le _⟩ ?_
        refine zc_Si S k_X55 (c_X12 l _ _) zp_S ⟨Nat.le_of_ble_eq_true rfl, Nat.le_of_ble_eq_true rfl⟩ ⟨rfl, rfl⟩ rfl hl.1 rfl (Nat.le_of_ble_eq_true rfl) d_X11_393 ⟨Nat.zero_le _, Nat.zero_le _⟩ ?_
        refine lv_iload hx hb d_X11_396 (lv_at hl 2 rfl) ?_
        refine lv_iload hx hb d_X11_398 (lv_at hl 5 rfl) ?_
        refine lv_iload hx hb d_X11_400 (lv_at hl 3 rfl) ?_
        refine zc_Si S k_X48 (c_X6 l _ _) zp_S ⟨Nat.le_of_ble_eq_true rfl, Nat.le_of_ble_eq_true rfl⟩ ⟨rfl, rfl⟩ rfl hl.1 rfl (Nat.le_of_ble_eq_true rfl) d_X11_402 ⟨Nat.zero_le _, Nat.zero_le _⟩ ?_
        refine zc_Si S k_X55 (c_X12 l _ _) zp_S ⟨Nat.le_of_ble_eq_true rfl, Nat.le_of_ble_eq_true rfl⟩ ⟨rfl, rfl⟩ rfl hl.1 rfl (Nat.le_of_ble_eq_true rfl) d_X11_405 ⟨Nat.zero_le _, Nat.zero_le _⟩ ?_
        refine lv_ior hx hb d_X11_408 ?_
        refine zc_Vw (C := zc_X) S k_X44 (c_X14 l D cI cB x a0 a1 a2 a3 hnd v n mm hh d hd ((v a) * (v b)) ((zpr (n a) ((v b) ||| (n b))) ||| (zpr (n b) ((v a) ||| (n a))))) rfl (xw_pre hK hP) ⟨Nat.le_of_ble_eq_true rfl, Nat.le_of_ble_eq_true rfl⟩ ⟨rfl, rfl⟩ rfl hl.1 rfl (Nat.le_of_ble_eq_true rfl) d_X11_409 ⟨Nat.zero_le _, Nat.zero_le _⟩ hS (fun rv H locs hq hz1 hS => ?_)
        obtain ⟨rfl, hP⟩ := hq
        have hz : H.size = s.heap.size := hz1.trans hz
        clear hz1
        refine lv_goto (tgt := 702) hx hb d_X11_412 (by decide) ?_
        exact W.vret hx hb hr (fun t ht hW => by exact zq_end hS hz ⟨rfl, hP⟩ ht) hS.2.2 d_X11_702
      · refine lv_tableIn (tgt := 415) hx hb d_X11_105 (by decide) (by decide) rfl (by decide) ?_
        rw [oV_9, oN_9]
        refine lv_aload_n hx hb d_X11_415 rfl (lv_at hl 6 rfl) ?_
        refine lv_iload_n hx hb d_X11_416 rfl (lv_at hl 8 rfl) ?_
        refine lv_iload hx hb d_X11_417 (lv_at hl 5 rfl) ?_
        refine lv_iload hx hb d_X11_419 (lv_at hl 4 rfl) ?_
        refine zd_icmp_ge hx hb d_X11_421 d_X11_424 d_X11_425 d_X11_428 ?_
        refine lv_iload hx hb d_X11_429 (lv_at hl 5 rfl) ?_
        refine lv_iload hx hb d_X11_431 (lv_at hl 3 rfl) ?_
        refine zc_Si S k_X58 (c_X10 l _ _) zp_S ⟨Nat.le_of_ble_eq_true rfl, Nat.le_of_ble_eq_true rfl⟩ ⟨rfl, rfl⟩ rfl hl.1 rfl (Nat.le_of_ble_eq_true rfl) d_X11_433 ⟨Nat.zero_le _, Nat.zero_le _⟩ ?_
        refine lv_iload hx hb d_X11_436 (lv_at hl 4 rfl) ?_
        refine lv_iload hx hb d_X11_438 (lv_at hl 2 rfl) ?_
        refine zc_Si S k_X61 (c_X9 l _ _) zp_S ⟨Nat.le_of_ble_eq_true rfl, Nat.le_of_ble_eq_true rfl⟩ ⟨rfl, rfl⟩ rfl hl.1 rfl (Nat.le_of_ble_eq_true rfl) d_X11_440 ⟨Nat.zero_le _, Nat.zero_le _⟩ ?_
        refine zd_icmp_ge hx hb d_X11_443 d_X11_446 d_X11_447 d_X11_450 ?_
        refine lv_iload hx hb d_X11_451 (lv_at hl 5 rfl) ?_
        refine lv_iload hx hb d_X11_453 (lv_at hl 3 rfl) ?_
        refine zc_Si S k_X61 (c_X9 l _ _) zp_S ⟨Nat.le_of_ble_eq_true rfl, Nat.le_of_ble_eq_true rfl⟩ ⟨rfl, rfl⟩ rfl hl.1 rfl (Nat.le_of_ble_eq_true rfl) d_X11_455 ⟨Nat.zero_le _, Nat.zero_le _⟩ ?_
        refine lv_iload hx hb d_X11_458 (lv_at hl 4 rfl) ?_
        refine lv_iload hx hb d_X11_460 (lv_at hl 2 rfl) ?_
        refine zc_Si S k_X58 (c_X10 l _ _) zp_S ⟨Nat.le_of_ble_eq_true rfl, Nat.le_of_ble_eq_true rfl⟩ ⟨rfl, rfl⟩ rfl hl.1 rfl (Nat.le_of_ble_eq_true rfl) d_X11_462 ⟨Nat.zero_le _, Nat.zero_le _⟩ ?_
        refine zd_icmp_ge hx hb d_X11_465 d_X11_468 d_X11_469 d_X11_472 ?_
        refine zc_Vw (C := zc_X) S k_X64 (c_X13 l D cI cB x a0 a1 a2 a3 hnd v n mm hh d hd (decide ((v a) < (v b))) (decide ((zhi (v a) (n a)) < (zlw (v b) (n b)))) (decide ((zlw (v a) (n a)) < (zhi (v b) (n b))))) rfl (xw_pre hK hP) ⟨Nat.le_of_ble_eq_true rfl, Nat.le_of_ble_eq_true rfl⟩ ⟨rfl, rfl⟩ rfl hl.1 rfl (Nat.le_of_ble_eq_true rfl) d_X11_473 ⟨Nat.zero_le _, Nat.zero_le _⟩ hS (fun rv H locs hq hz1 hS => ?_)
        obtain ⟨rfl, hP⟩ := hq
        have hz : H.size = s.heap.size := hz1.trans hz
        clear hz1
        refine lv_goto (tgt := 702) hx hb d_X11_476 (by decide) ?_
        exact W.vret hx hb hr (fun t ht hW => by exact zq_end hS hz ⟨rfl, hP⟩ ht) hS.2.2 d_X11_702
      · refine lv_tableIn (tgt := 479) hx hb d_X11_105 (by decide) (by decide) rfl (by decide) ?_
        rw [oV_10, oN_10]
        refine lv_ldc hx hb hown (zw_at hts gx_min) d_X11_479 ?_
        refine lv_istore hx hb d_X11_481 hl (by decide) rfl (fun ls hl => ?_)
        have hl : lv_has ls 13 [(11, .int (-2147483648)), (10, .int (zb (decide (((n b) &&& 31) = 0)))), (9, .int ((v b) &&& 31)), (8, .int (n b)), (7, .int (n a)), (6, .int (v b)), (5, .int (v a)), (0, .ref x), (1, .int (nI 10)), (2, .int (nI d)), (3, .int (nI a)), (4, .int (nI b))] := hl
        refine lv_aload_n hx hb d_X11_483 rfl (lv_at hl 7 rfl) ?_
        refine lv_iload_n hx hb d_X11_484 rfl (lv_at hl 9 rfl) ?_
        refine lv_iload hx hb d_X11_485 (lv_at hl 6 rfl) ?_
        refine lv_iload hx hb d_X11_487 (lv_at hl 0 rfl) ?_
        refine lv_iadd hx hb d_X11_489 ?_
        refine lv_iload hx hb d_X11_490 (lv_at hl 5 rfl) ?_
        refine lv_iload hx hb d_X11_492 (lv_at hl 0 rfl) ?_
        refine lv_iadd hx hb d_X11_494 ?_
        refine zd_icmp_ge hx hb d_X11_495 d_X11_498 d_X11_499 d_X11_502 ?_
        rw [zult_eq (v a) (v b)]
        refine lv_iload hx hb d_X11_503 (lv_at hl 6 rfl) ?_
        refine lv_iload hx hb d_X11_505 (lv_at hl 4 rfl) ?_
        refine lv_ior hx hb d_X11_507 ?_
        refine lv_iload hx hb d_X11_508 (lv_at hl 0 rfl) ?_
        refine lv_iadd hx hb d_X11_510 ?_
        refine lv_iload hx hb d_X11_511 (lv_at hl 5 rfl) ?_
        refine lv_iload hx hb d_X11_513 (lv_at hl 3 rfl) ?_
        refine lv_iconst (v := (-1)) hx hb d_X11_515 (by decide) ?_
        refine lv_ixor hx hb d_X11_516 ?_
        refine lv_iand hx hb d_X11_517 ?_
        refine lv_iload hx hb d_X11_518 (lv_at hl 0 rfl) ?_
        refine lv_iadd hx hb d_X11_520 ?_
        refine zd_icmp_ge hx hb d_X11_521 d_X11_524 d_X11_525 d_X11_528 ?_
        rw [zult_eq (v a ||| n a) (v b &&& (n b ^^^ (-1)))]
        refine lv_iload hx hb d_X11_529 (lv_at hl 6 rfl) ?_
        refine lv_iload hx hb d_X11_531 (lv_at hl 4 rfl) ?_
        refine lv_iconst (v := (-1)) hx hb d_X11_533 (by decide) ?_
        refine lv_ixor hx hb d_X11_534 ?_
        refine lv_iand hx hb d_X11_535 ?_
        refine lv_iload hx hb d_X11_536 (lv_at hl 0 rfl) ?_
        refine lv_iadd hx hb d_X11_538 ?_
        refine lv_iload hx hb d_X11_539 (lv_at hl 5 rfl) ?_
        refine lv_iload hx hb d_X11_541 (lv_at hl 3 rfl) ?_
        refine lv_ior hx hb d_X11_543 ?_
        refine lv_iload hx hb d_X11_544 (lv_at hl 0 rfl) ?_
        refine lv_iadd hx hb d_X11_546 ?_
        refine zd_icmp_ge hx hb d_X11_547 d_X11_550 d_X11_551 d_X11_554 ?_
        rw [zult_eq (v a &&& (n a ^^^ (-1))) (v b ||| n b)]
        refine zc_Vw (C := zc_X) S k_X64 (c_X13 l D cI cB x a0 a1 a2 a3 hnd v n mm hh d hd (zult (v a) (v b)) (zult (v a ||| n a) (v b &&& (n b ^^^ (-1)))) (zult (v a &&& (n a ^^^ (-1))) (v b ||| n b))) rfl (xw_pre hK hP) ⟨Nat.le_of_ble_eq_true rfl, Nat.le_of_ble_eq_true rfl⟩ ⟨rfl, rfl⟩ rfl hl.1 rfl (Nat.le_of_ble_eq_true rfl) d_X11_555 ⟨Nat.zero_le _, Nat.zero_le _⟩ hS (fun rv H locs hq hz1 hS => ?_)
        obtain ⟨rfl, hP⟩ := hq
        have hz : H.size = s.heap.size := hz1.trans hz
        clear hz1
        refine lv_goto (tgt := 702) hx hb d_X11_558 (by decide) ?_
        exact W.vret hx hb hr (fun t ht hW => by exact zq_end hS hz ⟨rfl, hP⟩ ht) hS.2.2 d_X11_702
      · refine lv_tableIn (tgt := 561) hx hb d_X11_105 (by decide) (by decide) rfl (by decide) ?_
        rw [oV_11, oN_11]
        refine lv_aload_n hx hb d_X11_561 rfl (lv_at hl 6 rfl) ?_
        refine lv_iload_n hx hb d_X11_562 rfl (lv_at hl 8 rfl) ?_
        refine lv_iload hx hb d_X11_563 (lv_at hl 5 rfl) ?_
        refine lv_iload hx hb d_X11_565 (lv_at hl 4 rfl) ?_
        refine zd_icmp_ne hx hb d_X11_567 d_X11_570 d_X11_571 d_X11_574 ?_
        refine lv_iload hx hb d_X11_575 (lv_at hl 5 rfl) ?_
        refine lv_iload hx hb d_X11_577 (lv_at hl 4 rfl) ?_
        refine zj_i (x := zb (decide (v a = v b ∧ n a ||| n b = 0))) (pc := 595) (ls := ls) (rest := [.int (zb (decide ((v a) = (v b)))), .int (nI d), .ref x]) ?_ (fun J => ?_)
        · intro z hz9
          subst hz9
          refine lv_iload hx hb d_X11_595 (lv_at hl 5 rfl) ?_
          refine lv_iload hx hb d_X11_597 (lv_at hl 4 rfl) ?_
          refine lv_ixor hx hb d_X11_599 ?_
          refine lv_iload hx hb d_X11_600 (lv_at hl 3 rfl) ?_
          refine lv_iconst (v := (-1)) hx hb d_X11_602 (by decide) ?_
          refine lv_ixor hx hb d_X11_603 ?_
          refine lv_iand hx hb d_X11_604 ?_
          refine lv_iload hx hb d_X11_605 (lv_at hl 2 rfl) ?_
          refine lv_iconst (v := (-1)) hx hb d_X11_607 (by decide) ?_
          refine lv_ixor hx hb d_X11_608 ?_
          refine lv_iand hx hb d_X11_609 ?_
          refine zd_if_ne hx hb d_X11_610 d_X11_613 d_X11_614 d_X11_617 ?_
          refine zc_Vw (C := zc_X) S k_X64 (c_X13 l D cI cB x a0 a1 a2 a3 hnd v n mm hh d hd (decide ((v a) = (v b))) (decide (v a = v b ∧ n a ||| n b = 0)) (decide (((((v a) ^^^ (v b)) &&& ((n a) ^^^ (-1))) &&& ((n b) ^^^ (-1))) = 0))) rfl (xw_pre hK hP) ⟨Nat.le_of_ble_eq_true rfl, Nat.le_of_ble_eq_true rfl⟩ ⟨rfl, rfl⟩ rfl hl.1 rfl (Nat.le_of_ble_eq_true rfl) d_X11_618 ⟨Nat.zero_le _, Nat.zero_le _⟩ hS (fun rv H locs hq hz1 hS => ?_)
          obtain ⟨rfl, hP⟩ := hq
          have hz : H.size = s.heap.size := hz1.trans hz
          clear hz1
          refine lv_goto (tgt := 702) hx hb d_X11_621 (by decide) ?_
          exact W.vret hx hb hr (fun t ht hW => by exact zq_end hS hz ⟨rfl, hP⟩ ht) hS.2.2 d_X11_702
        refine lv_icmp_ne (tgt := 594) hx hb d_X11_579 (by decide) (fun h1 => ?_) (fun h1 => ?_)
        · refine lv_iconst (v := 0) hx hb d_X11_594 (by decide) ?_
          exact J _ (by rw [decide_eq_false (fun h => h1 h.1)]; rfl)
        · refine lv_iload hx hb d_X11_582 (lv_at hl 3 rfl) ?_
          refine lv_iload hx hb d_X11_584 (lv_at hl 2 rfl) ?_
          refine lv_ior hx hb d_X11_586 ?_
          refine lv_if_ne (tgt := 594) hx hb d_X11_587 (by decide) (fun h2 => ?_) (fun h2 => ?_)
          · refine lv_iconst (v := 0) hx hb d_X11_594 (by decide) ?_
            exact J _ (by rw [decide_eq_false (fun h => h2 h.2)]; rfl)
          · refine lv_iconst (v := 1) hx hb d_X11_590 (by decide) ?_
            refine lv_goto (tgt := 595) hx hb d_X11_591 (by decide) ?_
            exact J _ (by rw [decide_eq_true ⟨h1, h2⟩]; rfl)
      · refine lv_tableOut (tgt := 624) hx hb d_X11_105 (by decide) (by decide) ?_
        refine lv_iload hx hb d_X11_624 (lv_at hl 4 rfl) ?_
        refine lv_iconst (v := 1) hx hb d_X11_626 (by decide) ?_
        refine lv_iand hx hb d_X11_627 ?_
        refine zj_i (x := if bt (v b) 0 then v a else v d) (pc := 642) (ls := ls) (rest := []) ?_ (fun J => ?_)
        · intro z1 hz1
          refine lv_istore hx hb d_X11_642 hl (by decide) rfl (fun ls hl => ?_)
          have hl : lv_has ls 13 [(11, .int z1), (10, .int (zb (decide (((n b) &&& 31) = 0)))), (9, .int ((v b) &&& 31)), (8, .int (n b)), (7, .int (n a)), (6, .int (v b)), (5, .int (v a)), (0, .ref x), (1, .int (nI 12)), (2, .int (nI d)), (3, .int (nI a)), (4, .int (nI b))] := hl
          refine lv_iload hx hb d_X11_644 (lv_at hl 5 rfl) ?_
          refine lv_iconst (v := 1) hx hb d_X11_646 (by decide) ?_
          refine lv_iand hx hb d_X11_647 ?_
          refine zj_i (x := if bt (v b) 0 then n a else n d) (pc := 662) (ls := ls) (rest := []) ?_ (fun J => ?_)
          · intro z2 hz2
            refine lv_istore hx hb d_X11_662 hl (by decide) rfl (fun ls hl => ?_)
            have hl : lv_has ls 13 [(12, .int z2), (11, .int z1), (10, .int (zb (decide (((n b) &&& 31) = 0)))), (9, .int ((v b) &&& 31)), (8, .int (n b)), (7, .int (n a)), (6, .int (v b)), (5, .int (v a)), (0, .ref x), (1, .int (nI 12)), (2, .int (nI d)), (3, .int (nI a)), (4, .int (nI b))] := hl
            refine lv_aload_n hx hb d_X11_664 rfl (lv_at hl 8 rfl) ?_
            refine lv_iload_n hx hb d_X11_665 rfl (lv_at hl 10 rfl) ?_
            refine lv_iload hx hb d_X11_666 (lv_at hl 1 rfl) ?_
            refine lv_iload hx hb d_X11_668 (lv_at hl 4 rfl) ?_
            refine lv_iconst (v := 1) hx hb d_X11_670 (by decide) ?_
            refine lv_iand hx hb d_X11_671 ?_
            refine lv_if_ne (tgt := 680) hx hb d_X11_672 (by decide) (fun h3 => ?_) (fun h3 => ?_)
            · rw [zb_bit0] at h3
              have h4 : ¬ bt (n b) 0 = false := mt (zb_0 _).mpr h3
              refine lv_iload hx hb d_X11_680 (lv_at hl 5 rfl) ?_
              refine lv_aload_n hx hb d_X11_682 rfl (lv_at hl 8 rfl) ?_
              refine zg_X S hK hP rfl 1 (by decide) zl_X1 rfl d_X11_683 ?_
              refine lv_iload_n hx hb d_X11_686 rfl (lv_at hl 10 rfl) ?_
              refine zi_ld hx hb hK hP 2 0 rfl rfl (j := d) hd (by decide) d_X11_687 ?_
              refine lv_ior hx hb d_X11_688 ?_
              refine lv_iload hx hb d_X11_689 (lv_at hl 7 rfl) ?_
              refine lv_aload_n hx hb d_X11_691 rfl (lv_at hl 8 rfl) ?_
              refine zg_X S hK hP rfl 0 (by decide) zl_X0 rfl d_X11_692 ?_
              refine lv_iload_n hx hb d_X11_695 rfl (lv_at hl 10 rfl) ?_
              refine zi_ld hx hb hK hP 1 0 rfl rfl (j := d) hd (by decide) d_X11_696 ?_
              refine lv_ixor hx hb d_X11_697 ?_
              refine lv_ior hx hb d_X11_698 ?_
              rw [show z1 = oV 12 (v a) (v b) (v d) from hz1, show ((n a ||| n d) ||| (v a ^^^ v d)) = oN 12 (v a) (v b) (n a) (n b) (v d) (n d) from by show _ = if bt (n b) 0 = false then _ else _; rw [if_neg h4]]
              refine zc_Vw (C := zc_X) S k_X44 (c_X14 l D cI cB x a0 a1 a2 a3 hnd v n mm hh d hd (oV 12 (v a) (v b) (v d)) (oN 12 (v a) (v b) (n a) (n b) (v d) (n d))) rfl (xw_pre hK hP) ⟨Nat.le_of_ble_eq_true rfl, Nat.le_of_ble_eq_true rfl⟩ ⟨rfl, rfl⟩ rfl hl.1 rfl (Nat.le_of_ble_eq_true rfl) d_X11_699 ⟨Nat.zero_le _, Nat.zero_le _⟩ hS (fun rv H locs hq hz1 hS => ?_)
              obtain ⟨rfl, hP⟩ := hq
              have hz : H.size = s.heap.size := hz1.trans hz
              clear hz1
              exact W.vret hx hb hr (fun t ht hW => by exact zq_end hS hz ⟨rfl, hP⟩ ht) hS.2.2 d_X11_702
            · rw [zb_bit0] at h3
              have h4 : bt (n b) 0 = false := (zb_0 _).mp h3
              refine lv_iload hx hb d_X11_675 (lv_at hl 0 rfl) ?_
              refine lv_goto (tgt := 699) hx hb d_X11_677 (by decide) ?_
              rw [show z1 = oV 12 (v a) (v b) (v d) from hz1, show z2 = oN 12 (v a) (v b) (n a) (n b) (v d) (n d) from by rw [hz2]; show _ = if bt (n b) 0 = false then _ else _; rw [if_pos h4]]
              refine zc_Vw (C := zc_X) S k_X44 (c_X14 l D cI cB x a0 a1 a2 a3 hnd v n mm hh d hd (oV 12 (v a) (v b) (v d)) (oN 12 (v a) (v b) (n a) (n b) (v d) (n d))) rfl (xw_pre hK hP) ⟨Nat.le_of_ble_eq_true rfl, Nat.le_of_ble_eq_true rfl⟩ ⟨rfl, rfl⟩ rfl hl.1 rfl (Nat.le_of_ble_eq_true rfl) d_X11_699 ⟨Nat.zero_le _, Nat.zero_le _⟩ hS (fun rv H locs hq hz1 hS => ?_)
              obtain ⟨rfl, hP⟩ := hq
              have hz : H.size = s.heap.size := hz1.trans hz
              clear hz1
              exact W.vret hx hb hr (fun t ht hW => by exact zq_end hS hz ⟨rfl, hP⟩ ht) hS.2.2 d_X11_702
          refine lv_if_eq (tgt := 656) hx hb d_X11_648 (by decide) (fun h2 => ?_) (fun h2 => ?_)
          · refine lv_aload_n hx hb d_X11_656 rfl (lv_at hl 7 rfl) ?_
            refine zg_X S hK hP rfl 1 (by decide) zl_X1 rfl d_X11_657 ?_
            refine lv_iload_n hx hb d_X11_660 rfl (lv_at hl 9 rfl) ?_
            refine zi_ld hx hb hK hP 2 0 rfl rfl (j := d) hd (by decide) d_X11_661 ?_
            exact J _ (by rw [zb_bit0] at h2; rw [(zb_0 _).mp h2]; rfl)
          · refine lv_iload hx hb d_X11_651 (lv_at hl 4 rfl) ?_
            refine lv_goto (tgt := 662) hx hb d_X11_653 (by decide) ?_
            exact J _ (by rw [zb_bit0] at h2; rw [show bt (v b) 0 = true by simpa using mt (zb_0 _).mpr h2]; rfl)
        refine lv_if_eq (tgt := 636) hx hb d_X11_628 (by decide) (fun h2 => ?_) (fun h2 => ?_)
        · refine lv_aload_n hx hb d_X11_636 rfl (lv_at hl 6 rfl) ?_
          refine zg_X S hK hP rfl 0 (by decide) zl_X0 rfl d_X11_637 ?_
          refine lv_iload_n hx hb d_X11_640 rfl (lv_at hl 8 rfl) ?_
          refine zi_ld hx hb hK hP 1 0 rfl rfl (j := d) hd (by decide) d_X11_641 ?_
          exact J _ (by rw [zb_bit0] at h2; rw [(zb_0 _).mp h2]; rfl)
        · refine lv_iload hx hb d_X11_631 (lv_at hl 5 rfl) ?_
          refine lv_goto (tgt := 642) hx hb d_X11_633 (by decide) ?_
          exact J _ (by rw [zb_bit0] at h2; rw [show bt (v b) 0 = true by simpa using mt (zb_0 _).mpr h2]; rfl)
    · exact absurd (nI_lt hop (by decide)) hc2
end
section
/-! one less, and its bits -/
theorem zn_bits {z : Int32} (h : z ≠ 0) : ∃ m : Nat, z.toBitVec.toNat = 2 ^ (zlo z + 1) * m + 2 ^ zlo z := by
  have hlt : zlo z < 32 := by
    have := zlo_le z
    have := mt zlo_32.mp h
    omega
  refine ⟨z.toBitVec.toNat / 2 ^ (zlo z + 1), ?_⟩
  have h1 : z.toBitVec.toNat % 2 ^ (zlo z + 1) = 2 ^ zlo z := by
    refine Nat.eq_of_testBit_eq (fun i => ?_)
    rw [Nat.testBit_mod_two_pow, Nat.testBit_two_pow]
    by_cases hi : i < zlo z
    · rw [show z.toBitVec.toNat.testBit i = false from zlo_lt hi, decide_eq_false (p := zlo z = i) (by omega), Bool.and_false]
    · by_cases he : i = zlo z
      · subst he
        rw [show z.toBitVec.toNat.testBit (zlo z) = true from zlo_at hlt]
        simp
      · rw [decide_eq_false (p := i < zlo z + 1) (by omega), decide_eq_false (p := zlo z = i) (by omega), Bool.false_and]
  have h2 := Nat.div_add_mod z.toBitVec.toNat (2 ^ (zlo z + 1))
  rw [h1] at h2
  exact h2.symm
theorem zn_pos {z : Int32} (h : z ≠ 0) : 0 < z.toBitVec.toNat := by
  obtain ⟨m, hm⟩ := zn_bits h
  have := Nat.two_pow_pos (zlo z)
  omega
theorem zn_pred {z : Int32} (h : z ≠ 0) : (z - 1).toBitVec.toNat = z.toBitVec.toNat - 1 := by
  have h1 := zn_pos h
  have h2 := z.toBitVec.isLt
  rw [Int32.toBitVec_sub, BitVec.toNat_sub]
  show (2 ^ 32 - 1 + z.toBitVec.toNat) % 2 ^ 32 = _
  omega
theorem zn_bit {z : Int32} (h : z ≠ 0) (i : Nat) : bt (z - 1) i = if i < zlo z then true else if i = zlo z then false else bt z i := by
  obtain ⟨m, hm⟩ := zn_bits h
  have hp := Nat.two_pow_pos (zlo z)
  have h1 : (z - 1).toBitVec.toNat = 2 ^ (zlo z + 1) * m + (2 ^ zlo z - 1) := by rw [zn_pred h]; omega
  have hlt : 2 ^ zlo z - 1 < 2 ^ (zlo z + 1) := by rw [Nat.pow_succ]; omega
  have hlt2 : 2 ^ zlo z < 2 ^ (zlo z + 1) := by rw [Nat.pow_succ]; omega
  have e1 : bt (z - 1) i = if i < zlo z + 1 then (2 ^ zlo z - 1).testBit i else m.testBit (i - (zlo z + 1)) := by
    show (z - 1).toBitVec.toNat.testBit i = _
    rw [h1, Nat.testBit_two_pow_mul_add m hlt]
  have e2 : bt z i = if i < zlo z + 1 then (2 ^ zlo z).testBit i else m.testBit (i - (zlo z + 1)) := by
    show z.toBitVec.toNat.testBit i = _
    rw [hm, Nat.testBit_two_pow_mul_add m hlt2]
  rw [e1]
  by_cases h2 : i < zlo z
  · rw [if_pos (by omega), if_pos h2, Nat.testBit_two_pow_sub_one, decide_eq_true h2]
  · rw [if_neg h2]
    by_cases h3 : i = zlo z
    · rw [if_pos (by omega), if_pos h3, Nat.testBit_two_pow_sub_one, decide_eq_false (by omega)]
    · rw [if_neg (by omega), if_neg h3, e2, if_neg (by omega)]
theorem zn_neg (z : Int32) {i : Nat} (hi : i < 32) : bt (-z) i = if i < zlo z then false else if i = zlo z then true else !bt z i := by
  by_cases h : z = 0
  · subst h
    rw [zlo_zero, if_pos hi]
    exact b_0 i
  · have h1 := zn_pos h
    have e : (-z).toBitVec = ~~~(z - 1).toBitVec := by
      refine BitVec.eq_of_toNat_eq ?_
      rw [BitVec.toNat_not, zn_pred h, Int32.toBitVec_neg, BitVec.toNat_neg]
      have := z.toBitVec.isLt
      omega
    have e2 : bt (-z) i = !bt (z - 1) i := by
      show (-z).toBitVec.getLsbD i = _
      rw [e, BitVec.getLsbD_not]
      simp [hi, bt]
    rw [e2, zn_bit h]
    split
    · rfl
    · split <;> rfl
theorem zn_up (z : Int32) {i : Nat} (hi : i < 32) : bt (z ||| -z) i = decide (zlo z ≤ i) := by
  rw [b_or, zn_neg z hi]
  by_cases h1 : i < zlo z
  · rw [if_pos h1, zlo_lt h1, decide_eq_false (by omega)]; rfl
  · rw [if_neg h1, decide_eq_true (by omega)]
    by_cases h2 : i = zlo z
    · rw [if_pos h2, Bool.or_true]
    · rw [if_neg h2]; cases bt z i <;> rfl
/-! how many bits are 1 -/
def zpc (x : Int32) : Nat := (List.range 32).countP (fun i => bt x i)
theorem zpc_zero : zpc 0 = 0 := by decide +kernel
theorem zc_split (f g : Nat → Bool) (k : Nat) (hf : f k = true) (hg : g k = false) (he : ∀ i, i ≠ k → f i = g i) : ∀ N, (List.range N).countP f = (List.range N).countP g + if k < N then 1 else 0 := by
  intro N
  induction N with
  | zero => simp
  | succ N ih =>
    rw [List.range_succ, List.countP_append, List.countP_append, ih]
    by_cases h : N = k
    · subst h
      simp [hf, hg]
    · rw [List.countP_singleton, List.countP_singleton, he N h]
      have h2 : (k < N + 1) = (k < N) := propext ⟨fun q => by omega, fun q => by omega⟩
      simp only [h2]
      omega
theorem zpc_step {z : Int32} (h : z ≠ 0) : zpc (z &&& (z - 1)) + 1 = zpc z := by
  have hlt : zlo z < 32 := by
    have := zlo_le z
    have := mt zlo_32.mp h
    omega
  have := zc_split (fun i => bt z i) (fun i => bt (z &&& (z - 1)) i) (zlo z) (zlo_at hlt) (by
      show bt (z &&& (z - 1)) (zlo z) = false
      rw [b_and, zn_bit h, if_neg (by omega), if_pos rfl, Bool.and_false]) (fun i hi => by
      show bt z i = bt (z &&& (z - 1)) i
      rw [b_and, zn_bit h]
      by_cases h1 : i < zlo z
      · rw [zlo_lt h1, Bool.false_and]
      · rw [if_neg h1, if_neg hi, Bool.and_self]) 32
  rw [if_pos hlt] at this
  exact this.symm
def zsum (f : Nat → Nat) : Nat → Nat
  | 0 => 0
  | k + 1 => zsum f k + f k
theorem zsum_le {f : Nat → Nat} {b : Nat} (h : ∀ i, f i ≤ b) : ∀ k, zsum f k ≤ b * k
  | 0 => by simp [zsum]
  | k + 1 => by
    have h1 := zsum_le h k
    have h2 := h k
    rw [zsum, Nat.mul_succ]
    omega
theorem zpc_le (x : Int32) : zpc x ≤ 32 := by
  have := List.countP_le_length (p := fun i => bt x i) (l := List.range 32)
  simpa [zpc] using this
/-! bytes put, bytes read -/
def zby (x : Int32) (k : Nat) : Int8 := (x >>> (((8 : Int32) * nI k) &&& 31)).toInt8
def zst (mm : Nat → Int8) (u n : Nat) (x : Int32) : Nat → Int8 := fun j => if u ≤ j ∧ j < u + n then zby x (j - u) else mm j
theorem zst_0 (mm : Nat → Int8) (u : Nat) (x : Int32) : zst mm u 0 x = mm := by
  funext j
  unfold zst
  rw [if_neg (by omega)]
theorem zst_s (mm : Nat → Int8) (u k : Nat) (x : Int32) : zs (zst mm u k x) (u + k) (x >>> (((8 : Int32) * nI k) &&& 31)).toInt8 = zst mm u (k + 1) x := by
  funext j
  unfold zst zs
  by_cases h : j = u + k
  · subst h
    rw [if_pos rfl, if_pos (by omega), Nat.add_sub_cancel_left]
    rfl
  · rw [if_neg h]
    show (if u ≤ j ∧ j < u + k then zby x (j - u) else mm j) = _
    by_cases h2 : u ≤ j ∧ j < u + k
    · rw [if_pos h2, if_pos (by omega)]
    · rw [if_neg h2, if_neg (by omega)]
def zjl (f : Nat → Int8) (u : Nat) : Nat → Int32 → Int32
  | 0, x => x
  | k + 1, x => zjl f u k ((x <<< ((8 : Int32) &&& 31)) ||| ((f (u + k)).toInt32 &&& 255))
def zjo (f : Nat → Int8) (u n : Nat) (sg : Bool) : Int32 := zjl f u (n - 1) (if sg then (f (u + n - 1)).toInt32 else (f (u + n - 1)).toInt32 &&& 255)
theorem zi_dec (x : Int32) : x + Int32.ofInt (-1) = x - 1 := by
  rw [Int32.sub_eq_add_neg]
  rfl
section ZVV
variable {p : Program} {l : Launch} {e : Env} {R : Room} {s : State} {m : MethodId} {args : Array Value} {below : List Frame} {meth : Method} {c : Code} {H : Heap} {locs : List Loc} {cells slots : Nat} {Q : State → Prop}
theorem zc_Vv {cc : ByteArray} {nL ix n nn pc b : Nat} {own C : String} {y : MethodName} {by0 : ByteArray} {r : Option FieldType} {w0 : Cond} {rm : Room} {Bp : State → Prop} {As rest st0 : List Value} {ls : Array Slot}
    (S : CallFix p m c cc nL s args (zw w0) own) (K : kc_V own ix y (.code y by0 n r) nn) (hM : Met l y (zw (.code y by0 n r)) rm (va_Pc (.ref b :: As) Bp) (va_Sv (fun _ => True)) 0 0 (fun _ => False)) (hC : y.cls = C) (hp : PreV s H C b (va_Pc (.ref b :: As) Bp) As)
    (hR : rm.frames + 1 ≤ R.frames ∧ 8 + (n + 11) + rm.locals ≤ R.locals) (h0 : rm.cells = 0 ∧ rm.slots = 0) (hn : As.length = nn) (hsize : ls.size = nL) (hst : st0 = As.reverse ++ .ref b :: rest) (hW : (rest.map fun v => v.category).sum ≤ 8) (hdg : decode cc pc = .ok (.invokevirtual ix, 3)) (hf : cells ≤ R.cells ∧ slots ≤ R.slots)
    (k : W p l e R s m args below meth c H locs cells slots Q (F0 m (pc + 3) ls rest)) : W p l e R s m args below meth c H locs cells slots Q (F0 m pc ls st0) := by
  subst hC
  have cb := zc_B (R := R) (s := s) (args := args) S.2.2.2.2 K.1 hR
  rw [h0.1, h0.2] at cb
  exact va_csv (W.runV (As := As) (rest := rest) S hM ⟨cb, zw_at S.2.2.2.2 K.2.1, zw_at S.2.2.2.2 K.2.2⟩ hp rfl hn hsize hst (lv_room hW) hdg hf) (fun _ => k)
theorem zp_VT {D : va_G} {tys : List (ClassId × FieldType)} {ws : va_W} {As : List Value} {b ci : Nat} {fs : List Value} {C : String} {T : u_T} {N : Nat} (hK : va_K D zC tys s) (hP : va_P D zC ws H) (hc : zC[ci]? = some (C, T, N)) (q0 : Nat) (he : ws[q0]? = some (b, .inr (ci, fs))) : PreV s H C b (va_Pc (.ref b :: As) (fun _ => True)) As :=
  ⟨fun _ _ _ _ q => ⟨q.1, trivial⟩, va_recv hK hP hc he, fun _ _ _ => ⟨rfl, trivial⟩⟩
end ZVV
end
section
theorem zx_preS {s : State} {As : List Value} (hE : zx_E s) : PreS s s.heap (va_Pc As zx_E) As := ⟨fun a U g mk q => ⟨q.1, zx_calling q.2 g mk a⟩, fun U hU hW => ⟨rfl, zx_moved hE hW (fun a cell h => by rw [hU]; exact h)⟩⟩
theorem zx_preV {s : State} {D : va_G} {cI cB : ClassId} {x a0 a1 a2 a3 : Nat} {v n : Nat → Int32} {mm hh : Nat → Int8} {As : List Value} (hE : zx_E s) (hK : va_K D zC (xT cI cB) s) (hP : va_P D zC (XW cI cB x a0 a1 a2 a3 v n mm hh) s.heap) : PreV s s.heap zc_X x (va_Pc (.ref x :: As) zx_E) As :=
  ⟨fun a U g mk q => ⟨q.1, zx_calling q.2 g mk a⟩, va_recv hK hP (ci := 0) rfl (q0 := 0) rfl, fun U hU hW => ⟨rfl, zx_moved hE hW (fun a cell h => by rw [hU]; exact h)⟩⟩
set_option maxHeartbeats 4000000 in
set_option maxRecDepth 100000 in
theorem c_X15 (l : Launch) (x r u nn : Nat) (hr9 : r < 16) (hn : nn = 1 ∨ nn = 2 ∨ nn = 4) (hu : u + nn ≤ 256) : Met l y_X15 (zw (.code y_X15 b_X15 4 none)) (rmv 1 0 0) (va_Pc [.ref x, .int (nI r), .int (nI u), .int (nI nn)] (fun _ => True)) (va_Sv (fun _ => True)) 0 0 (fun _ => False) := by
  refine zm_met (b := b_X15) [.ref x, .int (nI r), .int (nI u), .int (nI nn)] zy_X (Nat.le_of_ble_eq_true rfl) ?_
  intro p e s m below meth c ls S hr hlk hnm hl hB
  obtain ⟨hx, hb, hml, hown, hts⟩ := id S
  have hl : lv_has ls 4 [(0, .ref x), (1, .int (nI r)), (2, .int (nI u)), (3, .int (nI nn))] := hl
  rcases hn with rfl | rfl | rfl
  · refine lv_iload_n hx hb d_X15_0 rfl (lv_at hl 3 rfl) ?_
    refine lv_iconst (v := 1) hx hb d_X15_1 (by decide) ?_
    refine lv_icmp_eq (tgt := 23) hx hb d_X15_2 (by decide) (fun hc => ?_) (fun hc => absurd rfl hc)
    refine lv_iload_n hx hb d_X15_23 rfl (lv_at hl 1 rfl) ?_
    refine zc_Si S k_X26 (c_X3 l (nI r)) zp_S ⟨Nat.le_of_ble_eq_true rfl, Nat.le_of_ble_eq_true rfl⟩ ⟨rfl, rfl⟩ rfl hl.1 rfl (Nat.le_of_ble_eq_true rfl) d_X15_24 ⟨Nat.zero_le _, Nat.zero_le _⟩ ?_
    rw [zk_in hr9]
    refine lv_if_eq (tgt := 47) hx hb d_X15_27 (by decide) (fun hq => absurd hq (by decide)) (fun hq => ?_)
    refine lv_iload_n hx hb d_X15_30 rfl (lv_at hl 2 rfl) ?_
    refine lv_if_lt (tgt := 47) hx hb d_X15_31 (by decide) (fun hq => absurd hq (nI_pos (by omega))) (fun hq => ?_)
    refine lv_iload_n hx hb d_X15_34 rfl (lv_at hl 2 rfl) ?_
    refine lv_sipush (v := 256) hx hb d_X15_35 (by decide) ?_
    refine lv_iload_n hx hb d_X15_38 rfl (lv_at hl 3 rfl) ?_
    refine lv_isub hx hb d_X15_39 ?_
    refine lv_topi (fun zz ez => ?_)
    obtain rfl : zz = (nI 255) := ez.trans (by decide)
    refine lv_icmp_gt (tgt := 47) hx hb d_X15_40 (by decide) (fun hq => absurd hq (nI_nlt (by omega) (by decide))) (fun hq => ?_)
    refine lv_iconst (v := 1) hx hb d_X15_43 (by decide) ?_
    refine lv_goto (tgt := 48) hx hb d_X15_44 (by decide) ?_
    refine zc_Sv S k_X30 (c_X2 l) zp_S ⟨Nat.le_of_ble_eq_true rfl, Nat.le_of_ble_eq_true rfl⟩ ⟨rfl, rfl⟩ rfl hl.1 rfl (Nat.le_of_ble_eq_true rfl) d_X15_48 ⟨Nat.zero_le _, Nat.zero_le _⟩ ?_
    exact W.vret hx hb hr (fun t ht hW => ⟨rfl, trivial, ht⟩) (fun q h => by cases h) d_X15_51
  · refine lv_iload_n hx hb d_X15_0 rfl (lv_at hl 3 rfl) ?_
    refine lv_iconst (v := 1) hx hb d_X15_1 (by decide) ?_
    refine lv_icmp_eq (tgt := 23) hx hb d_X15_2 (by decide) (fun hc => absurd hc (by decide)) (fun hc => ?_)
    refine lv_iload_n hx hb d_X15_5 rfl (lv_at hl 3 rfl) ?_
    refine lv_iconst (v := 2) hx hb d_X15_6 (by decide) ?_
    refine lv_icmp_eq (tgt := 23) hx hb d_X15_7 (by decide) (fun hc => ?_) (fun hc => absurd rfl hc)
    refine lv_iload_n hx hb d_X15_23 rfl (lv_at hl 1 rfl) ?_
    refine zc_Si S k_X26 (c_X3 l (nI r)) zp_S ⟨Nat.le_of_ble_eq_true rfl, Nat.le_of_ble_eq_true rfl⟩ ⟨rfl, rfl⟩ rfl hl.1 rfl (Nat.le_of_ble_eq_true rfl) d_X15_24 ⟨Nat.zero_le _, Nat.zero_le _⟩ ?_
    rw [zk_in hr9]
    refine lv_if_eq (tgt := 47) hx hb d_X15_27 (by decide) (fun hq => absurd hq (by decide)) (fun hq => ?_)
    refine lv_iload_n hx hb d_X15_30 rfl (lv_at hl 2 rfl) ?_
    refine lv_if_lt (tgt := 47) hx hb d_X15_31 (by decide) (fun hq => absurd hq (nI_pos (by omega))) (fun hq => ?_)
    refine lv_iload_n hx hb d_X15_34 rfl (lv_at hl 2 rfl) ?_
    refine lv_sipush (v := 256) hx hb d_X15_35 (by decide) ?_
    refine lv_iload_n hx hb d_X15_38 rfl (lv_at hl 3 rfl) ?_
    refine lv_isub hx hb d_X15_39 ?_
    refine lv_topi (fun zz ez => ?_)
    obtain rfl : zz = (nI 254) := ez.trans (by decide)
    refine lv_icmp_gt (tgt := 47) hx hb d_X15_40 (by decide) (fun hq => absurd hq (nI_nlt (by omega) (by decide))) (fun hq => ?_)
    refine lv_iconst (v := 1) hx hb d_X15_43 (by decide) ?_
    refine lv_goto (tgt := 48) hx hb d_X15_44 (by decide) ?_
    refine zc_Sv S k_X30 (c_X2 l) zp_S ⟨Nat.le_of_ble_eq_true rfl, Nat.le_of_ble_eq_true rfl⟩ ⟨rfl, rfl⟩ rfl hl.1 rfl (Nat.le_of_ble_eq_true rfl) d_X15_48 ⟨Nat.zero_le _, Nat.zero_le _⟩ ?_
    exact W.vret hx hb hr (fun t ht hW => ⟨rfl, trivial, ht⟩) (fun q h => by cases h) d_X15_51
  · refine lv_iload_n hx hb d_X15_0 rfl (lv_at hl 3 rfl) ?_
    refine lv_iconst (v := 1) hx hb d_X15_1 (by decide) ?_
    refine lv_icmp_eq (tgt := 23) hx hb d_X15_2 (by decide) (fun hc => absurd hc (by decide)) (fun hc => ?_)
    refine lv_iload_n hx hb d_X15_5 rfl (lv_at hl 3 rfl) ?_
    refine lv_iconst (v := 2) hx hb d_X15_6 (by decide) ?_
    refine lv_icmp_eq (tgt := 23) hx hb d_X15_7 (by decide) (fun hc => absurd hc (by decide)) (fun hc => ?_)
    refine lv_iload_n hx hb d_X15_10 rfl (lv_at hl 3 rfl) ?_
    refine lv_iconst (v := 4) hx hb d_X15_11 (by decide) ?_
    refine lv_icmp_eq (tgt := 23) hx hb d_X15_12 (by decide) (fun hc => ?_) (fun hc => absurd rfl hc)
    refine lv_iload_n hx hb d_X15_23 rfl (lv_at hl 1 rfl) ?_
    refine zc_Si S k_X26 (c_X3 l (nI r)) zp_S ⟨Nat.le_of_ble_eq_true rfl, Nat.le_of_ble_eq_true rfl⟩ ⟨rfl, rfl⟩ rfl hl.1 rfl (Nat.le_of_ble_eq_true rfl) d_X15_24 ⟨Nat.zero_le _, Nat.zero_le _⟩ ?_
    rw [zk_in hr9]
    refine lv_if_eq (tgt := 47) hx hb d_X15_27 (by decide) (fun hq => absurd hq (by decide)) (fun hq => ?_)
    refine lv_iload_n hx hb d_X15_30 rfl (lv_at hl 2 rfl) ?_
    refine lv_if_lt (tgt := 47) hx hb d_X15_31 (by decide) (fun hq => absurd hq (nI_pos (by omega))) (fun hq => ?_)
    refine lv_iload_n hx hb d_X15_34 rfl (lv_at hl 2 rfl) ?_
    refine lv_sipush (v := 256) hx hb d_X15_35 (by decide) ?_
    refine lv_iload_n hx hb d_X15_38 rfl (lv_at hl 3 rfl) ?_
    refine lv_isub hx hb d_X15_39 ?_
    refine lv_topi (fun zz ez => ?_)
    obtain rfl : zz = (nI 252) := ez.trans (by decide)
    refine lv_icmp_gt (tgt := 47) hx hb d_X15_40 (by decide) (fun hq => absurd hq (nI_nlt (by omega) (by decide))) (fun hq => ?_)
    refine lv_iconst (v := 1) hx hb d_X15_43 (by decide) ?_
    refine lv_goto (tgt := 48) hx hb d_X15_44 (by decide) ?_
    refine zc_Sv S k_X30 (c_X2 l) zp_S ⟨Nat.le_of_ble_eq_true rfl, Nat.le_of_ble_eq_true rfl⟩ ⟨rfl, rfl⟩ rfl hl.1 rfl (Nat.le_of_ble_eq_true rfl) d_X15_48 ⟨Nat.zero_le _, Nat.zero_le _⟩ ?_
    exact W.vret hx hb hr (fun t ht hW => ⟨rfl, trivial, ht⟩) (fun q h => by cases h) d_X15_51
set_option maxHeartbeats 4000000 in
set_option maxRecDepth 100000 in
theorem c_X16 (l : Launch) (D : va_G) (cI cB : ClassId) (x a0 a1 a2 a3 : Nat) (hnd : [x, a0, a1, a2, a3].Nodup) (v n : Nat → Int32) (mm hh : Nat → Int8) (r u nn : Nat) (hr9 : r < 16) (hn : nn = 1 ∨ nn = 2 ∨ nn = 4) (hu : u + nn ≤ 256) : Met l y_X16 (zw (.code y_X16 b_X16 5 none)) (rmv 2 0 0) (va_Pc [.ref x, .int (nI r), .int (nI u), .int (nI nn)] (zp_W D (xT cI cB) (XW cI cB x a0 a1 a2 a3 v n mm hh))) (zq_w (fun rv H => rv = none ∧ va_P D zC (XW cI cB x a0 a1 a2 a3 v n (zst mm u nn (v r)) (zst hh u nn (n r))) H) (fun q => q ∈ [x, a0, a1, a2, a3])) 0 0 (fun q => q ∈ [x, a0, a1, a2, a3]) := by
  refine zm_met (b := b_X16) [.ref x, .int (nI r), .int (nI u), .int (nI nn)] zy_X (Nat.le_of_ble_eq_true rfl) ?_
  intro p e s m below meth c ls S hr hlk hnm hl hB
  obtain ⟨hx, hb, hml, hown, hts⟩ := id S
  have hl : lv_has ls 5 [(0, .ref x), (1, .int (nI r)), (2, .int (nI u)), (3, .int (nI nn))] := hl
  obtain ⟨hP, hK⟩ := hB
  have hS : va_S (fun q => q ∈ [x, a0, a1, a2, a3]) s.heap s.heap [] := va_S.rf
  have hz : s.heap.size = s.heap.size := rfl
  refine lv_aload_n hx hb d_X16_0 rfl (lv_at hl 0 rfl) ?_
  refine lv_iload_n hx hb d_X16_1 rfl (lv_at hl 1 rfl) ?_
  refine lv_iload_n hx hb d_X16_2 rfl (lv_at hl 2 rfl) ?_
  refine lv_iload_n hx hb d_X16_3 rfl (lv_at hl 3 rfl) ?_
  refine zc_Vv (C := zc_X) S k_X71 (c_X15 l x r u nn hr9 hn hu) rfl (zp_VT hK hP (ci := 0) rfl 0 rfl) ⟨Nat.le_of_ble_eq_true rfl, Nat.le_of_ble_eq_true rfl⟩ ⟨rfl, rfl⟩ rfl hl.1 rfl (Nat.le_of_ble_eq_true rfl) d_X16_4 ⟨Nat.zero_le _, Nat.zero_le _⟩ ?_
  refine lv_iconst (v := 0) hx hb d_X16_7 (by decide) ?_
  refine lv_istore hx hb d_X16_8 hl (by decide) rfl (fun ls hl => ?_)
  have hl : lv_has ls 5 [(4, .int 0), (0, .ref x), (1, .int (nI r)), (2, .int (nI u)), (3, .int (nI nn))] := hl
  refine zl_loop (fun k H locs ls => k ≤ nn ∧ H.size = s.heap.size ∧ va_S (fun q => q ∈ [x, a0, a1, a2, a3]) s.heap H locs ∧ va_P D zC (XW cI cB x a0 a1 a2 a3 v n (zst mm u k (v r)) (zst hh u k (n r))) H ∧ lv_has ls 5 [(4, .int (nI k)), (0, .ref x), (1, .int (nI r)), (2, .int (nI u)), (3, .int (nI nn))]) 10 nn (fun k H locs ls h => h.1) ?_ 0 _ _ _ ⟨by omega, rfl, hS, by rw [zst_0, zst_0]; exact hP, hl⟩
  intro k H locs ls hI ih
  obtain ⟨hk, hz, hS, hP, hl⟩ := hI
  refine lv_iload hx hb d_X16_10 (lv_at hl 0 rfl) ?_
  refine lv_iload_n hx hb d_X16_12 rfl (lv_at hl 4 rfl) ?_
  refine lv_icmp_ge (tgt := 66) hx hb d_X16_13 (by decide) (fun hc => ?_) (fun hc => ?_)
  · obtain rfl := zi_ge nn rfl hc hk (by omega)
    exact W.vret hx hb hr (fun t ht hW => zq_end hS hz ⟨rfl, hP⟩ ht) hS.2.2 d_X16_66
  · have hk2 := zi_lt nn rfl hc hk (by omega)
    refine lv_aload_n hx hb d_X16_16 rfl (lv_at hl 1 rfl) ?_
    refine zg_X S hK hP rfl 2 (by decide) zl_X2 rfl d_X16_17 ?_
    refine lv_iload_n hx hb d_X16_20 rfl (lv_at hl 3 rfl) ?_
    refine lv_iload hx hb d_X16_21 (lv_at hl 0 rfl) ?_
    refine lv_iadd hx hb d_X16_23 ?_
    refine lv_topi (fun zz ez => ?_)
    obtain rfl : zz = (nI (u + k)) := ez.trans (nI_add _ _)
    refine lv_aload_n hx hb d_X16_24 rfl (lv_at hl 1 rfl) ?_
    refine zg_X S hK hP rfl 0 (by decide) zl_X0 rfl d_X16_25 ?_
    refine lv_iload_n hx hb d_X16_28 rfl (lv_at hl 2 rfl) ?_
    refine zi_ld hx hb hK hP 1 0 rfl rfl (j := r) hr9 (by decide) d_X16_29 ?_
    refine lv_bipush (v := 8) hx hb d_X16_30 (by decide) ?_
    refine lv_iload hx hb d_X16_32 (lv_at hl 0 rfl) ?_
    refine lv_imul hx hb d_X16_34 ?_
    refine lv_ishr hx hb d_X16_35 ?_
    refine lv_i2b hx hb d_X16_36 rfl ?_
    refine zy_st hx hb hK hP (zd_of rfl hnd) hS 3 1 rfl rfl (j := (u + k)) (by omega) (by decide) d_X16_37 (fun H locs hP hS hz1 => ?_)
    have hP : va_P D zC (XW cI cB x a0 a1 a2 a3 v n (zs (zst mm u k (v r)) ((u + k)) (((v r) >>> (((8 * (nI k)) : Int32) &&& 31))).toInt8) (zst hh u k (n r))) H := hP
    have hz : H.size = s.heap.size := hz1.trans hz
    clear hz1
    rw [zst_s] at hP
    refine lv_aload_n hx hb d_X16_38 rfl (lv_at hl 1 rfl) ?_
    refine zg_X S hK hP rfl 3 (by decide) zl_X3 rfl d_X16_39 ?_
    refine lv_iload_n hx hb d_X16_42 rfl (lv_at hl 3 rfl) ?_
    refine lv_iload hx hb d_X16_43 (lv_at hl 0 rfl) ?_
    refine lv_iadd hx hb d_X16_45 ?_
    refine lv_topi (fun zz ez => ?_)
    obtain rfl : zz = (nI (u + k)) := ez.trans (nI_add _ _)
    refine lv_aload_n hx hb d_X16_46 rfl (lv_at hl 1 rfl) ?_
    refine zg_X S hK hP rfl 1 (by decide) zl_X1 rfl d_X16_47 ?_
    refine lv_iload_n hx hb d_X16_50 rfl (lv_at hl 2 rfl) ?_
    refine zi_ld hx hb hK hP 2 0 rfl rfl (j := r) hr9 (by decide) d_X16_51 ?_
    refine lv_bipush (v := 8) hx hb d_X16_52 (by decide) ?_
    refine lv_iload hx hb d_X16_54 (lv_at hl 0 rfl) ?_
    refine lv_imul hx hb d_X16_56 ?_
    refine lv_ishr hx hb d_X16_57 ?_
    refine lv_i2b hx hb d_X16_58 rfl ?_
    refine zy_st hx hb hK hP (zd_of rfl hnd) hS 4 1 rfl rfl (j := (u + k)) (by omega) (by decide) d_X16_59 (fun H locs hP hS hz1 => ?_)
    have hP : va_P D zC (XW cI cB x a0 a1 a2 a3 v n (zst mm u (k + 1) (v r)) (zs (zst hh u k (n r)) ((u + k)) (((n r) >>> (((8 * (nI k)) : Int32) &&& 31))).toInt8)) H := hP
    have hz : H.size = s.heap.size := hz1.trans hz
    clear hz1
    rw [zst_s] at hP
    refine lv_iinc (k := 0) (v := (nI (k + 1))) hx hb d_X16_60 hl rfl (zi_inc _) (by decide) rfl (fun ls hl => ?_)
    have hl : lv_has ls 5 [(4, .int (nI (k + 1))), (0, .ref x), (1, .int (nI r)), (2, .int (nI u)), (3, .int (nI nn))] := hl
    refine lv_goto (tgt := 10) hx hb d_X16_63 (by decide) ?_
    exact ih _ _ _ ⟨by omega, hz, hS, hP, lv_sub hl [0, 1, 2, 3, 4] rfl⟩
set_option maxHeartbeats 4000000 in
set_option maxRecDepth 100000 in
theorem c_X17 (l : Launch) (D : va_G) (cI cB : ClassId) (a : Nat) (f : Nat → Int8) (u nn : Nat) (sg : Bool) (hn : 1 ≤ nn) (hu : u + nn ≤ 256) : Met l y_X17 (zw (.code y_X17 b_X17 6 (some .int))) (rmv 0 0 0) (va_Pc [.ref a, .int (nI u), .int (nI nn), .int (zb sg)] (zp_W D (xT cI cB) [(a, .inl (cB, 256, .inl (fun j => (f j).toInt32)))])) (vp_Si (fun z => z = zjo f u nn sg)) 0 0 (fun _ => False) := by
  refine zm_met (b := b_X17) [.ref a, .int (nI u), .int (nI nn), .int (zb sg)] zy_X (Nat.le_of_ble_eq_true rfl) ?_
  intro p e s m below meth c ls S hr hlk hnm hl hB
  obtain ⟨hx, hb, hml, hown, hts⟩ := id S
  have hl : lv_has ls 6 [(0, .ref a), (1, .int (nI u)), (2, .int (nI nn)), (3, .int (zb sg))] := hl
  obtain ⟨hP, hK⟩ := hB
  refine lv_iload_n hx hb d_X17_0 rfl (lv_at hl 3 rfl) ?_
  refine zj_i (x := if sg then (f (u + nn - 1)).toInt32 else (f (u + nn - 1)).toInt32 &&& 255) (pc := 25) (ls := ls) (rest := []) ?_ (fun J => ?_)
  · intro x0 hx0
    refine lv_istore hx hb d_X17_25 hl (by decide) rfl (fun ls hl => ?_)
    have hl : lv_has ls 6 [(4, .int x0), (0, .ref a), (1, .int (nI u)), (2, .int (nI nn)), (3, .int (zb sg))] := hl
    refine lv_iload_n hx hb d_X17_27 rfl (lv_at hl 3 rfl) ?_
    refine lv_iconst (v := 2) hx hb d_X17_28 (by decide) ?_
    refine lv_isub hx hb d_X17_29 ?_
    refine lv_topi (fun zz ez => ?_)
    obtain rfl : zz = (nI (nn - 1) - 1) := ez.trans (by rw [show nn = (nn - 1) + 1 by omega, nI_succ, Nat.add_sub_cancel]; rw [Int32.sub_eq_add_neg, Int32.sub_eq_add_neg, Int32.add_assoc]; rfl)
    refine lv_istore hx hb d_X17_30 hl (by decide) rfl (fun ls hl => ?_)
    have hl : lv_has ls 6 [(5, .int (nI (nn - 1) - 1)), (4, .int x0), (0, .ref a), (1, .int (nI u)), (2, .int (nI nn)), (3, .int (zb sg))] := hl
    refine zl_loop (fun c9 H locs ls => H = s.heap ∧ locs = [] ∧ ∃ (k : Nat) (y : Int32), c9 + k = nn - 1 ∧ zjl f u k y = zjo f u nn sg ∧ lv_has ls 6 [(5, .int (nI k - 1)), (4, .int y), (0, .ref a), (1, .int (nI u)), (2, .int (nI nn)), (3, .int (zb sg))]) 32 nn (fun c9 H locs ls h => by obtain ⟨-, -, k, y, h1, -⟩ := h; omega) ?_ 0 _ _ _ ⟨rfl, rfl, nn - 1, x0, by omega, by rw [hx0]; rfl, hl⟩
    intro c9 H locs ls hI ih
    obtain ⟨rfl, rfl, k, y, hk, hy, hl⟩ := hI
    rcases k with _ | k
    · refine lv_iload hx hb d_X17_32 (lv_at hl 0 rfl) ?_
      refine lv_if_lt (tgt := 61) hx hb d_X17_34 (by decide) (fun hc => ?_) (fun hc => ?_)
      · refine lv_iload hx hb d_X17_61 (lv_at hl 1 rfl) ?_
        exact W.iret (v := y) hx hb hr (fun t ht hW => ⟨_, rfl, hy, ht⟩) (fun q h => by cases h) d_X17_63
      · exact absurd (by decide) hc
    · rw [nI_pred] at hl
      refine lv_iload hx hb d_X17_32 (lv_at hl 0 rfl) ?_
      refine lv_if_lt (tgt := 61) hx hb d_X17_34 (by decide) (fun hc => ?_) (fun hc => ?_)
      · exact absurd hc (nI_pos (by omega))
      · refine lv_iload hx hb d_X17_37 (lv_at hl 1 rfl) ?_
        refine lv_bipush (v := 8) hx hb d_X17_39 (by decide) ?_
        refine lv_ishl hx hb d_X17_41 ?_
        refine lv_aload_n hx hb d_X17_42 rfl (lv_at hl 2 rfl) ?_
        refine lv_iload_n hx hb d_X17_43 rfl (lv_at hl 3 rfl) ?_
        refine lv_iload hx hb d_X17_44 (lv_at hl 0 rfl) ?_
        refine lv_iadd hx hb d_X17_46 ?_
        refine lv_topi (fun zz ez => ?_)
        obtain rfl : zz = (nI (u + k)) := ez.trans (nI_add _ _)
        refine zy_ld hx hb hK hP 0 1 rfl rfl (j := (u + k)) (by omega) (by decide) d_X17_47 ?_
        refine lv_sipush (v := 255) hx hb d_X17_48 (by decide) ?_
        refine lv_iand hx hb d_X17_51 ?_
        refine lv_ior hx hb d_X17_52 ?_
        refine lv_istore hx hb d_X17_53 hl (by decide) rfl (fun ls hl => ?_)
        have hl : lv_has ls 6 [(4, .int ((y <<< ((8 : Int32) &&& 31)) ||| ((f (u + k)).toInt32 &&& 255))), (5, .int (nI k)), (0, .ref a), (1, .int (nI u)), (2, .int (nI nn)), (3, .int (zb sg))] := hl
        refine lv_iinc (k := 1) (v := (nI k - 1)) hx hb d_X17_55 hl rfl (zi_dec _) (by decide) rfl (fun ls hl => ?_)
        have hl : lv_has ls 6 [(5, .int (nI k - 1)), (4, .int ((y <<< ((8 : Int32) &&& 31)) ||| ((f (u + k)).toInt32 &&& 255))), (0, .ref a), (1, .int (nI u)), (2, .int (nI nn)), (3, .int (zb sg))] := hl
        refine lv_goto (tgt := 32) hx hb d_X17_58 (by decide) ?_
        exact ih _ _ _ ⟨rfl, rfl, k, _, by omega, hy, lv_sub hl [0, 1, 2, 3, 4, 5] rfl⟩
  refine lv_if_eq (tgt := 14) hx hb d_X17_1 (by decide) (fun hc => ?_) (fun hc => ?_)
  · refine lv_aload_n hx hb d_X17_14 rfl (lv_at hl 0 rfl) ?_
    refine lv_iload_n hx hb d_X17_15 rfl (lv_at hl 1 rfl) ?_
    refine lv_iload_n hx hb d_X17_16 rfl (lv_at hl 2 rfl) ?_
    refine lv_iadd hx hb d_X17_17 ?_
    refine lv_iconst (v := 1) hx hb d_X17_18 (by decide) ?_
    refine lv_isub hx hb d_X17_19 ?_
    refine lv_topi (fun zz ez => ?_)
    obtain rfl : zz = (nI (u + nn - 1)) := ez.trans (by rw [nI_add]; exact pk_sub (b := 1) (by omega))
    refine zy_ld hx hb hK hP 0 1 rfl rfl (j := (u + nn - 1)) (by omega) (by decide) d_X17_20 ?_
    refine lv_sipush (v := 255) hx hb d_X17_21 (by decide) ?_
    refine lv_iand hx hb d_X17_24 ?_
    exact J _ (by rw [(zb_0 sg).mp hc]; rfl)
  · refine lv_aload_n hx hb d_X17_4 rfl (lv_at hl 0 rfl) ?_
    refine lv_iload_n hx hb d_X17_5 rfl (lv_at hl 1 rfl) ?_
    refine lv_iload_n hx hb d_X17_6 rfl (lv_at hl 2 rfl) ?_
    refine lv_iadd hx hb d_X17_7 ?_
    refine lv_iconst (v := 1) hx hb d_X17_8 (by decide) ?_
    refine lv_isub hx hb d_X17_9 ?_
    refine lv_topi (fun zz ez => ?_)
    obtain rfl : zz = (nI (u + nn - 1)) := ez.trans (by rw [nI_add]; exact pk_sub (b := 1) (by omega))
    refine zy_ld hx hb hK hP 0 1 rfl rfl (j := (u + nn - 1)) (by omega) (by decide) d_X17_10 ?_
    refine lv_goto (tgt := 25) hx hb d_X17_11 (by decide) ?_
    exact J _ (by rw [show sg = true by simpa using mt (zb_0 sg).mpr hc]; rfl)
set_option maxHeartbeats 4000000 in
set_option maxRecDepth 100000 in
theorem c_X18 (l : Launch) (D : va_G) (cI cB : ClassId) (x a0 a1 a2 a3 : Nat) (hnd : [x, a0, a1, a2, a3].Nodup) (v n : Nat → Int32) (mm hh : Nat → Int8) (r u nn : Nat) (sg : Bool) (hr9 : r < 16) (hn : nn = 1 ∨ nn = 2 ∨ nn = 4) (hu : u + nn ≤ 256) : Met l y_X18 (zw (.code y_X18 b_X18 5 none)) (rmv 2 0 0) (va_Pc [.ref x, .int (nI r), .int (nI u), .int (nI nn), .int (zb sg)] (zp_W D (xT cI cB) (XW cI cB x a0 a1 a2 a3 v n mm hh))) (zq_w (fun rv H => rv = none ∧ va_P D zC (XW cI cB x a0 a1 a2 a3 (zs v r (zjo mm u nn sg)) (zs n r (zjo hh u nn sg)) mm hh) H) (fun q => q ∈ [x, a0, a1, a2, a3])) 0 0 (fun q => q ∈ [x, a0, a1, a2, a3]) := by
  refine zm_met (b := b_X18) [.ref x, .int (nI r), .int (nI u), .int (nI nn), .int (zb sg)] zy_X (Nat.le_of_ble_eq_true rfl) ?_
  intro p e s m below meth c ls S hr hlk hnm hl hB
  obtain ⟨hx, hb, hml, hown, hts⟩ := id S
  have hl : lv_has ls 5 [(0, .ref x), (1, .int (nI r)), (2, .int (nI u)), (3, .int (nI nn)), (4, .int (zb sg))] := hl
  obtain ⟨hP, hK⟩ := hB
  have hS : va_S (fun q => q ∈ [x, a0, a1, a2, a3]) s.heap s.heap [] := va_S.rf
  have hz : s.heap.size = s.heap.size := rfl
  refine lv_aload_n hx hb d_X18_0 rfl (lv_at hl 0 rfl) ?_
  refine lv_iload_n hx hb d_X18_1 rfl (lv_at hl 1 rfl) ?_
  refine lv_iload_n hx hb d_X18_2 rfl (lv_at hl 2 rfl) ?_
  refine lv_iload_n hx hb d_X18_3 rfl (lv_at hl 3 rfl) ?_
  refine zc_Vv (C := zc_X) S k_X71 (c_X15 l x r u nn hr9 hn hu) rfl (zp_VT hK hP (ci := 0) rfl 0 rfl) ⟨Nat.le_of_ble_eq_true rfl, Nat.le_of_ble_eq_true rfl⟩ ⟨rfl, rfl⟩ rfl hl.1 rfl (Nat.le_of_ble_eq_true rfl) d_X18_4 ⟨Nat.zero_le _, Nat.zero_le _⟩ ?_
  refine lv_aload_n hx hb d_X18_7 rfl (lv_at hl 0 rfl) ?_
  refine lv_iload_n hx hb d_X18_8 rfl (lv_at hl 1 rfl) ?_
  refine lv_aload_n hx hb d_X18_9 rfl (lv_at hl 0 rfl) ?_
  refine zg_X S hK hP rfl 2 (by decide) zl_X2 rfl d_X18_10 ?_
  refine lv_iload_n hx hb d_X18_13 rfl (lv_at hl 2 rfl) ?_
  refine lv_iload_n hx hb d_X18_14 rfl (lv_at hl 3 rfl) ?_
  refine lv_iload hx hb d_X18_15 (lv_at hl 4 rfl) ?_
  refine zc_Si S k_X74 (c_X17 l D cI cB a2 mm u nn sg (by omega) hu) (zp_WS hK (hP.sub [3] rfl)) ⟨Nat.le_of_ble_eq_true rfl, Nat.le_of_ble_eq_true rfl⟩ ⟨rfl, rfl⟩ rfl hl.1 rfl (Nat.le_of_ble_eq_true rfl) d_X18_17 ⟨Nat.zero_le _, Nat.zero_le _⟩ ?_
  refine lv_aload_n hx hb d_X18_20 rfl (lv_at hl 0 rfl) ?_
  refine zg_X S hK hP rfl 3 (by decide) zl_X3 rfl d_X18_21 ?_
  refine lv_iload_n hx hb d_X18_24 rfl (lv_at hl 2 rfl) ?_
  refine lv_iload_n hx hb d_X18_25 rfl (lv_at hl 3 rfl) ?_
  refine lv_iload hx hb d_X18_26 (lv_at hl 4 rfl) ?_
  refine zc_Si S k_X74 (c_X17 l D cI cB a3 hh u nn sg (by omega) hu) (zp_WS hK (hP.sub [4] rfl)) ⟨Nat.le_of_ble_eq_true rfl, Nat.le_of_ble_eq_true rfl⟩ ⟨rfl, rfl⟩ rfl hl.1 rfl (Nat.le_of_ble_eq_true rfl) d_X18_28 ⟨Nat.zero_le _, Nat.zero_le _⟩ ?_
  refine zc_Vw (C := zc_X) S k_X44 (c_X14 l D cI cB x a0 a1 a2 a3 hnd v n mm hh r hr9 (zjo mm u nn sg) (zjo hh u nn sg)) rfl (xw_pre hK hP) ⟨Nat.le_of_ble_eq_true rfl, Nat.le_of_ble_eq_true rfl⟩ ⟨rfl, rfl⟩ rfl hl.1 rfl (Nat.le_of_ble_eq_true rfl) d_X18_31 ⟨Nat.zero_le _, Nat.zero_le _⟩ hS (fun rv H locs hq hz1 hS => ?_)
  obtain ⟨rfl, hP⟩ := hq
  have hz : H.size = s.heap.size := hz1.trans hz
  clear hz1
  exact W.vret hx hb hr (fun t ht hW => zq_end hS hz ⟨rfl, hP⟩ ht) hS.2.2 d_X18_34
set_option maxHeartbeats 4000000 in
set_option maxRecDepth 100000 in
theorem c_X19 (l : Launch) (D : va_G) (cI cB : ClassId) (x a0 a1 a2 a3 : Nat) (hnd : [x, a0, a1, a2, a3].Nodup) (v n : Nat → Int32) (mm hh : Nat → Int8) (r : Nat) (hr9 : r < 16) : Met l y_X19 (zw (.code y_X19 b_X19 2 (some .int))) (rmv 1 0 0) (va_Pc [.ref x, .int (nI r)] (zp_W D (xT cI cB) (XW cI cB x a0 a1 a2 a3 v n mm hh))) (vp_Si (fun z => z = v r)) 0 0 (fun _ => False) := by
  refine zm_met (b := b_X19) [.ref x, .int (nI r)] zy_X (Nat.le_of_ble_eq_true rfl) ?_
  intro p e s m below meth c ls S hr hlk hnm hl hB
  obtain ⟨hx, hb, hml, hown, hts⟩ := id S
  have hl : lv_has ls 2 [(0, .ref x), (1, .int (nI r))] := hl
  obtain ⟨hP, hK⟩ := hB
  refine lv_iload_n hx hb d_X19_0 rfl (lv_at hl 1 rfl) ?_
  refine zc_Si S k_X26 (c_X3 l (nI r)) zp_S ⟨Nat.le_of_ble_eq_true rfl, Nat.le_of_ble_eq_true rfl⟩ ⟨rfl, rfl⟩ rfl hl.1 rfl (Nat.le_of_ble_eq_true rfl) d_X19_1 ⟨Nat.zero_le _, Nat.zero_le _⟩ ?_
  rw [zk_in hr9]
  refine zc_Sv S k_X30 (c_X2 l) zp_S ⟨Nat.le_of_ble_eq_true rfl, Nat.le_of_ble_eq_true rfl⟩ ⟨rfl, rfl⟩ rfl hl.1 rfl (Nat.le_of_ble_eq_true rfl) d_X19_4 ⟨Nat.zero_le _, Nat.zero_le _⟩ ?_
  refine lv_aload_n hx hb d_X19_7 rfl (lv_at hl 0 rfl) ?_
  refine zg_X S hK hP rfl 0 (by decide) zl_X0 rfl d_X19_8 ?_
  refine lv_iload_n hx hb d_X19_11 rfl (lv_at hl 1 rfl) ?_
  refine zi_ld hx hb hK hP 1 0 rfl rfl (j := r) hr9 (by decide) d_X19_12 ?_
  exact W.iret (v := (v r)) hx hb hr (fun t ht hW => ⟨_, rfl, rfl, ht⟩) (fun q h => by cases h) d_X19_13
set_option maxHeartbeats 4000000 in
set_option maxRecDepth 100000 in
theorem c_X20 (l : Launch) (D : va_G) (cI cB : ClassId) (x a0 a1 a2 a3 : Nat) (hnd : [x, a0, a1, a2, a3].Nodup) (v n : Nat → Int32) (mm hh : Nat → Int8) (r : Nat) (hr9 : r < 16) : Met l y_X20 (zw (.code y_X20 b_X20 2 (some .int))) (rmv 1 0 0) (va_Pc [.ref x, .int (nI r)] (zp_W D (xT cI cB) (XW cI cB x a0 a1 a2 a3 v n mm hh))) (vp_Si (fun z => z = n r)) 0 0 (fun _ => False) := by
  refine zm_met (b := b_X20) [.ref x, .int (nI r)] zy_X (Nat.le_of_ble_eq_true rfl) ?_
  intro p e s m below meth c ls S hr hlk hnm hl hB
  obtain ⟨hx, hb, hml, hown, hts⟩ := id S
  have hl : lv_has ls 2 [(0, .ref x), (1, .int (nI r))] := hl
  obtain ⟨hP, hK⟩ := hB
  refine lv_iload_n hx hb d_X20_0 rfl (lv_at hl 1 rfl) ?_
  refine zc_Si S k_X26 (c_X3 l (nI r)) zp_S ⟨Nat.le_of_ble_eq_true rfl, Nat.le_of_ble_eq_true rfl⟩ ⟨rfl, rfl⟩ rfl hl.1 rfl (Nat.le_of_ble_eq_true rfl) d_X20_1 ⟨Nat.zero_le _, Nat.zero_le _⟩ ?_
  rw [zk_in hr9]
  refine zc_Sv S k_X30 (c_X2 l) zp_S ⟨Nat.le_of_ble_eq_true rfl, Nat.le_of_ble_eq_true rfl⟩ ⟨rfl, rfl⟩ rfl hl.1 rfl (Nat.le_of_ble_eq_true rfl) d_X20_4 ⟨Nat.zero_le _, Nat.zero_le _⟩ ?_
  refine lv_aload_n hx hb d_X20_7 rfl (lv_at hl 0 rfl) ?_
  refine zg_X S hK hP rfl 1 (by decide) zl_X1 rfl d_X20_8 ?_
  refine lv_iload_n hx hb d_X20_11 rfl (lv_at hl 1 rfl) ?_
  refine zi_ld hx hb hK hP 2 0 rfl rfl (j := r) hr9 (by decide) d_X20_12 ?_
  exact W.iret (v := (n r)) hx hb hr (fun t ht hW => ⟨_, rfl, rfl, ht⟩) (fun q h => by cases h) d_X20_13
set_option maxHeartbeats 4000000 in
set_option maxRecDepth 100000 in
theorem c_X21 (l : Launch) (D : va_G) (cI cB : ClassId) (x a0 a1 a2 a3 : Nat) (hnd : [x, a0, a1, a2, a3].Nodup) (v n : Nat → Int32) (mm hh : Nat → Int8) (r : Nat) (hr9 : r < 16) : Met l y_X21 (zw (.code y_X21 b_X21 2 (some .int))) (rmv 1 0 0) (va_Pc [.ref x, .int (nI r)] (zp_W D (xT cI cB) (XW cI cB x a0 a1 a2 a3 v n mm hh))) (vp_Si (fun z => z = zlw (v r) (n r))) 0 0 (fun _ => False) := by
  refine zm_met (b := b_X21) [.ref x, .int (nI r)] zy_X (Nat.le_of_ble_eq_true rfl) ?_
  intro p e s m below meth c ls S hr hlk hnm hl hB
  obtain ⟨hx, hb, hml, hown, hts⟩ := id S
  have hl : lv_has ls 2 [(0, .ref x), (1, .int (nI r))] := hl
  obtain ⟨hP, hK⟩ := hB
  refine lv_iload_n hx hb d_X21_0 rfl (lv_at hl 1 rfl) ?_
  refine zc_Si S k_X26 (c_X3 l (nI r)) zp_S ⟨Nat.le_of_ble_eq_true rfl, Nat.le_of_ble_eq_true rfl⟩ ⟨rfl, rfl⟩ rfl hl.1 rfl (Nat.le_of_ble_eq_true rfl) d_X21_1 ⟨Nat.zero_le _, Nat.zero_le _⟩ ?_
  rw [zk_in hr9]
  refine zc_Sv S k_X30 (c_X2 l) zp_S ⟨Nat.le_of_ble_eq_true rfl, Nat.le_of_ble_eq_true rfl⟩ ⟨rfl, rfl⟩ rfl hl.1 rfl (Nat.le_of_ble_eq_true rfl) d_X21_4 ⟨Nat.zero_le _, Nat.zero_le _⟩ ?_
  refine lv_aload_n hx hb d_X21_7 rfl (lv_at hl 0 rfl) ?_
  refine zg_X S hK hP rfl 0 (by decide) zl_X0 rfl d_X21_8 ?_
  refine lv_iload_n hx hb d_X21_11 rfl (lv_at hl 1 rfl) ?_
  refine zi_ld hx hb hK hP 1 0 rfl rfl (j := r) hr9 (by decide) d_X21_12 ?_
  refine lv_aload_n hx hb d_X21_13 rfl (lv_at hl 0 rfl) ?_
  refine zg_X S hK hP rfl 1 (by decide) zl_X1 rfl d_X21_14 ?_
  refine lv_iload_n hx hb d_X21_17 rfl (lv_at hl 1 rfl) ?_
  refine zi_ld hx hb hK hP 2 0 rfl rfl (j := r) hr9 (by decide) d_X21_18 ?_
  refine zc_Si S k_X61 (c_X9 l _ _) zp_S ⟨Nat.le_of_ble_eq_true rfl, Nat.le_of_ble_eq_true rfl⟩ ⟨rfl, rfl⟩ rfl hl.1 rfl (Nat.le_of_ble_eq_true rfl) d_X21_19 ⟨Nat.zero_le _, Nat.zero_le _⟩ ?_
  exact W.iret (v := (zlw (v r) (n r))) hx hb hr (fun t ht hW => ⟨_, rfl, rfl, ht⟩) (fun q h => by cases h) d_X21_22
set_option maxHeartbeats 4000000 in
set_option maxRecDepth 100000 in
theorem c_X22 (l : Launch) (D : va_G) (cI cB : ClassId) (x a0 a1 a2 a3 : Nat) (hnd : [x, a0, a1, a2, a3].Nodup) (v n : Nat → Int32) (mm hh : Nat → Int8) (r : Nat) (hr9 : r < 16) : Met l y_X22 (zw (.code y_X22 b_X22 2 (some .int))) (rmv 1 0 0) (va_Pc [.ref x, .int (nI r)] (zp_W D (xT cI cB) (XW cI cB x a0 a1 a2 a3 v n mm hh))) (vp_Si (fun z => z = zhi (v r) (n r))) 0 0 (fun _ => False) := by
  refine zm_met (b := b_X22) [.ref x, .int (nI r)] zy_X (Nat.le_of_ble_eq_true rfl) ?_
  intro p e s m below meth c ls S hr hlk hnm hl hB
  obtain ⟨hx, hb, hml, hown, hts⟩ := id S
  have hl : lv_has ls 2 [(0, .ref x), (1, .int (nI r))] := hl
  obtain ⟨hP, hK⟩ := hB
  refine lv_iload_n hx hb d_X22_0 rfl (lv_at hl 1 rfl) ?_
  refine zc_Si S k_X26 (c_X3 l (nI r)) zp_S ⟨Nat.le_of_ble_eq_true rfl, Nat.le_of_ble_eq_true rfl⟩ ⟨rfl, rfl⟩ rfl hl.1 rfl (Nat.le_of_ble_eq_true rfl) d_X22_1 ⟨Nat.zero_le _, Nat.zero_le _⟩ ?_
  rw [zk_in hr9]
  refine zc_Sv S k_X30 (c_X2 l) zp_S ⟨Nat.le_of_ble_eq_true rfl, Nat.le_of_ble_eq_true rfl⟩ ⟨rfl, rfl⟩ rfl hl.1 rfl (Nat.le_of_ble_eq_true rfl) d_X22_4 ⟨Nat.zero_le _, Nat.zero_le _⟩ ?_
  refine lv_aload_n hx hb d_X22_7 rfl (lv_at hl 0 rfl) ?_
  refine zg_X S hK hP rfl 0 (by decide) zl_X0 rfl d_X22_8 ?_
  refine lv_iload_n hx hb d_X22_11 rfl (lv_at hl 1 rfl) ?_
  refine zi_ld hx hb hK hP 1 0 rfl rfl (j := r) hr9 (by decide) d_X22_12 ?_
  refine lv_aload_n hx hb d_X22_13 rfl (lv_at hl 0 rfl) ?_
  refine zg_X S hK hP rfl 1 (by decide) zl_X1 rfl d_X22_14 ?_
  refine lv_iload_n hx hb d_X22_17 rfl (lv_at hl 1 rfl) ?_
  refine zi_ld hx hb hK hP 2 0 rfl rfl (j := r) hr9 (by decide) d_X22_18 ?_
  refine zc_Si S k_X58 (c_X10 l _ _) zp_S ⟨Nat.le_of_ble_eq_true rfl, Nat.le_of_ble_eq_true rfl⟩ ⟨rfl, rfl⟩ rfl hl.1 rfl (Nat.le_of_ble_eq_true rfl) d_X22_19 ⟨Nat.zero_le _, Nat.zero_le _⟩ ?_
  exact W.iret (v := (zhi (v r) (n r))) hx hb hr (fun t ht hW => ⟨_, rfl, rfl, ht⟩) (fun q h => by cases h) d_X22_22
set_option maxHeartbeats 4000000 in
set_option maxRecDepth 100000 in
theorem c_X23 (l : Launch) (D : va_G) (cI cB : ClassId) (x a0 a1 a2 a3 : Nat) (hnd : [x, a0, a1, a2, a3].Nodup) (v n : Nat → Int32) (mm hh : Nat → Int8) (u : Nat) (hu : u < 256) : Met l y_X23 (zw (.code y_X23 b_X23 2 (some .int))) (rmv 1 0 0) (va_Pc [.ref x, .int (nI u)] (zp_W D (xT cI cB) (XW cI cB x a0 a1 a2 a3 v n mm hh))) (vp_Si (fun z => z = ((mm u).toInt32 &&& 255) ||| (((hh u).toInt32 &&& 255) <<< ((8 : Int32) &&& 31)))) 0 0 (fun _ => False) := by
  refine zm_met (b := b_X23) [.ref x, .int (nI u)] zy_X (Nat.le_of_ble_eq_true rfl) ?_
  intro p e s m below meth c ls S hr hlk hnm hl hB
  obtain ⟨hx, hb, hml, hown, hts⟩ := id S
  have hl : lv_has ls 2 [(0, .ref x), (1, .int (nI u))] := hl
  obtain ⟨hP, hK⟩ := hB
  refine lv_iload_n hx hb d_X23_0 rfl (lv_at hl 1 rfl) ?_
  refine lv_if_lt (tgt := 15) hx hb d_X23_1 (by decide) (fun hq => absurd hq (nI_pos (by omega))) (fun hq => ?_)
  refine lv_iload_n hx hb d_X23_4 rfl (lv_at hl 1 rfl) ?_
  refine lv_sipush (v := 256) hx hb d_X23_5 (by decide) ?_
  refine lv_icmp_ge (tgt := 15) hx hb d_X23_8 (by decide) (fun hq => absurd hq (nI_ge (b := 256) hu (by decide))) (fun hq => ?_)
  refine lv_iconst (v := 1) hx hb d_X23_11 (by decide) ?_
  refine lv_goto (tgt := 16) hx hb d_X23_12 (by decide) ?_
  refine zc_Sv S k_X30 (c_X2 l) zp_S ⟨Nat.le_of_ble_eq_true rfl, Nat.le_of_ble_eq_true rfl⟩ ⟨rfl, rfl⟩ rfl hl.1 rfl (Nat.le_of_ble_eq_true rfl) d_X23_16 ⟨Nat.zero_le _, Nat.zero_le _⟩ ?_
  refine lv_aload_n hx hb d_X23_19 rfl (lv_at hl 0 rfl) ?_
  refine zg_X S hK hP rfl 2 (by decide) zl_X2 rfl d_X23_20 ?_
  refine lv_iload_n hx hb d_X23_23 rfl (lv_at hl 1 rfl) ?_
  refine zy_ld hx hb hK hP 3 1 rfl rfl (j := u) hu (by decide) d_X23_24 ?_
  refine lv_sipush (v := 255) hx hb d_X23_25 (by decide) ?_
  refine lv_iand hx hb d_X23_28 ?_
  refine lv_aload_n hx hb d_X23_29 rfl (lv_at hl 0 rfl) ?_
  refine zg_X S hK hP rfl 3 (by decide) zl_X3 rfl d_X23_30 ?_
  refine lv_iload_n hx hb d_X23_33 rfl (lv_at hl 1 rfl) ?_
  refine zy_ld hx hb hK hP 4 1 rfl rfl (j := u) hu (by decide) d_X23_34 ?_
  refine lv_sipush (v := 255) hx hb d_X23_35 (by decide) ?_
  refine lv_iand hx hb d_X23_38 ?_
  refine lv_bipush (v := 8) hx hb d_X23_39 (by decide) ?_
  refine lv_ishl hx hb d_X23_41 ?_
  refine lv_ior hx hb d_X23_42 ?_
  exact W.iret (v := (((mm u).toInt32 &&& 255) ||| (((hh u).toInt32 &&& 255) <<< ((8 : Int32) &&& 31)))) hx hb hr (fun t ht hW => ⟨_, rfl, rfl, ht⟩) (fun q h => by cases h) d_X23_43
set_option maxHeartbeats 4000000 in
set_option maxRecDepth 100000 in
theorem c_X24 (l : Launch) (D : va_G) (cI cB : ClassId) (x a0 a1 a2 a3 : Nat) (hnd : [x, a0, a1, a2, a3].Nodup) (v n : Nat → Int32) (mm hh : Nat → Int8) : Met l y_X24 (zw (.code y_X24 b_X24 4 (some .int))) (rmv 0 0 0) (va_Pc [.ref x] (zp_W D (xT cI cB) (XW cI cB x a0 a1 a2 a3 v n mm hh))) (vp_Si (fun z => z = nI (zsum (fun i => zpc (n i)) 16))) 0 0 (fun _ => False) := by
  refine zm_met (b := b_X24) [.ref x] zy_X (Nat.le_of_ble_eq_true rfl) ?_
  intro p e s m below meth c ls S hr hlk hnm hl hB
  obtain ⟨hx, hb, hml, hown, hts⟩ := id S
  have hl : lv_has ls 4 [(0, .ref x)] := hl
  obtain ⟨hP, hK⟩ := hB
  refine lv_iconst (v := 0) hx hb d_X24_0 (by decide) ?_
  refine lv_istore_n hx hb d_X24_1 rfl hl (by decide) rfl (fun ls hl => ?_)
  have hl : lv_has ls 4 [(1, .int 0), (0, .ref x)] := hl
  refine lv_iconst (v := 0) hx hb d_X24_2 (by decide) ?_
  refine lv_istore_n hx hb d_X24_3 rfl hl (by decide) rfl (fun ls hl => ?_)
  have hl : lv_has ls 4 [(2, .int 0), (1, .int 0), (0, .ref x)] := hl
  refine zl_loop (fun k H locs ls => H = s.heap ∧ locs = [] ∧ k ≤ 16 ∧ lv_has ls 4 [(2, .int (nI k)), (1, .int (nI (zsum (fun i => zpc (n i)) k))), (0, .ref x)]) 4 16 (fun k H locs ls h => h.2.2.1) ?_ 0 _ _ _ ⟨rfl, rfl, by omega, hl⟩
  intro k H locs ls hI ih
  obtain ⟨rfl, rfl, hk, hl⟩ := hI
  refine lv_iload_n hx hb d_X24_4 rfl (lv_at hl 0 rfl) ?_
  refine lv_bipush (v := 16) hx hb d_X24_5 (by decide) ?_
  refine lv_icmp_ge (tgt := 39) hx hb d_X24_7 (by decide) (fun hc => ?_) (fun hc => ?_)
  · have hk2 := zi_ge 16 rfl hc hk (by decide)
    refine lv_iload_n hx hb d_X24_39 rfl (lv_at hl 1 rfl) ?_
    exact W.iret (v := (nI (zsum (fun i => zpc (n i)) k))) hx hb hr (fun t ht hW => ⟨_, rfl, by rw [hk2], ht⟩) (fun q h => by cases h) d_X24_40
  · have hk2 := zi_lt 16 rfl hc hk (by decide)
    refine lv_aload_n hx hb d_X24_10 rfl (lv_at hl 2 rfl) ?_
    refine zg_X S hK hP rfl 1 (by decide) zl_X1 rfl d_X24_11 ?_
    refine lv_iload_n hx hb d_X24_14 rfl (lv_at hl 0 rfl) ?_
    refine zi_ld hx hb hK hP 2 0 rfl rfl (j := k) hk2 (by decide) d_X24_15 ?_
    refine lv_istore_n hx hb d_X24_16 rfl hl (by decide) rfl (fun ls hl => ?_)
    have hl : lv_has ls 4 [(3, .int (n k)), (2, .int (nI k)), (1, .int (nI (zsum (fun i => zpc (n i)) k))), (0, .ref x)] := hl
    refine zl_loop (fun c9 H locs ls => H = s.heap ∧ locs = [] ∧ ∃ z : Int32, zpc z + c9 = zpc (n k) ∧ lv_has ls 4 [(3, .int z), (2, .int (nI k)), (1, .int (nI ((zsum (fun i => zpc (n i)) k) + c9))), (0, .ref x)]) 17 32 (fun c9 H locs ls h => by obtain ⟨-, -, z, h1, -⟩ := h; have := zpc_le (n k); omega) ?_ 0 _ _ _ ⟨rfl, rfl, n k, by omega, hl⟩
    intro c9 H locs ls hI ih2
    obtain ⟨rfl, rfl, z, h1, hl⟩ := hI
    refine lv_iload_n hx hb d_X24_17 rfl (lv_at hl 0 rfl) ?_
    refine lv_if_eq (tgt := 33) hx hb d_X24_18 (by decide) (fun hd => ?_) (fun hd => ?_)
    · refine lv_iinc (k := 1) (v := (nI (k + 1))) hx hb d_X24_33 hl rfl (zi_inc _) (by decide) rfl (fun ls hl => ?_)
      have hl : lv_has ls 4 [(2, .int (nI (k + 1))), (3, .int z), (1, .int (nI ((zsum (fun i => zpc (n i)) k) + c9))), (0, .ref x)] := hl
      refine lv_goto (tgt := 4) hx hb d_X24_36 (by decide) ?_
      have h2 : zpc z = 0 := by rw [hd]; exact zpc_zero
      exact ih _ _ _ ⟨rfl, rfl, by omega, by rw [show zsum (fun i => zpc (n i)) (k + 1) = (zsum (fun i => zpc (n i)) k) + c9 by simp only [zsum]; omega]; exact lv_sub hl [0, 2, 3] rfl⟩
    · refine lv_iinc (k := 2) (v := (nI (((zsum (fun i => zpc (n i)) k) + c9) + 1))) hx hb d_X24_21 hl rfl (zi_inc _) (by decide) rfl (fun ls hl => ?_)
      have hl : lv_has ls 4 [(1, .int (nI (((zsum (fun i => zpc (n i)) k) + c9) + 1))), (3, .int z), (2, .int (nI k)), (0, .ref x)] := hl
      refine lv_iload_n hx hb d_X24_24 rfl (lv_at hl 1 rfl) ?_
      refine lv_iload_n hx hb d_X24_25 rfl (lv_at hl 1 rfl) ?_
      refine lv_iconst (v := 1) hx hb d_X24_26 (by decide) ?_
      refine lv_isub hx hb d_X24_27 ?_
      refine lv_iand hx hb d_X24_28 ?_
      refine lv_istore_n hx hb d_X24_29 rfl hl (by decide) rfl (fun ls hl => ?_)
      have hl : lv_has ls 4 [(3, .int (z &&& (z - 1))), (1, .int (nI (((zsum (fun i => zpc (n i)) k) + c9) + 1))), (2, .int (nI k)), (0, .ref x)] := hl
      refine lv_goto (tgt := 17) hx hb d_X24_30 (by decide) ?_
      exact ih2 _ _ _ ⟨rfl, rfl, _, by have := zpc_step hd; omega, lv_sub hl [0, 2, 1, 3] rfl⟩
end
section
set_option maxHeartbeats 4000000 in
set_option maxRecDepth 100000 in
theorem x_X4 (l : Launch) (hfl : l.flags = flags0) (x : Nat) (r y q : Int32) (h9 : r < 0 ∨ nI 16 ≤ r) : MetX l y_X4 (zw (.code y_X4 b_X4 4 none)) (rmv 7 1 6) (va_Pc [.ref x, .int r, .int y, .int q] zx_E) zx_io := by
  refine zx_met (b := b_X4) [.ref x, .int r, .int y, .int q] zy_X (Nat.le_of_ble_eq_true rfl) ?_
  intro p e s m below meth c ls S hlk hno hl hB
  obtain ⟨hx, hb, hml, hown, hts⟩ := id S
  have hl : lv_has ls 4 [(0, .ref x), (1, .int r), (2, .int y), (3, .int q)] := hl
  refine lv_iload_n hx hb d_X4_0 rfl (lv_at hl 1 rfl) ?_
  refine zc_Si S k_X26 (c_X3 l r) zp_S ⟨Nat.le_of_ble_eq_true rfl, Nat.le_of_ble_eq_true rfl⟩ ⟨rfl, rfl⟩ rfl hl.1 rfl (Nat.le_of_ble_eq_true rfl) d_X4_1 ⟨Nat.zero_le _, Nat.zero_le _⟩ ?_
  rw [zk_out h9]
  exact zx_passS S k_X30 (x_X2 l hfl) (zx_preS hB) ⟨Nat.le_of_ble_eq_true rfl, Nat.le_of_ble_eq_true rfl, Nat.le_of_ble_eq_true rfl, Nat.le_of_ble_eq_true rfl⟩ rfl hl.1 rfl (Nat.le_of_ble_eq_true rfl) d_X4_4 hlk hno
set_option maxHeartbeats 4000000 in
set_option maxRecDepth 100000 in
theorem x_X19 (l : Launch) (hfl : l.flags = flags0) (x : Nat) (r : Int32) (h9 : r < 0 ∨ nI 16 ≤ r) : MetX l y_X19 (zw (.code y_X19 b_X19 2 (some .int))) (rmv 7 1 6) (va_Pc [.ref x, .int r] zx_E) zx_io := by
  refine zx_met (b := b_X19) [.ref x, .int r] zy_X (Nat.le_of_ble_eq_true rfl) ?_
  intro p e s m below meth c ls S hlk hno hl hB
  obtain ⟨hx, hb, hml, hown, hts⟩ := id S
  have hl : lv_has ls 2 [(0, .ref x), (1, .int r)] := hl
  refine lv_iload_n hx hb d_X19_0 rfl (lv_at hl 1 rfl) ?_
  refine zc_Si S k_X26 (c_X3 l r) zp_S ⟨Nat.le_of_ble_eq_true rfl, Nat.le_of_ble_eq_true rfl⟩ ⟨rfl, rfl⟩ rfl hl.1 rfl (Nat.le_of_ble_eq_true rfl) d_X19_1 ⟨Nat.zero_le _, Nat.zero_le _⟩ ?_
  rw [zk_out h9]
  exact zx_passS S k_X30 (x_X2 l hfl) (zx_preS hB) ⟨Nat.le_of_ble_eq_true rfl, Nat.le_of_ble_eq_true rfl, Nat.le_of_ble_eq_true rfl, Nat.le_of_ble_eq_true rfl⟩ rfl hl.1 rfl (Nat.le_of_ble_eq_true rfl) d_X19_4 hlk hno
set_option maxHeartbeats 4000000 in
set_option maxRecDepth 100000 in
theorem x_X20 (l : Launch) (hfl : l.flags = flags0) (x : Nat) (r : Int32) (h9 : r < 0 ∨ nI 16 ≤ r) : MetX l y_X20 (zw (.code y_X20 b_X20 2 (some .int))) (rmv 7 1 6) (va_Pc [.ref x, .int r] zx_E) zx_io := by
  refine zx_met (b := b_X20) [.ref x, .int r] zy_X (Nat.le_of_ble_eq_true rfl) ?_
  intro p e s m below meth c ls S hlk hno hl hB
  obtain ⟨hx, hb, hml, hown, hts⟩ := id S
  have hl : lv_has ls 2 [(0, .ref x), (1, .int r)] := hl
  refine lv_iload_n hx hb d_X20_0 rfl (lv_at hl 1 rfl) ?_
  refine zc_Si S k_X26 (c_X3 l r) zp_S ⟨Nat.le_of_ble_eq_true rfl, Nat.le_of_ble_eq_true rfl⟩ ⟨rfl, rfl⟩ rfl hl.1 rfl (Nat.le_of_ble_eq_true rfl) d_X20_1 ⟨Nat.zero_le _, Nat.zero_le _⟩ ?_
  rw [zk_out h9]
  exact zx_passS S k_X30 (x_X2 l hfl) (zx_preS hB) ⟨Nat.le_of_ble_eq_true rfl, Nat.le_of_ble_eq_true rfl, Nat.le_of_ble_eq_true rfl, Nat.le_of_ble_eq_true rfl⟩ rfl hl.1 rfl (Nat.le_of_ble_eq_true rfl) d_X20_4 hlk hno
set_option maxHeartbeats 4000000 in
set_option maxRecDepth 100000 in
theorem x_X21 (l : Launch) (hfl : l.flags = flags0) (x : Nat) (r : Int32) (h9 : r < 0 ∨ nI 16 ≤ r) : MetX l y_X21 (zw (.code y_X21 b_X21 2 (some .int))) (rmv 7 1 6) (va_Pc [.ref x, .int r] zx_E) zx_io := by
  refine zx_met (b := b_X21) [.ref x, .int r] zy_X (Nat.le_of_ble_eq_true rfl) ?_
  intro p e s m below meth c ls S hlk hno hl hB
  obtain ⟨hx, hb, hml, hown, hts⟩ := id S
  have hl : lv_has ls 2 [(0, .ref x), (1, .int r)] := hl
  refine lv_iload_n hx hb d_X21_0 rfl (lv_at hl 1 rfl) ?_
  refine zc_Si S k_X26 (c_X3 l r) zp_S ⟨Nat.le_of_ble_eq_true rfl, Nat.le_of_ble_eq_true rfl⟩ ⟨rfl, rfl⟩ rfl hl.1 rfl (Nat.le_of_ble_eq_true rfl) d_X21_1 ⟨Nat.zero_le _, Nat.zero_le _⟩ ?_
  rw [zk_out h9]
  exact zx_passS S k_X30 (x_X2 l hfl) (zx_preS hB) ⟨Nat.le_of_ble_eq_true rfl, Nat.le_of_ble_eq_true rfl, Nat.le_of_ble_eq_true rfl, Nat.le_of_ble_eq_true rfl⟩ rfl hl.1 rfl (Nat.le_of_ble_eq_true rfl) d_X21_4 hlk hno
set_option maxHeartbeats 4000000 in
set_option maxRecDepth 100000 in
theorem x_X22 (l : Launch) (hfl : l.flags = flags0) (x : Nat) (r : Int32) (h9 : r < 0 ∨ nI 16 ≤ r) : MetX l y_X22 (zw (.code y_X22 b_X22 2 (some .int))) (rmv 7 1 6) (va_Pc [.ref x, .int r] zx_E) zx_io := by
  refine zx_met (b := b_X22) [.ref x, .int r] zy_X (Nat.le_of_ble_eq_true rfl) ?_
  intro p e s m below meth c ls S hlk hno hl hB
  obtain ⟨hx, hb, hml, hown, hts⟩ := id S
  have hl : lv_has ls 2 [(0, .ref x), (1, .int r)] := hl
  refine lv_iload_n hx hb d_X22_0 rfl (lv_at hl 1 rfl) ?_
  refine zc_Si S k_X26 (c_X3 l r) zp_S ⟨Nat.le_of_ble_eq_true rfl, Nat.le_of_ble_eq_true rfl⟩ ⟨rfl, rfl⟩ rfl hl.1 rfl (Nat.le_of_ble_eq_true rfl) d_X22_1 ⟨Nat.zero_le _, Nat.zero_le _⟩ ?_
  rw [zk_out h9]
  exact zx_passS S k_X30 (x_X2 l hfl) (zx_preS hB) ⟨Nat.le_of_ble_eq_true rfl, Nat.le_of_ble_eq_true rfl, Nat.le_of_ble_eq_true rfl, Nat.le_of_ble_eq_true rfl⟩ rfl hl.1 rfl (Nat.le_of_ble_eq_true rfl) d_X22_4 hlk hno
set_option maxHeartbeats 4000000 in
set_option maxRecDepth 100000 in
theorem x_X23 (l : Launch) (hfl : l.flags = flags0) (x : Nat) (u : Int32) (h9 : u < 0 ∨ nI 256 ≤ u) : MetX l y_X23 (zw (.code y_X23 b_X23 2 (some .int))) (rmv 7 1 6) (va_Pc [.ref x, .int u] zx_E) zx_io := by
  refine zx_met (b := b_X23) [.ref x, .int u] zy_X (Nat.le_of_ble_eq_true rfl) ?_
  intro p e s m below meth c ls S hlk hno hl hB
  obtain ⟨hx, hb, hml, hown, hts⟩ := id S
  have hl : lv_has ls 2 [(0, .ref x), (1, .int u)] := hl
  refine lv_iload_n hx hb d_X23_0 rfl (lv_at hl 1 rfl) ?_
  refine lv_if_lt (tgt := 15) hx hb d_X23_1 (by decide) (fun h1 => ?_) (fun h1 => ?_)
  · refine lv_iconst (v := 0) hx hb d_X23_15 (by decide) ?_
    exact zx_passS S k_X30 (x_X2 l hfl) (zx_preS hB) ⟨Nat.le_of_ble_eq_true rfl, Nat.le_of_ble_eq_true rfl, Nat.le_of_ble_eq_true rfl, Nat.le_of_ble_eq_true rfl⟩ rfl hl.1 rfl (Nat.le_of_ble_eq_true rfl) d_X23_16 hlk hno
  · refine lv_iload_n hx hb d_X23_4 rfl (lv_at hl 1 rfl) ?_
    refine lv_sipush (v := 256) hx hb d_X23_5 (by decide) ?_
    refine lv_icmp_ge (tgt := 15) hx hb d_X23_8 (by decide) (fun h2 => ?_) (fun h2 => ?_)
    · refine lv_iconst (v := 0) hx hb d_X23_15 (by decide) ?_
      exact zx_passS S k_X30 (x_X2 l hfl) (zx_preS hB) ⟨Nat.le_of_ble_eq_true rfl, Nat.le_of_ble_eq_true rfl, Nat.le_of_ble_eq_true rfl, Nat.le_of_ble_eq_true rfl⟩ rfl hl.1 rfl (Nat.le_of_ble_eq_true rfl) d_X23_16 hlk hno
    · exact absurd (h9.resolve_left h1) h2
set_option maxHeartbeats 4000000 in
set_option maxRecDepth 100000 in
theorem x_X11a (l : Launch) (hfl : l.flags = flags0) (x : Nat) (o9 d a b : Int32) (h9 : o9 < 0 ∨ nI 13 ≤ o9) : MetX l y_X11 (zw (.code y_X11 b_X11 13 none)) (rmv 7 1 6) (va_Pc [.ref x, .int o9, .int d, .int a, .int b] zx_E) zx_ia := by
  refine zx_met (b := b_X11) [.ref x, .int o9, .int d, .int a, .int b] zy_X (Nat.le_of_ble_eq_true rfl) ?_
  intro p e s m below meth c ls S hlk hno hl hB
  obtain ⟨hx, hb, hml, hown, hts⟩ := id S
  have hl : lv_has ls 13 [(0, .ref x), (1, .int o9), (2, .int d), (3, .int a), (4, .int b)] := hl
  refine lv_iload_n hx hb d_X11_0 rfl (lv_at hl 1 rfl) ?_
  refine lv_if_lt (tgt := 10) hx hb d_X11_1 (by decide) (fun h1 => ?_) (fun h1 => ?_)
  · exact zx_throw hfl S hB zx_own_ia (by decide) gx_x37 gx_in_ia gx_ini_ia hl.1 (by decide) d_X11_10 d_X11_13 d_X11_14 d_X11_17 hlk hno
  · refine lv_iload_n hx hb d_X11_4 rfl (lv_at hl 1 rfl) ?_
    refine lv_bipush (v := 13) hx hb d_X11_5 (by decide) ?_
    refine lv_icmp_lt (tgt := 18) hx hb d_X11_7 (by decide) (fun h2 => ?_) (fun h2 => ?_)
    · exact absurd h2 (by have := h9.resolve_left h1; rw [Int32.not_lt]; exact this)
    · exact zx_throw hfl S hB zx_own_ia (by decide) gx_x37 gx_in_ia gx_ini_ia hl.1 (by decide) d_X11_10 d_X11_13 d_X11_14 d_X11_17 hlk hno
set_option maxHeartbeats 4000000 in
set_option maxRecDepth 100000 in
theorem x_X11b (l : Launch) (hfl : l.flags = flags0) (x op : Nat) (d a b : Int32) (hop : op < 13) (h9 : (zk_16 d && zk_16 a && zk_16 b) = false) : MetX l y_X11 (zw (.code y_X11 b_X11 13 none)) (rmv 7 1 6) (va_Pc [.ref x, .int (nI op), .int d, .int a, .int b] zx_E) zx_io := by
  refine zx_met (b := b_X11) [.ref x, .int (nI op), .int d, .int a, .int b] zy_X (Nat.le_of_ble_eq_true rfl) ?_
  intro p e s m below meth c ls S hlk hno hl hB
  obtain ⟨hx, hb, hml, hown, hts⟩ := id S
  have hl : lv_has ls 13 [(0, .ref x), (1, .int (nI op)), (2, .int d), (3, .int a), (4, .int b)] := hl
  refine lv_iload_n hx hb d_X11_0 rfl (lv_at hl 1 rfl) ?_
  refine lv_if_lt (tgt := 10) hx hb d_X11_1 (by decide) (fun hq => absurd hq (nI_pos (by omega))) (fun hq => ?_)
  refine lv_iload_n hx hb d_X11_4 rfl (lv_at hl 1 rfl) ?_
  refine lv_bipush (v := 13) hx hb d_X11_5 (by decide) ?_
  refine lv_icmp_lt (tgt := 18) hx hb d_X11_7 (by decide) (fun hq => ?_) (fun hq => absurd (nI_lt hop (by decide)) hq)
  refine lv_iload_n hx hb d_X11_18 rfl (lv_at hl 2 rfl) ?_
  refine zc_Si S k_X26 (c_X3 l d) zp_S ⟨Nat.le_of_ble_eq_true rfl, Nat.le_of_ble_eq_true rfl⟩ ⟨rfl, rfl⟩ rfl hl.1 rfl (Nat.le_of_ble_eq_true rfl) d_X11_19 ⟨Nat.zero_le _, Nat.zero_le _⟩ ?_
  refine lv_if_eq (tgt := 44) hx hb d_X11_22 (by decide) (fun hd => ?_) (fun hd => ?_)
  · refine lv_iconst (v := 0) hx hb d_X11_44 (by decide) ?_
    exact zx_passS S k_X30 (x_X2 l hfl) (zx_preS hB) ⟨Nat.le_of_ble_eq_true rfl, Nat.le_of_ble_eq_true rfl, Nat.le_of_ble_eq_true rfl, Nat.le_of_ble_eq_true rfl⟩ rfl hl.1 rfl (Nat.le_of_ble_eq_true rfl) d_X11_45 hlk hno
  · refine lv_iload_n hx hb d_X11_25 rfl (lv_at hl 3 rfl) ?_
    refine zc_Si S k_X26 (c_X3 l a) zp_S ⟨Nat.le_of_ble_eq_true rfl, Nat.le_of_ble_eq_true rfl⟩ ⟨rfl, rfl⟩ rfl hl.1 rfl (Nat.le_of_ble_eq_true rfl) d_X11_26 ⟨Nat.zero_le _, Nat.zero_le _⟩ ?_
    refine lv_if_eq (tgt := 44) hx hb d_X11_29 (by decide) (fun ha => ?_) (fun ha => ?_)
    · refine lv_iconst (v := 0) hx hb d_X11_44 (by decide) ?_
      exact zx_passS S k_X30 (x_X2 l hfl) (zx_preS hB) ⟨Nat.le_of_ble_eq_true rfl, Nat.le_of_ble_eq_true rfl, Nat.le_of_ble_eq_true rfl, Nat.le_of_ble_eq_true rfl⟩ rfl hl.1 rfl (Nat.le_of_ble_eq_true rfl) d_X11_45 hlk hno
    · refine lv_iload hx hb d_X11_32 (lv_at hl 4 rfl) ?_
      refine zc_Si S k_X26 (c_X3 l b) zp_S ⟨Nat.le_of_ble_eq_true rfl, Nat.le_of_ble_eq_true rfl⟩ ⟨rfl, rfl⟩ rfl hl.1 rfl (Nat.le_of_ble_eq_true rfl) d_X11_34 ⟨Nat.zero_le _, Nat.zero_le _⟩ ?_
      refine lv_if_eq (tgt := 44) hx hb d_X11_37 (by decide) (fun hb9 => ?_) (fun hb9 => ?_)
      · refine lv_iconst (v := 0) hx hb d_X11_44 (by decide) ?_
        exact zx_passS S k_X30 (x_X2 l hfl) (zx_preS hB) ⟨Nat.le_of_ble_eq_true rfl, Nat.le_of_ble_eq_true rfl, Nat.le_of_ble_eq_true rfl, Nat.le_of_ble_eq_true rfl⟩ rfl hl.1 rfl (Nat.le_of_ble_eq_true rfl) d_X11_45 hlk hno
      · exact absurd h9 (by rw [show zk_16 d = true by simpa using mt (zb_0 _).mpr hd, show zk_16 a = true by simpa using mt (zb_0 _).mpr ha, show zk_16 b = true by simpa using mt (zb_0 _).mpr hb9]; decide)
set_option maxHeartbeats 4000000 in
set_option maxRecDepth 100000 in
theorem x_X15a (l : Launch) (hfl : l.flags = flags0) (x : Nat) (r u n9 : Int32) (h9 : ¬ n9 = 1 ∧ ¬ n9 = 2 ∧ ¬ n9 = 4) : MetX l y_X15 (zw (.code y_X15 b_X15 4 none)) (rmv 7 1 6) (va_Pc [.ref x, .int r, .int u, .int n9] zx_E) zx_ia := by
  refine zx_met (b := b_X15) [.ref x, .int r, .int u, .int n9] zy_X (Nat.le_of_ble_eq_true rfl) ?_
  intro p e s m below meth c ls S hlk hno hl hB
  obtain ⟨hx, hb, hml, hown, hts⟩ := id S
  have hl : lv_has ls 4 [(0, .ref x), (1, .int r), (2, .int u), (3, .int n9)] := hl
  refine lv_iload_n hx hb d_X15_0 rfl (lv_at hl 3 rfl) ?_
  refine lv_iconst (v := 1) hx hb d_X15_1 (by decide) ?_
  refine lv_icmp_eq (tgt := 23) hx hb d_X15_2 (by decide) (fun hq => absurd hq h9.1) (fun hq => ?_)
  refine lv_iload_n hx hb d_X15_5 rfl (lv_at hl 3 rfl) ?_
  refine lv_iconst (v := 2) hx hb d_X15_6 (by decide) ?_
  refine lv_icmp_eq (tgt := 23) hx hb d_X15_7 (by decide) (fun hq => absurd hq h9.2.1) (fun hq => ?_)
  refine lv_iload_n hx hb d_X15_10 rfl (lv_at hl 3 rfl) ?_
  refine lv_iconst (v := 4) hx hb d_X15_11 (by decide) ?_
  refine lv_icmp_eq (tgt := 23) hx hb d_X15_12 (by decide) (fun hq => absurd hq h9.2.2) (fun hq => ?_)
  exact zx_throw hfl S hB zx_own_ia (by decide) gx_x37 gx_in_ia gx_ini_ia hl.1 (by decide) d_X15_15 d_X15_18 d_X15_19 d_X15_22 hlk hno
set_option maxHeartbeats 4000000 in
set_option maxRecDepth 100000 in
theorem x_X15b (l : Launch) (hfl : l.flags = flags0) (x : Nat) (r u n9 : Int32) (hn : n9 = 1 ∨ n9 = 2 ∨ n9 = 4) (h9 : ¬ (zk_16 r = true ∧ ¬ u < 0 ∧ ¬ 256 - n9 < u)) : MetX l y_X15 (zw (.code y_X15 b_X15 4 none)) (rmv 7 1 6) (va_Pc [.ref x, .int r, .int u, .int n9] zx_E) zx_io := by
  refine zx_met (b := b_X15) [.ref x, .int r, .int u, .int n9] zy_X (Nat.le_of_ble_eq_true rfl) ?_
  intro p e s m below meth c ls S hlk hno hl hB
  obtain ⟨hx, hb, hml, hown, hts⟩ := id S
  have hl : lv_has ls 4 [(0, .ref x), (1, .int r), (2, .int u), (3, .int n9)] := hl
  have J : W p l e (rmv 7 1 6) s m #[Value.ref x, Value.int r, Value.int u, Value.int n9] below meth c s.heap [] 0 0 (zx_M below zx_io s) (F0 m 23 ls []) := by
    refine lv_iload_n hx hb d_X15_23 rfl (lv_at hl 1 rfl) ?_
    refine zc_Si S k_X26 (c_X3 l r) zp_S ⟨Nat.le_of_ble_eq_true rfl, Nat.le_of_ble_eq_true rfl⟩ ⟨rfl, rfl⟩ rfl hl.1 rfl (Nat.le_of_ble_eq_true rfl) d_X15_24 ⟨Nat.zero_le _, Nat.zero_le _⟩ ?_
    refine lv_if_eq (tgt := 47) hx hb d_X15_27 (by decide) (fun h1 => ?_) (fun h1 => ?_)
    · refine lv_iconst (v := 0) hx hb d_X15_47 (by decide) ?_
      exact zx_passS S k_X30 (x_X2 l hfl) (zx_preS hB) ⟨Nat.le_of_ble_eq_true rfl, Nat.le_of_ble_eq_true rfl, Nat.le_of_ble_eq_true rfl, Nat.le_of_ble_eq_true rfl⟩ rfl hl.1 rfl (Nat.le_of_ble_eq_true rfl) d_X15_48 hlk hno
    · refine lv_iload_n hx hb d_X15_30 rfl (lv_at hl 2 rfl) ?_
      refine lv_if_lt (tgt := 47) hx hb d_X15_31 (by decide) (fun h2 => ?_) (fun h2 => ?_)
      · refine lv_iconst (v := 0) hx hb d_X15_47 (by decide) ?_
        exact zx_passS S k_X30 (x_X2 l hfl) (zx_preS hB) ⟨Nat.le_of_ble_eq_true rfl, Nat.le_of_ble_eq_true rfl, Nat.le_of_ble_eq_true rfl, Nat.le_of_ble_eq_true rfl⟩ rfl hl.1 rfl (Nat.le_of_ble_eq_true rfl) d_X15_48 hlk hno
      · refine lv_iload_n hx hb d_X15_34 rfl (lv_at hl 2 rfl) ?_
        refine lv_sipush (v := 256) hx hb d_X15_35 (by decide) ?_
        refine lv_iload_n hx hb d_X15_38 rfl (lv_at hl 3 rfl) ?_
        refine lv_isub hx hb d_X15_39 ?_
        refine lv_icmp_gt (tgt := 47) hx hb d_X15_40 (by decide) (fun h3 => ?_) (fun h3 => ?_)
        · refine lv_iconst (v := 0) hx hb d_X15_47 (by decide) ?_
          exact zx_passS S k_X30 (x_X2 l hfl) (zx_preS hB) ⟨Nat.le_of_ble_eq_true rfl, Nat.le_of_ble_eq_true rfl, Nat.le_of_ble_eq_true rfl, Nat.le_of_ble_eq_true rfl⟩ rfl hl.1 rfl (Nat.le_of_ble_eq_true rfl) d_X15_48 hlk hno
        · exact absurd ⟨by simpa using mt (zb_0 _).mpr h1, h2, h3⟩ h9
  refine lv_iload_n hx hb d_X15_0 rfl (lv_at hl 3 rfl) ?_
  refine lv_iconst (v := 1) hx hb d_X15_1 (by decide) ?_
  refine lv_icmp_eq (tgt := 23) hx hb d_X15_2 (by decide) (fun g1 => ?_) (fun g1 => ?_)
  · exact J
  · refine lv_iload_n hx hb d_X15_5 rfl (lv_at hl 3 rfl) ?_
    refine lv_iconst (v := 2) hx hb d_X15_6 (by decide) ?_
    refine lv_icmp_eq (tgt := 23) hx hb d_X15_7 (by decide) (fun g2 => ?_) (fun g2 => ?_)
    · exact J
    · refine lv_iload_n hx hb d_X15_10 rfl (lv_at hl 3 rfl) ?_
      refine lv_iconst (v := 4) hx hb d_X15_11 (by decide) ?_
      refine lv_icmp_eq (tgt := 23) hx hb d_X15_12 (by decide) (fun g3 => ?_) (fun g3 => ?_)
      · exact J
      · exact absurd hn (fun h => h.elim g1 (fun h => h.elim g2 g3))
set_option maxHeartbeats 4000000 in
set_option maxRecDepth 100000 in
theorem x_X16a (l : Launch) (hfl : l.flags = flags0) (D : va_G) (cI cB : ClassId) (x a0 a1 a2 a3 : Nat) (v n : Nat → Int32) (mm hh : Nat → Int8) (r u n9 : Int32) (h9 : ¬ n9 = 1 ∧ ¬ n9 = 2 ∧ ¬ n9 = 4) : MetX l y_X16 (zw (.code y_X16 b_X16 5 none)) (rmv 8 1 6) (va_Pc [.ref x, .int r, .int u, .int n9] (fun U => zx_E U ∧ zp_W D (xT cI cB) (XW cI cB x a0 a1 a2 a3 v n mm hh) U)) zx_ia := by
  refine zx_met (b := b_X16) [.ref x, .int r, .int u, .int n9] zy_X (Nat.le_of_ble_eq_true rfl) ?_
  intro p e s m below meth c ls S hlk hno hl hB
  obtain ⟨hx, hb, hml, hown, hts⟩ := id S
  have hl : lv_has ls 5 [(0, .ref x), (1, .int r), (2, .int u), (3, .int n9)] := hl
  obtain ⟨hE, hP, hK⟩ := hB
  refine lv_aload_n hx hb d_X16_0 rfl (lv_at hl 0 rfl) ?_
  refine lv_iload_n hx hb d_X16_1 rfl (lv_at hl 1 rfl) ?_
  refine lv_iload_n hx hb d_X16_2 rfl (lv_at hl 2 rfl) ?_
  refine lv_iload_n hx hb d_X16_3 rfl (lv_at hl 3 rfl) ?_
  exact zx_passV S k_X71 (x_X15a l hfl x r u n9 h9) rfl (zx_preV hE hK hP) ⟨Nat.le_of_ble_eq_true rfl, Nat.le_of_ble_eq_true rfl, Nat.le_of_ble_eq_true rfl, Nat.le_of_ble_eq_true rfl⟩ rfl hl.1 rfl (Nat.le_of_ble_eq_true rfl) d_X16_4 hlk hno
set_option maxHeartbeats 4000000 in
set_option maxRecDepth 100000 in
theorem x_X16b (l : Launch) (hfl : l.flags = flags0) (D : va_G) (cI cB : ClassId) (x a0 a1 a2 a3 : Nat) (v n : Nat → Int32) (mm hh : Nat → Int8) (r u n9 : Int32) (hn : n9 = 1 ∨ n9 = 2 ∨ n9 = 4) (h9 : ¬ (zk_16 r = true ∧ ¬ u < 0 ∧ ¬ 256 - n9 < u)) : MetX l y_X16 (zw (.code y_X16 b_X16 5 none)) (rmv 8 1 6) (va_Pc [.ref x, .int r, .int u, .int n9] (fun U => zx_E U ∧ zp_W D (xT cI cB) (XW cI cB x a0 a1 a2 a3 v n mm hh) U)) zx_io := by
  refine zx_met (b := b_X16) [.ref x, .int r, .int u, .int n9] zy_X (Nat.le_of_ble_eq_true rfl) ?_
  intro p e s m below meth c ls S hlk hno hl hB
  obtain ⟨hx, hb, hml, hown, hts⟩ := id S
  have hl : lv_has ls 5 [(0, .ref x), (1, .int r), (2, .int u), (3, .int n9)] := hl
  obtain ⟨hE, hP, hK⟩ := hB
  refine lv_aload_n hx hb d_X16_0 rfl (lv_at hl 0 rfl) ?_
  refine lv_iload_n hx hb d_X16_1 rfl (lv_at hl 1 rfl) ?_
  refine lv_iload_n hx hb d_X16_2 rfl (lv_at hl 2 rfl) ?_
  refine lv_iload_n hx hb d_X16_3 rfl (lv_at hl 3 rfl) ?_
  exact zx_passV S k_X71 (x_X15b l hfl x r u n9 hn h9) rfl (zx_preV hE hK hP) ⟨Nat.le_of_ble_eq_true rfl, Nat.le_of_ble_eq_true rfl, Nat.le_of_ble_eq_true rfl, Nat.le_of_ble_eq_true rfl⟩ rfl hl.1 rfl (Nat.le_of_ble_eq_true rfl) d_X16_4 hlk hno
set_option maxHeartbeats 4000000 in
set_option maxRecDepth 100000 in
theorem x_X18a (l : Launch) (hfl : l.flags = flags0) (D : va_G) (cI cB : ClassId) (x a0 a1 a2 a3 : Nat) (v n : Nat → Int32) (mm hh : Nat → Int8) (r u n9 : Int32) (sg : Int32) (h9 : ¬ n9 = 1 ∧ ¬ n9 = 2 ∧ ¬ n9 = 4) : MetX l y_X18 (zw (.code y_X18 b_X18 5 none)) (rmv 8 1 6) (va_Pc [.ref x, .int r, .int u, .int n9, .int sg] (fun U => zx_E U ∧ zp_W D (xT cI cB) (XW cI cB x a0 a1 a2 a3 v n mm hh) U)) zx_ia := by
  refine zx_met (b := b_X18) [.ref x, .int r, .int u, .int n9, .int sg] zy_X (Nat.le_of_ble_eq_true rfl) ?_
  intro p e s m below meth c ls S hlk hno hl hB
  obtain ⟨hx, hb, hml, hown, hts⟩ := id S
  have hl : lv_has ls 5 [(0, .ref x), (1, .int r), (2, .int u), (3, .int n9), (4, .int sg)] := hl
  obtain ⟨hE, hP, hK⟩ := hB
  refine lv_aload_n hx hb d_X18_0 rfl (lv_at hl 0 rfl) ?_
  refine lv_iload_n hx hb d_X18_1 rfl (lv_at hl 1 rfl) ?_
  refine lv_iload_n hx hb d_X18_2 rfl (lv_at hl 2 rfl) ?_
  refine lv_iload_n hx hb d_X18_3 rfl (lv_at hl 3 rfl) ?_
  exact zx_passV S k_X71 (x_X15a l hfl x r u n9 h9) rfl (zx_preV hE hK hP) ⟨Nat.le_of_ble_eq_true rfl, Nat.le_of_ble_eq_true rfl, Nat.le_of_ble_eq_true rfl, Nat.le_of_ble_eq_true rfl⟩ rfl hl.1 rfl (Nat.le_of_ble_eq_true rfl) d_X18_4 hlk hno
set_option maxHeartbeats 4000000 in
set_option maxRecDepth 100000 in
theorem x_X18b (l : Launch) (hfl : l.flags = flags0) (D : va_G) (cI cB : ClassId) (x a0 a1 a2 a3 : Nat) (v n : Nat → Int32) (mm hh : Nat → Int8) (r u n9 : Int32) (sg : Int32) (hn : n9 = 1 ∨ n9 = 2 ∨ n9 = 4) (h9 : ¬ (zk_16 r = true ∧ ¬ u < 0 ∧ ¬ 256 - n9 < u)) : MetX l y_X18 (zw (.code y_X18 b_X18 5 none)) (rmv 8 1 6) (va_Pc [.ref x, .int r, .int u, .int n9, .int sg] (fun U => zx_E U ∧ zp_W D (xT cI cB) (XW cI cB x a0 a1 a2 a3 v n mm hh) U)) zx_io := by
  refine zx_met (b := b_X18) [.ref x, .int r, .int u, .int n9, .int sg] zy_X (Nat.le_of_ble_eq_true rfl) ?_
  intro p e s m below meth c ls S hlk hno hl hB
  obtain ⟨hx, hb, hml, hown, hts⟩ := id S
  have hl : lv_has ls 5 [(0, .ref x), (1, .int r), (2, .int u), (3, .int n9), (4, .int sg)] := hl
  obtain ⟨hE, hP, hK⟩ := hB
  refine lv_aload_n hx hb d_X18_0 rfl (lv_at hl 0 rfl) ?_
  refine lv_iload_n hx hb d_X18_1 rfl (lv_at hl 1 rfl) ?_
  refine lv_iload_n hx hb d_X18_2 rfl (lv_at hl 2 rfl) ?_
  refine lv_iload_n hx hb d_X18_3 rfl (lv_at hl 3 rfl) ?_
  exact zx_passV S k_X71 (x_X15b l hfl x r u n9 hn h9) rfl (zx_preV hE hK hP) ⟨Nat.le_of_ble_eq_true rfl, Nat.le_of_ble_eq_true rfl, Nat.le_of_ble_eq_true rfl, Nat.le_of_ble_eq_true rfl⟩ rfl hl.1 rfl (Nat.le_of_ble_eq_true rfl) d_X18_4 hlk hno
end
section
/-! the world of a ShadowMathModel -/
abbrev MW (cZ : ClassId) (mo b0 b1 b2 b3 b4 b5 : Nat) (er : Int32) (f0 f1 f2 f3 f4 f5 : Nat → Bool) : va_W := [(mo, .inr (1, [.int er, .ref b0, .ref b1, .ref b2, .ref b3, .ref b4, .ref b5])), (b0, .inl (cZ, 512, .inl (fun j => zb (f0 j)))), (b1, .inl (cZ, 512, .inl (fun j => zb (f1 j)))), (b2, .inl (cZ, 2048, .inl (fun j => zb (f2 j)))), (b3, .inl (cZ, 2048, .inl (fun j => zb (f3 j)))), (b4, .inl (cZ, 32, .inl (fun j => zb (f4 j)))), (b5, .inl (cZ, 32, .inl (fun j => zb (f5 j))))]
abbrev mT (cZ : ClassId) : List (ClassId × FieldType) := [(cZ, .boolean)]
theorem mw_pre {s : State} {H : Heap} {D : va_G} {cZ : ClassId} {mo b0 b1 b2 b3 b4 b5 : Nat} {er : Int32} {f0 f1 f2 f3 f4 f5 : Nat → Bool} {As : List Value} (hK : va_K D zC (mT cZ) s) (hP : va_P D zC (MW cZ mo b0 b1 b2 b3 b4 b5 er f0 f1 f2 f3 f4 f5) H) : PreV s H zc_M mo (va_Pc (.ref mo :: As) (zp_W D (mT cZ) (MW cZ mo b0 b1 b2 b3 b4 b5 er f0 f1 f2 f3 f4 f5))) As := zp_WV hK hP (ci := 1) rfl 0 rfl hP
/-! bits laid out in rows -/
def zr (v : Nat → Int32) : Nat → Bool := fun j => bt (v (j / 32)) (j % 32)
def zo (mm : Nat → Int8) : Nat → Bool := fun j => (mm (j / 8)).toBitVec.getLsbD (j % 8)
def zfl {α : Type} (f : Nat → α) (u k : Nat) (g : Nat → α) : Nat → α := fun j => if u ≤ j ∧ j < u + k then g (j - u) else f j
theorem zfl_0 {α : Type} (f : Nat → α) (u : Nat) (g : Nat → α) : zfl f u 0 g = f := by
  funext j
  unfold zfl
  rw [if_neg (by omega)]
theorem zfl_s {α : Type} (f : Nat → α) (u k : Nat) (g : Nat → α) : zs (zfl f u k g) (u + k) (g k) = zfl f u (k + 1) g := by
  funext j
  unfold zfl zs
  by_cases h : j = u + k
  · subst h
    rw [if_pos rfl, if_pos (by omega), Nat.add_sub_cancel_left]
  · rw [if_neg h]
    show (if u ≤ j ∧ j < u + k then g (j - u) else f j) = _
    by_cases h2 : u ≤ j ∧ j < u + k
    · rw [if_pos h2, if_pos (by omega)]
    · rw [if_neg h2, if_neg (by omega)]
theorem zfl_s0 {α : Type} (f : Nat → α) (k : Nat) (g : Nat → α) : zs (zfl f 0 k g) k (g k) = zfl f 0 (k + 1) g := by
  have := zfl_s f 0 k g
  rwa [Nat.zero_add] at this
theorem zfl_at {α : Type} (f : Nat → α) (k : Nat) (g : Nat → α) {i : Nat} (h : i < k) : zfl f 0 k g i = g i := by
  unfold zfl
  rw [if_pos (by omega), Nat.sub_zero]
theorem zr_at (v : Nat → Int32) (r i : Nat) (hi : i < 32) : zr v (32 * r + i) = bt (v r) i := by
  unfold zr
  rw [show (32 * r + i) / 32 = r by omega, show (32 * r + i) % 32 = i by omega]
theorem zr_put (v : Nat → Int32) (r : Nat) (V : Int32) (g : Nat → Bool) (hg : ∀ i, i < 32 → g i = bt V i) : zfl (zr v) (32 * r) 32 g = zr (zs v r V) := by
  funext j
  unfold zfl zr zs
  by_cases h : 32 * r ≤ j ∧ j < 32 * r + 32
  · rw [if_pos h, hg _ (by omega), if_pos (by omega), show j - 32 * r = j % 32 by omega]
  · rw [if_neg h, if_neg (by omega)]
theorem zo_at (mm : Nat → Int8) (u i : Nat) (hi : i < 8) : zo mm (8 * u + i) = (mm u).toBitVec.getLsbD i := by
  unfold zo
  rw [show (8 * u + i) / 8 = u by omega, show (8 * u + i) % 8 = i by omega]
theorem zshr_bit (V : Int32) {k : Nat} (hk : k < 32) : decide (((V >>> (nI k &&& 31)) &&& 1) = 1) = bt V k := by
  rw [zb_bit0, b_sshr k hk V (by decide), if_pos (by omega), Nat.add_zero]
  have := zb_1 (bt V k)
  cases h : bt V k <;> simp_all
theorem zone_bit {k : Nat} (hk : k < 32) {i : Nat} (hi : i < 32) : bt ((1 : Int32) <<< (nI k &&& 31)) i = decide (i = k) := by
  rw [b_shl k hk 1 hi]
  have h1 : ∀ i, i < 32 → bt 1 i = decide (i = 0) := by decide +kernel
  rw [h1 _ (by omega)]
  by_cases h : i = k
  · subst h; simp
  · by_cases h2 : k ≤ i
    · rw [decide_eq_false (p := i - k = 0) (by omega), decide_eq_false h, Bool.and_false]
    · rw [decide_eq_false h2, decide_eq_false h, Bool.false_and]
/-- the greatest, or least, that a word can be: its bits -/
def zen (V N : Int32) (gr sg : Bool) : Int32 := if gr then (if sg then zhi V N else V ||| N) else (if sg then zlw V N else V &&& (N ^^^ (-1)))
theorem zen_bit (V N : Int32) (gr sg : Bool) {i : Nat} (hi : i < 32) : bt (zen V N gr sg) i = if bt N i then (gr != (sg && decide (i = 31))) else bt V i := by
  have hmin : ∀ i, i < 32 → bt (-2147483648) i = decide (i = 31) := by decide +kernel
  have e1 : bt (zhi V N) i = if bt N i then !decide (i = 31) else bt V i := by
    unfold zhi
    rw [b_and, b_or, b_xor, b_and, hmin i hi, b_m1 i hi]
    cases bt V i <;> cases bt N i <;> cases decide (i = 31) <;> rfl
  have e2 : bt (zlw V N) i = if bt N i then decide (i = 31) else bt V i := by
    unfold zlw
    rw [b_or, b_and, b_and, b_xor, hmin i hi, b_m1 i hi]
    cases bt V i <;> cases bt N i <;> cases decide (i = 31) <;> rfl
  have e3 : bt (V &&& (N ^^^ (-1))) i = if bt N i then false else bt V i := by
    rw [b_and, b_xor, b_m1 i hi]
    cases bt V i <;> cases bt N i <;> rfl
  unfold zen
  cases gr <;> cases sg
  · rw [if_neg (by decide), if_neg (by decide), e3]; cases bt N i <;> rfl
  · rw [if_neg (by decide), if_pos rfl, e2]; cases bt N i <;> cases decide (i = 31) <;> rfl
  · rw [if_pos rfl, if_neg (by decide), b_or]; cases bt V i <;> cases bt N i <;> rfl
  · rw [if_pos rfl, if_pos rfl, e1]; cases bt N i <;> cases decide (i = 31) <;> rfl
/-- as a long, with sign or without -/
def zel (V N : Int32) (gr sg : Bool) : Int64 := if sg then (zen V N gr sg).toInt64 else lN (zen V N gr sg).toBitVec.toNat
theorem zd_lt {i k : Nat} (h : ¬ i = k) : decide (i < k + 1) = decide (i < k) := decide_eq_decide.mpr ⟨fun q => by omega, fun q => by omega⟩
end
section
set_option maxHeartbeats 4000000 in
set_option maxRecDepth 100000 in
theorem c_M9 (l : Launch) (D : va_G) (cZ : ClassId) (mo b0 b1 b2 b3 b4 b5 : Nat) (hnd : [mo, b0, b1, b2, b3, b4, b5].Nodup) (er : Int32) (f0 f1 f2 f3 f4 f5 : Nat → Bool) (r k : Nat) (hr9 : r < 16) (hk9 : k < 32) : Met l y_M9 (zw (.code y_M9 b_M9 3 (some .boolean))) (rmv 0 0 0) (va_Pc [.ref mo, .int (nI r), .int (nI k)] (zp_W D (mT cZ) (MW cZ mo b0 b1 b2 b3 b4 b5 er f0 f1 f2 f3 f4 f5))) (vp_Si (fun z => z = zb (f0 (32 * r + k)))) 0 0 (fun _ => False) := by
  refine zm_met (b := b_M9) [.ref mo, .int (nI r), .int (nI k)] zy_M (Nat.le_of_ble_eq_true rfl) ?_
  intro p e s m below meth c ls S hr hlk hnm hl hB
  obtain ⟨hx, hb, hml, hown, hts⟩ := id S
  have hl : lv_has ls 3 [(0, .ref mo), (1, .int (nI r)), (2, .int (nI k))] := hl
  obtain ⟨hP, hK⟩ := hB
  refine lv_aload_n hx hb d_M9_0 rfl (lv_at hl 0 rfl) ?_
  refine zg_M S hK hP rfl 1 (by decide) zl_M1 rfl d_M9_1 ?_
  refine lv_bipush (v := 32) hx hb d_M9_4 (by decide) ?_
  refine lv_iload_n hx hb d_M9_6 rfl (lv_at hl 1 rfl) ?_
  refine lv_imul hx hb d_M9_7 ?_
  refine lv_iload_n hx hb d_M9_8 rfl (lv_at hl 2 rfl) ?_
  refine lv_iadd hx hb d_M9_9 ?_
  refine lv_topi (fun zz ez => ?_)
  obtain rfl : zz = (nI (32 * r + k)) := ez.trans (zi_ix r k)
  refine zz_ld hx hb hK hP 1 0 rfl rfl (j := (32 * r + k)) (by omega) (by decide) d_M9_10 ?_
  exact W.zret (v := (zb (f0 (32 * r + k)))) hx hb hr (zb_nar _) (fun t ht hW => ⟨_, rfl, rfl, ht⟩) (fun q h => by cases h) d_M9_11
set_option maxHeartbeats 4000000 in
set_option maxRecDepth 100000 in
theorem c_M10 (l : Launch) (D : va_G) (cZ : ClassId) (mo b0 b1 b2 b3 b4 b5 : Nat) (hnd : [mo, b0, b1, b2, b3, b4, b5].Nodup) (er : Int32) (f0 f1 f2 f3 f4 f5 : Nat → Bool) (r k : Nat) (hr9 : r < 16) (hk9 : k < 32) : Met l y_M10 (zw (.code y_M10 b_M10 3 (some .boolean))) (rmv 0 0 0) (va_Pc [.ref mo, .int (nI r), .int (nI k)] (zp_W D (mT cZ) (MW cZ mo b0 b1 b2 b3 b4 b5 er f0 f1 f2 f3 f4 f5))) (vp_Si (fun z => z = zb (f1 (32 * r + k)))) 0 0 (fun _ => False) := by
  refine zm_met (b := b_M10) [.ref mo, .int (nI r), .int (nI k)] zy_M (Nat.le_of_ble_eq_true rfl) ?_
  intro p e s m below meth c ls S hr hlk hnm hl hB
  obtain ⟨hx, hb, hml, hown, hts⟩ := id S
  have hl : lv_has ls 3 [(0, .ref mo), (1, .int (nI r)), (2, .int (nI k))] := hl
  obtain ⟨hP, hK⟩ := hB
  refine lv_aload_n hx hb d_M10_0 rfl (lv_at hl 0 rfl) ?_
  refine zg_M S hK hP rfl 2 (by decide) zl_M2 rfl d_M10_1 ?_
  refine lv_bipush (v := 32) hx hb d_M10_4 (by decide) ?_
  refine lv_iload_n hx hb d_M10_6 rfl (lv_at hl 1 rfl) ?_
  refine lv_imul hx hb d_M10_7 ?_
  refine lv_iload_n hx hb d_M10_8 rfl (lv_at hl 2 rfl) ?_
  refine lv_iadd hx hb d_M10_9 ?_
  refine lv_topi (fun zz ez => ?_)
  obtain rfl : zz = (nI (32 * r + k)) := ez.trans (zi_ix r k)
  refine zz_ld hx hb hK hP 2 0 rfl rfl (j := (32 * r + k)) (by omega) (by decide) d_M10_10 ?_
  exact W.zret (v := (zb (f1 (32 * r + k)))) hx hb hr (zb_nar _) (fun t ht hW => ⟨_, rfl, rfl, ht⟩) (fun q h => by cases h) d_M10_11
set_option maxHeartbeats 4000000 in
set_option maxRecDepth 100000 in
theorem c_M2 (l : Launch) (D : va_G) (cZ : ClassId) (mo b0 b1 b2 b3 b4 b5 : Nat) (hnd : [mo, b0, b1, b2, b3, b4, b5].Nodup) (er : Int32) (f0 f1 f2 f3 f4 f5 : Nat → Bool) : Met l y_M2 (zw (.code y_M2 b_M2 1 (some .int))) (rmv 0 0 0) (va_Pc [.ref mo] (zp_W D (mT cZ) (MW cZ mo b0 b1 b2 b3 b4 b5 er f0 f1 f2 f3 f4 f5))) (vp_Si (fun z => z = er)) 0 0 (fun _ => False) := by
  refine zm_met (b := b_M2) [.ref mo] zy_M (Nat.le_of_ble_eq_true rfl) ?_
  intro p e s m below meth c ls S hr hlk hnm hl hB
  obtain ⟨hx, hb, hml, hown, hts⟩ := id S
  have hl : lv_has ls 1 [(0, .ref mo)] := hl
  obtain ⟨hP, hK⟩ := hB
  refine lv_aload_n hx hb d_M2_0 rfl (lv_at hl 0 rfl) ?_
  refine zg_M S hK hP rfl 0 (by decide) zl_M0 rfl d_M2_1 ?_
  exact W.iret (v := er) hx hb hr (fun t ht hW => ⟨_, rfl, rfl, ht⟩) (fun q h => by cases h) d_M2_4
set_option maxHeartbeats 4000000 in
set_option maxRecDepth 100000 in
theorem c_M4 (l : Launch) (r : Int32) : Met l y_M4 (zw (.code y_M4 b_M4 1 (some .boolean))) (rmv 0 0 0) (va_Pc [.int r] (fun _ => True)) (vp_Si (fun z => z = zb (!zk_16 r))) 0 0 (fun _ => False) := by
  refine zm_met (b := b_M4) [.int r] zy_M (Nat.le_of_ble_eq_true rfl) ?_
  intro p e s m below meth c ls S hr hlk hnm hl hB
  obtain ⟨hx, hb, hml, hown, hts⟩ := id S
  have hl : lv_has ls 1 [(0, .int r)] := hl
  refine lv_iload_n hx hb d_M4_0 rfl (lv_at hl 0 rfl) ?_
  refine lv_if_lt (tgt := 10) hx hb d_M4_1 (by decide) (fun h1 => ?_) (fun h1 => ?_)
  · refine lv_iconst (v := 1) hx hb d_M4_10 (by decide) ?_
    refine lv_goto (tgt := 15) hx hb d_M4_11 (by decide) ?_
    exact W.zret (v := 1) hx hb hr (rfl) (fun t ht hW => ⟨_, rfl, by rw [show zk_16 r = false from decide_eq_false (fun q => q.1 h1)]; rfl, ht⟩) (fun q h => by cases h) d_M4_15
  · refine lv_iload_n hx hb d_M4_4 rfl (lv_at hl 0 rfl) ?_
    refine lv_bipush (v := 16) hx hb d_M4_5 (by decide) ?_
    refine lv_icmp_lt (tgt := 14) hx hb d_M4_7 (by decide) (fun h2 => ?_) (fun h2 => ?_)
    · refine lv_iconst (v := 0) hx hb d_M4_14 (by decide) ?_
      exact W.zret (v := 0) hx hb hr (rfl) (fun t ht hW => ⟨_, rfl, by rw [show zk_16 r = true from decide_eq_true ⟨h1, Int32.not_le.mpr h2⟩]; rfl, ht⟩) (fun q h => by cases h) d_M4_15
    · refine lv_iconst (v := 1) hx hb d_M4_10 (by decide) ?_
      refine lv_goto (tgt := 15) hx hb d_M4_11 (by decide) ?_
      exact W.zret (v := 1) hx hb hr (rfl) (fun t ht hW => ⟨_, rfl, by rw [show zk_16 r = false from decide_eq_false (fun q => q.2 (Int32.not_lt.mp h2))]; rfl, ht⟩) (fun q h => by cases h) d_M4_15
set_option maxHeartbeats 4000000 in
set_option maxRecDepth 100000 in
theorem c_M18 (l : Launch) (n : Int32) : Met l y_M18 (zw (.code y_M18 b_M18 1 (some .boolean))) (rmv 0 0 0) (va_Pc [.int n] (fun _ => True)) (vp_Si (fun z => z = zb (decide (¬ n = 1 ∧ ¬ n = 2 ∧ ¬ n = 4)))) 0 0 (fun _ => False) := by
  refine zm_met (b := b_M18) [.int n] zy_M (Nat.le_of_ble_eq_true rfl) ?_
  intro p e s m below meth c ls S hr hlk hnm hl hB
  obtain ⟨hx, hb, hml, hown, hts⟩ := id S
  have hl : lv_has ls 1 [(0, .int n)] := hl
  refine lv_iload_n hx hb d_M18_0 rfl (lv_at hl 0 rfl) ?_
  refine lv_iconst (v := 1) hx hb d_M18_1 (by decide) ?_
  refine lv_icmp_eq (tgt := 19) hx hb d_M18_2 (by decide) (fun h1 => ?_) (fun h1 => ?_)
  · refine lv_iconst (v := 0) hx hb d_M18_19 (by decide) ?_
    exact W.zret (v := 0) hx hb hr (rfl) (fun t ht hW => ⟨_, rfl, by rw [decide_eq_false (fun q => q.1 h1)]; rfl, ht⟩) (fun q h => by cases h) d_M18_20
  · refine lv_iload_n hx hb d_M18_5 rfl (lv_at hl 0 rfl) ?_
    refine lv_iconst (v := 2) hx hb d_M18_6 (by decide) ?_
    refine lv_icmp_eq (tgt := 19) hx hb d_M18_7 (by decide) (fun h2 => ?_) (fun h2 => ?_)
    · refine lv_iconst (v := 0) hx hb d_M18_19 (by decide) ?_
      exact W.zret (v := 0) hx hb hr (rfl) (fun t ht hW => ⟨_, rfl, by rw [decide_eq_false (fun q => q.2.1 h2)]; rfl, ht⟩) (fun q h => by cases h) d_M18_20
    · refine lv_iload_n hx hb d_M18_10 rfl (lv_at hl 0 rfl) ?_
      refine lv_iconst (v := 4) hx hb d_M18_11 (by decide) ?_
      refine lv_icmp_eq (tgt := 19) hx hb d_M18_12 (by decide) (fun h3 => ?_) (fun h3 => ?_)
      · refine lv_iconst (v := 0) hx hb d_M18_19 (by decide) ?_
        exact W.zret (v := 0) hx hb hr (rfl) (fun t ht hW => ⟨_, rfl, by rw [decide_eq_false (fun q => q.2.2 h3)]; rfl, ht⟩) (fun q h => by cases h) d_M18_20
      · refine lv_iconst (v := 1) hx hb d_M18_15 (by decide) ?_
        refine lv_goto (tgt := 20) hx hb d_M18_16 (by decide) ?_
        exact W.zret (v := 1) hx hb hr (rfl) (fun t ht hW => ⟨_, rfl, by rw [decide_eq_true ⟨h1, h2, h3⟩]; rfl, ht⟩) (fun q h => by cases h) d_M18_20
set_option maxHeartbeats 4000000 in
set_option maxRecDepth 100000 in
theorem c_M5 (l : Launch) (D : va_G) (cZ : ClassId) (mo b0 b1 b2 b3 b4 b5 : Nat) (hnd : [mo, b0, b1, b2, b3, b4, b5].Nodup) (er : Int32) (f0 f1 f2 f3 f4 f5 : Nat → Bool) (r : Nat) (hr9 : r < 16) (V : Int32) (hV : ∀ i, i < 32 → f0 (32 * r + i) = bt V i) : Met l y_M5 (zw (.code y_M5 b_M5 4 (some .int))) (rmv 0 0 0) (va_Pc [.ref mo, .int (nI r)] (zp_W D (mT cZ) (MW cZ mo b0 b1 b2 b3 b4 b5 er f0 f1 f2 f3 f4 f5))) (vp_Si (fun z => z = V)) 0 0 (fun _ => False) := by
  refine zm_met (b := b_M5) [.ref mo, .int (nI r)] zy_M (Nat.le_of_ble_eq_true rfl) ?_
  intro p e s m below meth c ls S hr hlk hnm hl hB
  obtain ⟨hx, hb, hml, hown, hts⟩ := id S
  have hl : lv_has ls 4 [(0, .ref mo), (1, .int (nI r))] := hl
  obtain ⟨hP, hK⟩ := hB
  refine lv_iconst (v := 0) hx hb d_M5_0 (by decide) ?_
  refine lv_istore_n hx hb d_M5_1 rfl hl (by decide) rfl (fun ls hl => ?_)
  have hl : lv_has ls 4 [(2, .int 0), (0, .ref mo), (1, .int (nI r))] := hl
  refine lv_iconst (v := 0) hx hb d_M5_2 (by decide) ?_
  refine lv_istore_n hx hb d_M5_3 rfl hl (by decide) rfl (fun ls hl => ?_)
  have hl : lv_has ls 4 [(3, .int 0), (2, .int 0), (0, .ref mo), (1, .int (nI r))] := hl
  refine zl_loop (fun k H locs ls => H = s.heap ∧ locs = [] ∧ k ≤ 32 ∧ ∃ y : Int32, (∀ i, i < 32 → bt y i = (decide (i < k) && bt V i)) ∧ lv_has ls 4 [(3, .int (nI k)), (2, .int y), (0, .ref mo), (1, .int (nI r))]) 4 32 (fun k H locs ls h => h.2.2.1) ?_ 0 _ _ _ ⟨rfl, rfl, by omega, 0, fun i hi => by rw [b_0]; simp, hl⟩
  intro k H locs ls hI ih
  obtain ⟨rfl, rfl, hk, y, hy, hl⟩ := hI
  refine lv_iload_n hx hb d_M5_4 rfl (lv_at hl 0 rfl) ?_
  refine lv_bipush (v := 32) hx hb d_M5_5 (by decide) ?_
  refine lv_icmp_ge (tgt := 36) hx hb d_M5_7 (by decide) (fun hc => ?_) (fun hc => ?_)
  · have hk2 := zi_ge 32 rfl hc hk (by decide)
    refine lv_iload_n hx hb d_M5_36 rfl (lv_at hl 1 rfl) ?_
    exact W.iret (v := y) hx hb hr (fun t ht hW => ⟨_, rfl, b_ext (fun i hi => by rw [hy i hi, decide_eq_true (by omega), Bool.true_and]), ht⟩) (fun q h => by cases h) d_M5_37
  · have hk2 := zi_lt 32 rfl hc hk (by decide)
    refine lv_aload_n hx hb d_M5_10 rfl (lv_at hl 2 rfl) ?_
    refine zg_M S hK hP rfl 1 (by decide) zl_M1 rfl d_M5_11 ?_
    refine lv_bipush (v := 32) hx hb d_M5_14 (by decide) ?_
    refine lv_iload_n hx hb d_M5_16 rfl (lv_at hl 3 rfl) ?_
    refine lv_imul hx hb d_M5_17 ?_
    refine lv_iload_n hx hb d_M5_18 rfl (lv_at hl 0 rfl) ?_
    refine lv_iadd hx hb d_M5_19 ?_
    refine lv_topi (fun zz ez => ?_)
    obtain rfl : zz = (nI (32 * r + k)) := ez.trans (zi_ix r k)
    refine zz_ld hx hb hK hP 1 0 rfl rfl (j := (32 * r + k)) (by omega) (by decide) d_M5_20 ?_
    rw [hV k hk2]
    refine lv_if_eq (tgt := 30) hx hb d_M5_21 (by decide) (fun hd => ?_) (fun hd => ?_)
    · refine lv_iinc (k := 0) (v := (nI (k + 1))) hx hb d_M5_30 hl rfl (zi_inc _) (by decide) rfl (fun ls hl => ?_)
      have hl : lv_has ls 4 [(3, .int (nI (k + 1))), (2, .int y), (0, .ref mo), (1, .int (nI r))] := hl
      refine lv_goto (tgt := 4) hx hb d_M5_33 (by decide) ?_
      refine ih _ _ _ ⟨rfl, rfl, by omega, y, fun i hi => ?_, lv_sub hl [0, 1, 2, 3] rfl⟩
      rw [hy i hi]
      by_cases h : i = k
      · subst h; rw [(zb_0 _).mp hd, Bool.and_false, Bool.and_false]
      · rw [zd_lt h]
    · refine lv_iload_n hx hb d_M5_24 rfl (lv_at hl 1 rfl) ?_
      refine lv_iconst (v := 1) hx hb d_M5_25 (by decide) ?_
      refine lv_iload_n hx hb d_M5_26 rfl (lv_at hl 0 rfl) ?_
      refine lv_ishl hx hb d_M5_27 ?_
      refine lv_ior hx hb d_M5_28 ?_
      refine lv_istore_n hx hb d_M5_29 rfl hl (by decide) rfl (fun ls hl => ?_)
      have hl : lv_has ls 4 [(2, .int (y ||| (1 <<< (((nI k) : Int32) &&& 31)))), (3, .int (nI k)), (0, .ref mo), (1, .int (nI r))] := hl
      refine lv_iinc (k := 1) (v := (nI (k + 1))) hx hb d_M5_30 hl rfl (zi_inc _) (by decide) rfl (fun ls hl => ?_)
      have hl : lv_has ls 4 [(3, .int (nI (k + 1))), (2, .int (y ||| (1 <<< (((nI k) : Int32) &&& 31)))), (0, .ref mo), (1, .int (nI r))] := hl
      refine lv_goto (tgt := 4) hx hb d_M5_33 (by decide) ?_
      refine ih _ _ _ ⟨rfl, rfl, by omega, _, fun i hi => ?_, lv_sub hl [0, 1, 2, 3] rfl⟩
      have hd2 : bt V k = true := by simpa using mt (zb_0 _).mpr hd
      rw [b_or, hy i hi, zone_bit hk2 hi]
      by_cases h : i = k
      · subst h; rw [hd2]; simp
      · rw [zd_lt h, decide_eq_false h, Bool.or_false]
set_option maxHeartbeats 4000000 in
set_option maxRecDepth 100000 in
theorem c_M11 (l : Launch) (D : va_G) (cZ : ClassId) (mo b0 b1 b2 b3 b4 b5 : Nat) (hnd : [mo, b0, b1, b2, b3, b4, b5].Nodup) (er : Int32) (f0 f1 f2 f3 f4 f5 : Nat → Bool) (r : Nat) (hr9 : r < 16) (N : Int32) (hN : ∀ i, i < 32 → f1 (32 * r + i) = bt N i) : Met l y_M11 (zw (.code y_M11 b_M11 3 (some .int))) (rmv 1 0 0) (va_Pc [.ref mo, .int (nI r)] (zp_W D (mT cZ) (MW cZ mo b0 b1 b2 b3 b4 b5 er f0 f1 f2 f3 f4 f5))) (vp_Si (fun z => z = nI (zlo N))) 0 0 (fun _ => False) := by
  refine zm_met (b := b_M11) [.ref mo, .int (nI r)] zy_M (Nat.le_of_ble_eq_true rfl) ?_
  intro p e s m below meth c ls S hr hlk hnm hl hB
  obtain ⟨hx, hb, hml, hown, hts⟩ := id S
  have hl : lv_has ls 3 [(0, .ref mo), (1, .int (nI r))] := hl
  obtain ⟨hP, hK⟩ := hB
  refine lv_iconst (v := 0) hx hb d_M11_0 (by decide) ?_
  refine lv_istore_n hx hb d_M11_1 rfl hl (by decide) rfl (fun ls hl => ?_)
  have hl : lv_has ls 3 [(2, .int 0), (0, .ref mo), (1, .int (nI r))] := hl
  refine zl_loop (fun k H locs ls => H = s.heap ∧ locs = [] ∧ k ≤ 32 ∧ (∀ i, i < k → bt N i = false) ∧ lv_has ls 3 [(2, .int (nI k)), (0, .ref mo), (1, .int (nI r))]) 2 32 (fun k H locs ls h => h.2.2.1) ?_ 0 _ _ _ ⟨rfl, rfl, by omega, fun i hi => absurd hi (by omega), hl⟩
  intro k H locs ls hI ih
  obtain ⟨rfl, rfl, hk, h1, hl⟩ := hI
  refine lv_iload_n hx hb d_M11_2 rfl (lv_at hl 0 rfl) ?_
  refine lv_bipush (v := 32) hx hb d_M11_3 (by decide) ?_
  refine lv_icmp_ge (tgt := 23) hx hb d_M11_5 (by decide) (fun hc => ?_) (fun hc => ?_)
  · have hk2 := zi_ge 32 rfl hc hk (by decide)
    refine lv_iload_n hx hb d_M11_23 rfl (lv_at hl 0 rfl) ?_
    exact W.iret (v := (nI k)) hx hb hr (fun t ht hW => ⟨_, rfl, by rw [zlo_eq (k := k) h1 (Or.inl hk2)], ht⟩) (fun q h => by cases h) d_M11_24
  · have hk2 := zi_lt 32 rfl hc hk (by decide)
    refine lv_aload_n hx hb d_M11_8 rfl (lv_at hl 1 rfl) ?_
    refine lv_iload_n hx hb d_M11_9 rfl (lv_at hl 2 rfl) ?_
    refine lv_iload_n hx hb d_M11_10 rfl (lv_at hl 0 rfl) ?_
    refine zc_Vi (C := zc_M) S k_M47 (c_M10 l D cZ mo b0 b1 b2 b3 b4 b5 hnd er f0 f1 f2 f3 f4 f5 r k hr9 hk2) rfl (mw_pre hK hP) ⟨Nat.le_of_ble_eq_true rfl, Nat.le_of_ble_eq_true rfl⟩ ⟨rfl, rfl⟩ rfl hl.1 rfl (Nat.le_of_ble_eq_true rfl) d_M11_11 ⟨Nat.zero_le _, Nat.zero_le _⟩ ?_
    rw [hN k hk2]
    refine lv_if_ne (tgt := 23) hx hb d_M11_14 (by decide) (fun hd => ?_) (fun hd => ?_)
    · have h2 : bt N k = true := by simpa using mt (zb_0 _).mpr hd
      refine lv_iload_n hx hb d_M11_23 rfl (lv_at hl 0 rfl) ?_
      exact W.iret (v := (nI k)) hx hb hr (fun t ht hW => ⟨_, rfl, by rw [zlo_eq (k := k) h1 (Or.inr ⟨hk2, h2⟩)], ht⟩) (fun q h => by cases h) d_M11_24
    · have h2 : bt N k = false := (zb_0 _).mp hd
      refine lv_iinc (k := 0) (v := (nI (k + 1))) hx hb d_M11_17 hl rfl (zi_inc _) (by decide) rfl (fun ls hl => ?_)
      have hl : lv_has ls 3 [(2, .int (nI (k + 1))), (0, .ref mo), (1, .int (nI r))] := hl
      refine lv_goto (tgt := 2) hx hb d_M11_20 (by decide) ?_
      exact ih _ _ _ ⟨rfl, rfl, by omega, fun i hi => (by by_cases h : i = k; exact h ▸ h2; exact h1 i (by omega)), lv_sub hl [0, 1, 2] rfl⟩
set_option maxHeartbeats 4000000 in
set_option maxRecDepth 100000 in
theorem c_M12 (l : Launch) (D : va_G) (cZ : ClassId) (mo b0 b1 b2 b3 b4 b5 : Nat) (hnd : [mo, b0, b1, b2, b3, b4, b5].Nodup) (er : Int32) (f0 f1 f2 f3 f4 f5 : Nat → Bool) (r : Nat) (hr9 : r < 16) (V N : Int32) (hV : ∀ i, i < 32 → f0 (32 * r + i) = bt V i) (hN : ∀ i, i < 32 → f1 (32 * r + i) = bt N i) : Met l y_M12 (zw (.code y_M12 b_M12 3 (some .int))) (rmv 1 0 0) (va_Pc [.ref mo, .int (nI r)] (zp_W D (mT cZ) (MW cZ mo b0 b1 b2 b3 b4 b5 er f0 f1 f2 f3 f4 f5))) (vp_Si (fun z => z = nI (zlo (V ||| N)))) 0 0 (fun _ => False) := by
  refine zm_met (b := b_M12) [.ref mo, .int (nI r)] zy_M (Nat.le_of_ble_eq_true rfl) ?_
  intro p e s m below meth c ls S hr hlk hnm hl hB
  obtain ⟨hx, hb, hml, hown, hts⟩ := id S
  have hl : lv_has ls 3 [(0, .ref mo), (1, .int (nI r))] := hl
  obtain ⟨hP, hK⟩ := hB
  refine lv_iconst (v := 0) hx hb d_M12_0 (by decide) ?_
  refine lv_istore_n hx hb d_M12_1 rfl hl (by decide) rfl (fun ls hl => ?_)
  have hl : lv_has ls 3 [(2, .int 0), (0, .ref mo), (1, .int (nI r))] := hl
  refine zl_loop (fun k H locs ls => H = s.heap ∧ locs = [] ∧ k ≤ 32 ∧ (∀ i, i < k → bt (V ||| N) i = false) ∧ lv_has ls 3 [(2, .int (nI k)), (0, .ref mo), (1, .int (nI r))]) 2 32 (fun k H locs ls h => h.2.2.1) ?_ 0 _ _ _ ⟨rfl, rfl, by omega, fun i hi => absurd hi (by omega), hl⟩
  intro k H locs ls hI ih
  obtain ⟨rfl, rfl, hk, h1, hl⟩ := hI
  refine lv_iload_n hx hb d_M12_2 rfl (lv_at hl 0 rfl) ?_
  refine lv_bipush (v := 32) hx hb d_M12_3 (by decide) ?_
  refine lv_icmp_ge (tgt := 32) hx hb d_M12_5 (by decide) (fun hc => ?_) (fun hc => ?_)
  · have hk2 := zi_ge 32 rfl hc hk (by decide)
    refine lv_iload_n hx hb d_M12_32 rfl (lv_at hl 0 rfl) ?_
    exact W.iret (v := (nI k)) hx hb hr (fun t ht hW => ⟨_, rfl, by rw [zlo_eq (k := k) h1 (Or.inl hk2)], ht⟩) (fun q h => by cases h) d_M12_33
  · have hk2 := zi_lt 32 rfl hc hk (by decide)
    refine lv_aload_n hx hb d_M12_8 rfl (lv_at hl 1 rfl) ?_
    refine lv_iload_n hx hb d_M12_9 rfl (lv_at hl 2 rfl) ?_
    refine lv_iload_n hx hb d_M12_10 rfl (lv_at hl 0 rfl) ?_
    refine zc_Vi (C := zc_M) S k_M47 (c_M10 l D cZ mo b0 b1 b2 b3 b4 b5 hnd er f0 f1 f2 f3 f4 f5 r k hr9 hk2) rfl (mw_pre hK hP) ⟨Nat.le_of_ble_eq_true rfl, Nat.le_of_ble_eq_true rfl⟩ ⟨rfl, rfl⟩ rfl hl.1 rfl (Nat.le_of_ble_eq_true rfl) d_M12_11 ⟨Nat.zero_le _, Nat.zero_le _⟩ ?_
    rw [hN k hk2]
    refine lv_if_ne (tgt := 32) hx hb d_M12_14 (by decide) (fun hd => ?_) (fun hd => ?_)
    · have h2 : bt (V ||| N) k = true := by rw [b_or, show bt N k = true by simpa using mt (zb_0 _).mpr hd, Bool.or_true]
      refine lv_iload_n hx hb d_M12_32 rfl (lv_at hl 0 rfl) ?_
      exact W.iret (v := (nI k)) hx hb hr (fun t ht hW => ⟨_, rfl, by rw [zlo_eq (k := k) h1 (Or.inr ⟨hk2, h2⟩)], ht⟩) (fun q h => by cases h) d_M12_33
    · refine lv_aload_n hx hb d_M12_17 rfl (lv_at hl 1 rfl) ?_
      refine lv_iload_n hx hb d_M12_18 rfl (lv_at hl 2 rfl) ?_
      refine lv_iload_n hx hb d_M12_19 rfl (lv_at hl 0 rfl) ?_
      refine zc_Vi (C := zc_M) S k_M51 (c_M9 l D cZ mo b0 b1 b2 b3 b4 b5 hnd er f0 f1 f2 f3 f4 f5 r k hr9 hk2) rfl (mw_pre hK hP) ⟨Nat.le_of_ble_eq_true rfl, Nat.le_of_ble_eq_true rfl⟩ ⟨rfl, rfl⟩ rfl hl.1 rfl (Nat.le_of_ble_eq_true rfl) d_M12_20 ⟨Nat.zero_le _, Nat.zero_le _⟩ ?_
      rw [hV k hk2]
      refine lv_if_ne (tgt := 32) hx hb d_M12_23 (by decide) (fun hd2 => ?_) (fun hd2 => ?_)
      · have h2 : bt (V ||| N) k = true := by rw [b_or, show bt V k = true by simpa using mt (zb_0 _).mpr hd2, Bool.true_or]
        refine lv_iload_n hx hb d_M12_32 rfl (lv_at hl 0 rfl) ?_
        exact W.iret (v := (nI k)) hx hb hr (fun t ht hW => ⟨_, rfl, by rw [zlo_eq (k := k) h1 (Or.inr ⟨hk2, h2⟩)], ht⟩) (fun q h => by cases h) d_M12_33
      · have h2 : bt (V ||| N) k = false := by rw [b_or, (zb_0 _).mp hd2, (zb_0 _).mp hd]; rfl
        refine lv_iinc (k := 0) (v := (nI (k + 1))) hx hb d_M12_26 hl rfl (zi_inc _) (by decide) rfl (fun ls hl => ?_)
        have hl : lv_has ls 3 [(2, .int (nI (k + 1))), (0, .ref mo), (1, .int (nI r))] := hl
        refine lv_goto (tgt := 2) hx hb d_M12_29 (by decide) ?_
        exact ih _ _ _ ⟨rfl, rfl, by omega, fun i hi => (by by_cases h : i = k; exact h ▸ h2; exact h1 i (by omega)), lv_sub hl [0, 1, 2] rfl⟩
end
section
section ZTM
variable {p : Program} {l : Launch} {e : Env} {R : Room} {s : State} {m : MethodId} {args : Array Value} {below : List Frame} {meth : Method} {c : Code} {H : Heap} {locs : List Loc} {cells slots : Nat} {Q : State → Prop}
variable {cc : ByteArray} {nL pc ix a : Nat} {w0 : Cond} {D : va_G} {tys : List (ClassId × FieldType)} {ws : va_W} {fs : List Value} {ls : Array Slot} {rest : List Value} {A : Nat → Prop} {H0 : Heap}
/-- the field err is written -/
theorem zput_M (S : CallFix p m c cc nL s args (zw w0) "ShadowMathModel") (hK : va_K D zC tys s) (hP : va_P D zC ws H) (hD : va_D A ws) (hS : va_S A H0 H locs) (he : ws[0]? = some (a, .inr (1, fs))) (hl : 0 < fs.length) {x : Int32} (hdg : decode cc pc = .ok (.putfield 28, 3))
    (kk : ∀ (H1 : Heap) (locs1 : List Loc), va_P D zC (ws.set 0 (a, .inr (1, fs.set 0 (.int x)))) H1 → va_S A H0 H1 locs1 → H1.size = H.size → W p l e R s m args below meth c H1 locs1 cells slots Q (F0 m (pc + 3) ls rest)) : W p l e R s m args below meth c H locs cells slots Q (F0 m pc ls (.int x :: .ref a :: rest)) := by
  obtain ⟨hx, hb, -, hown, hts⟩ := S
  have hin : ∀ w ∈ u_ws zc_M zf_M 7, w ∈ zw w0 := fun w h => List.mem_cons_of_mem _ (zu_M w h)
  have hap := va_apart (own := "ShadowMathModel") hts hin zt_M zo_M zn_M hK (show zC[1]? = some (zc_M, zf_M, 7) from rfl)
  obtain ⟨r, h1, cell, q1, q2, q3, q4⟩ := hP 0 _ he
  have hr : r = (zc_M, zf_M, 7) := Option.some.inj (h1.symm.trans rfl)
  subst hr
  obtain ⟨hSl, hfc, kC, hkC, hkind⟩ := hK.1 1 _ rfl
  obtain ⟨cf, kf, fi, f, hi, hsl⟩ := hSl 0 (by decide)
  have hlay := hts _ (hin _ (u_in_lay (show 0 < 7 by decide)))
  unfold u_lay at hlay
  rw [if_neg (by decide)] at hlay
  have hst := (u_facts hfc hkC (u_lays hts hin (show 0 < 7 by decide)) hi).1
  have h6 := u_store (v := .int x) hfc hkC hkind hlay hi (show parseFieldDescriptor (zf_M 0).2.2.1 = some .int by decide +kernel) rfl rfl
  refine W.putK hx hb (f := f) ⟨hown, zw_at hts zl_M0, ⟨_, _, _, hi⟩, hst⟩ (by rw [q2]; exact h6) q1 q3 (by rw [hsl]; exact k2_hasslot (q4 0 (by decide))) rfl rfl hdg fun H' e1 e2 e3 => ?_
  rw [hsl] at e1 ⊢
  exact kk H' _ (hP.set hD he ⟨_, rfl, t_OB.to (V := updV (vp_V fs) 0 (.int x)) ⟨_, e1, q2, q3, t_set q4 hap (by decide) (.int x)⟩ (fun j _ => vp_updV_set hl (.int x) j)⟩ e3) (hS.put e2 e3 (hD.2 0 _ he)) e2
end ZTM
/-! the sum of the bits, from the lowest on -/
def zac (Z : Int32) (sg : Bool) (k : Nat) : Int64 := if sg = true ∧ k = 32 then Z.toInt64 else lN (Z.toBitVec.toNat % 2 ^ k)
theorem zone_l : ∀ k, k < 32 → (1 : Int64) <<< ((nI k).toInt64 &&& 63) = lN (2 ^ k) := by decide +kernel
theorem zmod_s (n k : Nat) : n % 2 ^ (k + 1) = n % 2 ^ k + if n.testBit k then 2 ^ k else 0 := by
  rw [Nat.mod_pow_succ, Nat.testBit_eq_decide_div_mod_eq]
  rcases Nat.mod_two_eq_zero_or_one (n / 2 ^ k) with h | h
  · rw [h]; simp
  · rw [h]; simp
theorem zac_0 (Z : Int32) (sg : Bool) : zac Z sg 0 = 0 := by
  unfold zac
  rw [if_neg (by omega), Nat.pow_zero, Nat.mod_one]
  rfl
theorem zac_32 (Z : Int32) (sg : Bool) : zac Z sg 32 = if sg then Z.toInt64 else lN Z.toBitVec.toNat := by
  unfold zac
  cases sg
  · rw [if_neg (by decide), if_neg (by decide), Nat.mod_eq_of_lt Z.toBitVec.isLt]
  · rw [if_pos ⟨rfl, rfl⟩, if_pos rfl]
theorem zneg_l : (-lN (2 ^ 31)).toInt = -2147483648 := by decide +kernel
theorem zac_top (Z : Int32) : Z.toInt64 = lN (Z.toBitVec.toNat % 2 ^ 31) + if bt Z 31 then -lN (2 ^ 31) else 0 := by
  have h0 := Z.toBitVec.isLt
  have h1 : Z.toInt = if 2 * Z.toBitVec.toNat < 2 ^ 32 then (Z.toBitVec.toNat : Int) else (Z.toBitVec.toNat : Int) - ((2 ^ 32 : Nat) : Int) := BitVec.toInt_eq_toNat_cond Z.toBitVec
  have h2 : bt Z 31 = decide (2 ^ 31 ≤ Z.toBitVec.toNat) := by
    show Z.toBitVec.toNat.testBit 31 = _
    rw [Nat.testBit_eq_decide_div_mod_eq]
    refine decide_eq_decide.mpr ?_
    omega
  apply Int64.toInt_inj.mp
  rw [Int32.toInt_toInt64, h1, h2]
  by_cases h : 2 ^ 31 ≤ Z.toBitVec.toNat
  · rw [if_neg (by omega), decide_eq_true h, if_pos rfl, Jvm.Kit.i64_add, zneg_l, pk_lT (by omega)]
    · omega
    · rw [zneg_l, pk_lT (by omega)]; omega
    · rw [zneg_l, pk_lT (by omega)]; omega
  · rw [if_pos (by omega), decide_eq_false h, if_neg (by decide), Int64.add_zero, pk_lT (by omega)]
    omega
theorem zac_off {Z : Int32} {sg : Bool} {k : Nat} (hk : k < 32) (h : bt Z k = false) : zac Z sg (k + 1) = zac Z sg k := by
  unfold zac
  rw [if_neg (by omega : ¬ (sg = true ∧ k = 32))]
  by_cases h1 : sg = true ∧ k + 1 = 32
  · obtain rfl : k = 31 := by omega
    rw [if_pos h1, zac_top, h, if_neg (by decide), Int64.add_zero]
  · rw [if_neg h1, zmod_s, show Z.toBitVec.toNat.testBit k = false from h]
    simp
theorem zac_on {Z : Int32} {sg : Bool} {k : Nat} (hk : k < 32) (h : bt Z k = true) (h1 : ¬ (sg && decide (k = 31)) = true) : zac Z sg (k + 1) = zac Z sg k + (1 : Int64) <<< ((nI k).toInt64 &&& 63) := by
  have h2 : ¬ (sg = true ∧ k + 1 = 32) := fun q => h1 (by rw [q.1, decide_eq_true (by omega)]; rfl)
  unfold zac
  rw [if_neg h2, if_neg (by omega : ¬ (sg = true ∧ k = 32)), zmod_s, show Z.toBitVec.toNat.testBit k = true from h, zone_l k hk, lN_add]
  simp
theorem zac_min {Z : Int32} {sg : Bool} {k : Nat} (h : bt Z k = true) (h1 : (sg && decide (k = 31)) = true) : zac Z sg (k + 1) = zac Z sg k + -((1 : Int64) <<< ((nI k).toInt64 &&& 63)) := by
  have h2 : sg = true ∧ k = 31 := by simpa using h1
  obtain ⟨rfl, rfl⟩ := h2
  unfold zac
  rw [if_pos ⟨rfl, rfl⟩, if_neg (by decide), zone_l 31 (by decide), zac_top, h, if_pos rfl]
end
section
set_option maxHeartbeats 4000000 in
set_option maxRecDepth 100000 in
theorem c_M16 (l : Launch) (D : va_G) (cZ : ClassId) (mo b0 b1 b2 b3 b4 b5 : Nat) (hnd : [mo, b0, b1, b2, b3, b4, b5].Nodup) (er : Int32) (f0 f1 f2 f3 f4 f5 : Nat → Bool) (r : Nat) (gr sg : Bool) (hr9 : r < 16) (V N : Int32) (hV : ∀ i, i < 32 → f0 (32 * r + i) = bt V i) (hN : ∀ i, i < 32 → f1 (32 * r + i) = bt N i) : Met l y_M16 (zw (.code y_M16 b_M16 9 (some .long))) (rmv 1 0 0) (va_Pc [.ref mo, .int (nI r), .int (zb gr), .int (zb sg)] (zp_W D (mT cZ) (MW cZ mo b0 b1 b2 b3 b4 b5 er f0 f1 f2 f3 f4 f5))) (vp_Sl (fun z => z = zel V N gr sg)) 0 0 (fun _ => False) := by
  refine zm_met (b := b_M16) [.ref mo, .int (nI r), .int (zb gr), .int (zb sg)] zy_M (Nat.le_of_ble_eq_true rfl) ?_
  intro p e s m below meth c ls S hr hlk hnm hl hB
  obtain ⟨hx, hb, hml, hown, hts⟩ := id S
  have hl : lv_has ls 9 [(0, .ref mo), (1, .int (nI r)), (2, .int (zb gr)), (3, .int (zb sg))] := hl
  obtain ⟨hP, hK⟩ := hB
  refine lv_lconst (v := 0) hx hb d_M16_0 (by decide) ?_
  refine lv_lstore hx hb d_M16_1 hl (by decide) rfl (fun ls hl => ?_)
  have hl : lv_has ls 9 [(4, .long 0), (0, .ref mo), (1, .int (nI r)), (2, .int (zb gr)), (3, .int (zb sg))] := hl
  refine lv_iconst (v := 0) hx hb d_M16_3 (by decide) ?_
  refine lv_istore hx hb d_M16_4 hl (by decide) rfl (fun ls hl => ?_)
  have hl : lv_has ls 9 [(6, .int 0), (4, .long 0), (0, .ref mo), (1, .int (nI r)), (2, .int (zb gr)), (3, .int (zb sg))] := hl
  refine zl_loop (fun k H locs ls => H = s.heap ∧ locs = [] ∧ k ≤ 32 ∧ lv_has ls 9 [(6, .int (nI k)), (4, .long (zac (zen V N gr sg) sg k)), (0, .ref mo), (1, .int (nI r)), (2, .int (zb gr)), (3, .int (zb sg))]) 6 32 (fun k H locs ls h => h.2.2.1) ?_ 0 _ _ _ ⟨rfl, rfl, by omega, by rw [zac_0]; exact hl⟩
  intro k H locs ls hI ih
  obtain ⟨rfl, rfl, hk, hl⟩ := hI
  refine lv_iload hx hb d_M16_6 (lv_at hl 0 rfl) ?_
  refine lv_bipush (v := 32) hx hb d_M16_8 (by decide) ?_
  refine lv_icmp_ge (tgt := 97) hx hb d_M16_10 (by decide) (fun hc => ?_) (fun hc => ?_)
  · have hk2 := zi_ge 32 rfl hc hk (by decide)
    rw [hk2, zac_32] at hl
    refine lv_lload hx hb d_M16_97 (lv_at hl 1 rfl) ?_
    exact W.lret hx hb hr (fun t ht hW => ⟨_, rfl, rfl, ht⟩) (fun q h => by cases h) d_M16_99
  · have hk2 := zi_lt 32 rfl hc hk (by decide)
    refine zj_i (x := zb (sg && decide (k = 31))) (pc := 29) (ls := ls) (rest := []) ?_ (fun J => ?_)
    · intro z hz9
      subst hz9
      refine lv_istore hx hb d_M16_29 hl (by decide) rfl (fun ls hl => ?_)
      have hl : lv_has ls 9 [(7, .int (zb (sg && decide (k = 31)))), (6, .int (nI k)), (4, .long (zac (zen V N gr sg) sg k)), (0, .ref mo), (1, .int (nI r)), (2, .int (zb gr)), (3, .int (zb sg))] := hl
      refine lv_aload_n hx hb d_M16_31 rfl (lv_at hl 3 rfl) ?_
      refine lv_iload_n hx hb d_M16_32 rfl (lv_at hl 4 rfl) ?_
      refine lv_iload hx hb d_M16_33 (lv_at hl 1 rfl) ?_
      refine zc_Vi (C := zc_M) S k_M47 (c_M10 l D cZ mo b0 b1 b2 b3 b4 b5 hnd er f0 f1 f2 f3 f4 f5 r k hr9 hk2) rfl (mw_pre hK hP) ⟨Nat.le_of_ble_eq_true rfl, Nat.le_of_ble_eq_true rfl⟩ ⟨rfl, rfl⟩ rfl hl.1 rfl (Nat.le_of_ble_eq_true rfl) d_M16_35 ⟨Nat.zero_le _, Nat.zero_le _⟩ ?_
      rw [hN k hk2]
      refine zj_i (x := zb (bt (zen V N gr sg) k)) (pc := 62) (ls := ls) (rest := []) ?_ (fun J2 => ?_)
      · intro z hz9
        subst hz9
        refine lv_istore hx hb d_M16_62 hl (by decide) rfl (fun ls hl => ?_)
        have hl : lv_has ls 9 [(8, .int (zb (bt (zen V N gr sg) k))), (7, .int (zb (sg && decide (k = 31)))), (6, .int (nI k)), (4, .long (zac (zen V N gr sg) sg k)), (0, .ref mo), (1, .int (nI r)), (2, .int (zb gr)), (3, .int (zb sg))] := hl
        refine lv_iload hx hb d_M16_64 (lv_at hl 0 rfl) ?_
        refine lv_if_eq (tgt := 91) hx hb d_M16_66 (by decide) (fun h1 => ?_) (fun h1 => ?_)
        · refine lv_iinc (k := 2) (v := (nI (k + 1))) hx hb d_M16_91 hl rfl (zi_inc _) (by decide) rfl (fun ls hl => ?_)
          have hl : lv_has ls 9 [(6, .int (nI (k + 1))), (8, .int (zb (bt (zen V N gr sg) k))), (7, .int (zb (sg && decide (k = 31)))), (4, .long (zac (zen V N gr sg) sg k)), (0, .ref mo), (1, .int (nI r)), (2, .int (zb gr)), (3, .int (zb sg))] := hl
          refine lv_goto (tgt := 6) hx hb d_M16_94 (by decide) ?_
          exact ih _ _ _ ⟨rfl, rfl, by omega, by rw [zac_off hk2 ((zb_0 _).mp h1)]; exact lv_sub hl [0, 3, 4, 5, 6, 7] rfl⟩
        · have h2 : bt (zen V N gr sg) k = true := by simpa using mt (zb_0 _).mpr h1
          refine lv_lload hx hb d_M16_69 (lv_at hl 3 rfl) ?_
          refine lv_iload hx hb d_M16_71 (lv_at hl 1 rfl) ?_
          refine lv_if_eq (tgt := 84) hx hb d_M16_73 (by decide) (fun h3 => ?_) (fun h3 => ?_)
          · refine lv_lconst (v := 1) hx hb d_M16_84 (by decide) ?_
            refine lv_iload hx hb d_M16_85 (lv_at hl 2 rfl) ?_
            refine lv_lshl hx hb d_M16_87 rfl ?_
            refine lv_ladd hx hb d_M16_88 ?_
            refine lv_lstore hx hb d_M16_89 hl (by decide) rfl (fun ls hl => ?_)
            have hl : lv_has ls 9 [(4, .long ((zac (zen V N gr sg) sg k) + (1 <<< (((nI k) : Int32).toInt64 &&& 63)))), (8, .int (zb (bt (zen V N gr sg) k))), (7, .int (zb (sg && decide (k = 31)))), (6, .int (nI k)), (0, .ref mo), (1, .int (nI r)), (2, .int (zb gr)), (3, .int (zb sg))] := hl
            refine lv_iinc (k := 3) (v := (nI (k + 1))) hx hb d_M16_91 hl rfl (zi_inc _) (by decide) rfl (fun ls hl => ?_)
            have hl : lv_has ls 9 [(6, .int (nI (k + 1))), (4, .long ((zac (zen V N gr sg) sg k) + (1 <<< (((nI k) : Int32).toInt64 &&& 63)))), (8, .int (zb (bt (zen V N gr sg) k))), (7, .int (zb (sg && decide (k = 31)))), (0, .ref mo), (1, .int (nI r)), (2, .int (zb gr)), (3, .int (zb sg))] := hl
            refine lv_goto (tgt := 6) hx hb d_M16_94 (by decide) ?_
            exact ih _ _ _ ⟨rfl, rfl, by omega, by rw [zac_on hk2 h2 (by rw [(zb_0 _).mp h3]; decide)]; exact lv_sub hl [0, 1, 4, 5, 6, 7] rfl⟩
          · refine lv_lconst (v := 1) hx hb d_M16_76 (by decide) ?_
            refine lv_iload hx hb d_M16_77 (lv_at hl 2 rfl) ?_
            refine lv_lshl hx hb d_M16_79 rfl ?_
            refine lv_lneg hx hb d_M16_80 ?_
            refine lv_goto (tgt := 88) hx hb d_M16_81 (by decide) ?_
            refine lv_ladd hx hb d_M16_88 ?_
            refine lv_lstore hx hb d_M16_89 hl (by decide) rfl (fun ls hl => ?_)
            have hl : lv_has ls 9 [(4, .long ((zac (zen V N gr sg) sg k) + (-(1 <<< (((nI k) : Int32).toInt64 &&& 63))))), (8, .int (zb (bt (zen V N gr sg) k))), (7, .int (zb (sg && decide (k = 31)))), (6, .int (nI k)), (0, .ref mo), (1, .int (nI r)), (2, .int (zb gr)), (3, .int (zb sg))] := hl
            refine lv_iinc (k := 3) (v := (nI (k + 1))) hx hb d_M16_91 hl rfl (zi_inc _) (by decide) rfl (fun ls hl => ?_)
            have hl : lv_has ls 9 [(6, .int (nI (k + 1))), (4, .long ((zac (zen V N gr sg) sg k) + (-(1 <<< (((nI k) : Int32).toInt64 &&& 63))))), (8, .int (zb (bt (zen V N gr sg) k))), (7, .int (zb (sg && decide (k = 31)))), (0, .ref mo), (1, .int (nI r)), (2, .int (zb gr)), (3, .int (zb sg))] := hl
            refine lv_goto (tgt := 6) hx hb d_M16_94 (by decide) ?_
            exact ih _ _ _ ⟨rfl, rfl, by omega, by rw [zac_min h2 (by simpa using mt (zb_0 _).mpr h3)]; exact lv_sub hl [0, 1, 4, 5, 6, 7] rfl⟩
      refine lv_if_eq (tgt := 55) hx hb d_M16_38 (by decide) (fun h4 => ?_) (fun h4 => ?_)
      · refine lv_aload_n hx hb d_M16_55 rfl (lv_at hl 3 rfl) ?_
        refine lv_iload_n hx hb d_M16_56 rfl (lv_at hl 4 rfl) ?_
        refine lv_iload hx hb d_M16_57 (lv_at hl 1 rfl) ?_
        refine zc_Vi (C := zc_M) S k_M51 (c_M9 l D cZ mo b0 b1 b2 b3 b4 b5 hnd er f0 f1 f2 f3 f4 f5 r k hr9 hk2) rfl (mw_pre hK hP) ⟨Nat.le_of_ble_eq_true rfl, Nat.le_of_ble_eq_true rfl⟩ ⟨rfl, rfl⟩ rfl hl.1 rfl (Nat.le_of_ble_eq_true rfl) d_M16_59 ⟨Nat.zero_le _, Nat.zero_le _⟩ ?_
        exact J2 _ (by rw [hV k hk2, zen_bit V N gr sg hk2, (zb_0 _).mp h4]; rfl)
      · have h5 : bt N k = true := by simpa using mt (zb_0 _).mpr h4
        refine lv_iload_n hx hb d_M16_41 rfl (lv_at hl 5 rfl) ?_
        refine lv_iload hx hb d_M16_42 (lv_at hl 0 rfl) ?_
        refine lv_icmp_eq (tgt := 51) hx hb d_M16_44 (by decide) (fun h6 => ?_) (fun h6 => ?_)
        · refine lv_iconst (v := 0) hx hb d_M16_51 (by decide) ?_
          refine lv_goto (tgt := 62) hx hb d_M16_52 (by decide) ?_
          exact J2 _ (by rw [zen_bit V N gr sg hk2, h5, zb_inj.mp h6]; cases (sg && decide (k = 31)) <;> rfl)
        · refine lv_iconst (v := 1) hx hb d_M16_47 (by decide) ?_
          refine lv_goto (tgt := 62) hx hb d_M16_48 (by decide) ?_
          exact J2 _ (by rw [zen_bit V N gr sg hk2, h5, if_pos rfl]; have h7 := mt zb_inj.mpr h6; revert h7; cases gr <;> cases (sg && decide (k = 31)) <;> decide)
    refine lv_iload_n hx hb d_M16_13 rfl (lv_at hl 5 rfl) ?_
    refine lv_if_eq (tgt := 28) hx hb d_M16_14 (by decide) (fun h1 => ?_) (fun h1 => ?_)
    · refine lv_iconst (v := 0) hx hb d_M16_28 (by decide) ?_
      exact J _ (by rw [(zb_0 _).mp h1]; rfl)
    · have h2 : sg = true := by simpa using mt (zb_0 _).mpr h1
      refine lv_iload hx hb d_M16_17 (lv_at hl 0 rfl) ?_
      refine lv_bipush (v := 31) hx hb d_M16_19 (by decide) ?_
      refine lv_icmp_ne (tgt := 28) hx hb d_M16_21 (by decide) (fun h3 => ?_) (fun h3 => ?_)
      · refine lv_iconst (v := 0) hx hb d_M16_28 (by decide) ?_
        exact J _ (by rw [decide_eq_false (p := k = 31) (fun h => h3 (by rw [h]; rfl)), Bool.and_false]; rfl)
      · refine lv_iconst (v := 1) hx hb d_M16_24 (by decide) ?_
        refine lv_goto (tgt := 29) hx hb d_M16_25 (by decide) ?_
        exact J _ (by rw [h2, decide_eq_true ((nI_eq (a := k) (b := 31) (by omega) (by decide)).mp h3)]; rfl)
set_option maxHeartbeats 4000000 in
set_option maxRecDepth 100000 in
theorem c_M3 (l : Launch) (D : va_G) (cZ : ClassId) (mo b0 b1 b2 b3 b4 b5 : Nat) (hnd : [mo, b0, b1, b2, b3, b4, b5].Nodup) (er : Int32) (f0 f1 f2 f3 f4 f5 : Nat → Bool) (i : Bool) (y : Int32) : Met l y_M3 (zw (.code y_M3 b_M3 3 (some .boolean))) (rmv 0 0 0) (va_Pc [.ref mo, .int (zb i), .int y] (zp_W D (mT cZ) (MW cZ mo b0 b1 b2 b3 b4 b5 er f0 f1 f2 f3 f4 f5))) (zq_w (fun rv H => rv = some (.int (zb i)) ∧ va_P D zC (MW cZ mo b0 b1 b2 b3 b4 b5 (if i then y else 0) f0 f1 f2 f3 f4 f5) H) (fun q => q ∈ [mo, b0, b1, b2, b3, b4, b5])) 0 0 (fun q => q ∈ [mo, b0, b1, b2, b3, b4, b5]) := by
  refine zm_met (b := b_M3) [.ref mo, .int (zb i), .int y] zy_M (Nat.le_of_ble_eq_true rfl) ?_
  intro p e s m below meth c ls S hr hlk hnm hl hB
  obtain ⟨hx, hb, hml, hown, hts⟩ := id S
  have hl : lv_has ls 3 [(0, .ref mo), (1, .int (zb i)), (2, .int y)] := hl
  obtain ⟨hP, hK⟩ := hB
  have hS : va_S (fun q => q ∈ [mo, b0, b1, b2, b3, b4, b5]) s.heap s.heap [] := va_S.rf
  have hz : s.heap.size = s.heap.size := rfl
  refine lv_aload_n hx hb d_M3_0 rfl (lv_at hl 0 rfl) ?_
  refine lv_iload_n hx hb d_M3_1 rfl (lv_at hl 1 rfl) ?_
  refine zj_i (x := if i then y else 0) (pc := 10) (ls := ls) (rest := [.ref mo]) ?_ (fun J => ?_)
  · intro z hz9
    subst hz9
    refine zput_M S hK hP (zd_of rfl hnd) hS rfl (Nat.le_of_ble_eq_true rfl) d_M3_10 (fun H locs hP hS hz1 => ?_)
    have hP : va_P D zC (MW cZ mo b0 b1 b2 b3 b4 b5 (if i then y else 0) f0 f1 f2 f3 f4 f5) H := hP
    have hz : H.size = s.heap.size := hz1.trans hz
    refine lv_iload_n hx hb d_M3_13 rfl (lv_at hl 1 rfl) ?_
    exact W.zret (v := (zb i)) hx hb hr (zb_nar _) (fun t ht hW => zq_end hS hz ⟨rfl, hP⟩ ht) hS.2.2 d_M3_14
  refine lv_if_eq (tgt := 9) hx hb d_M3_2 (by decide) (fun hc => ?_) (fun hc => ?_)
  · refine lv_iconst (v := 0) hx hb d_M3_9 (by decide) ?_
    exact J _ (by rw [(zb_0 _).mp hc]; rfl)
  · refine lv_iload_n hx hb d_M3_5 rfl (lv_at hl 2 rfl) ?_
    refine lv_goto (tgt := 10) hx hb d_M3_6 (by decide) ?_
    exact J _ (by rw [show i = true by simpa using mt (zb_0 _).mpr hc]; rfl)
set_option maxHeartbeats 4000000 in
set_option maxRecDepth 100000 in
theorem c_M6 (l : Launch) (D : va_G) (cZ : ClassId) (mo b0 b1 b2 b3 b4 b5 : Nat) (hnd : [mo, b0, b1, b2, b3, b4, b5].Nodup) (er : Int32) (v n : Nat → Int32) (f2 f3 f4 f5 : Nat → Bool) (r : Nat) (hr9 : r < 16) (V N : Int32) (hV : ∀ i, i < 32 → f4 i = bt V i) (hN : ∀ i, i < 32 → f5 i = bt N i) : Met l y_M6 (zw (.code y_M6 b_M6 3 none)) (rmv 0 0 0) (va_Pc [.ref mo, .int (nI r)] (zp_W D (mT cZ) (MW cZ mo b0 b1 b2 b3 b4 b5 er (zr v) (zr n) f2 f3 f4 f5))) (zq_w (fun rv H => rv = none ∧ va_P D zC (MW cZ mo b0 b1 b2 b3 b4 b5 er (zr (zs v r V)) (zr (zs n r N)) f2 f3 f4 f5) H) (fun q => q ∈ [mo, b0, b1, b2, b3, b4, b5])) 0 0 (fun q => q ∈ [mo, b0, b1, b2, b3, b4, b5]) := by
  refine zm_met (b := b_M6) [.ref mo, .int (nI r)] zy_M (Nat.le_of_ble_eq_true rfl) ?_
  intro p e s m below meth c ls S hr hlk hnm hl hB
  obtain ⟨hx, hb, hml, hown, hts⟩ := id S
  have hl : lv_has ls 3 [(0, .ref mo), (1, .int (nI r))] := hl
  obtain ⟨hP, hK⟩ := hB
  have hS : va_S (fun q => q ∈ [mo, b0, b1, b2, b3, b4, b5]) s.heap s.heap [] := va_S.rf
  have hz : s.heap.size = s.heap.size := rfl
  refine lv_iconst (v := 0) hx hb d_M6_0 (by decide) ?_
  refine lv_istore_n hx hb d_M6_1 rfl hl (by decide) rfl (fun ls hl => ?_)
  have hl : lv_has ls 3 [(2, .int 0), (0, .ref mo), (1, .int (nI r))] := hl
  refine zl_loop (fun k H locs ls => k ≤ 32 ∧ H.size = s.heap.size ∧ va_S (fun q => q ∈ [mo, b0, b1, b2, b3, b4, b5]) s.heap H locs ∧ va_P D zC (MW cZ mo b0 b1 b2 b3 b4 b5 er (zfl (zr v) (32 * r) k f4) (zfl (zr n) (32 * r) k f5) f2 f3 f4 f5) H ∧ lv_has ls 3 [(2, .int (nI k)), (0, .ref mo), (1, .int (nI r))]) 2 32 (fun k H locs ls h => h.1) ?_ 0 _ _ _ ⟨by omega, rfl, hS, by rw [zfl_0, zfl_0]; exact hP, hl⟩
  intro k H locs ls hI ih
  obtain ⟨hk, hz, hS, hP, hl⟩ := hI
  refine lv_iload_n hx hb d_M6_2 rfl (lv_at hl 0 rfl) ?_
  refine lv_bipush (v := 32) hx hb d_M6_3 (by decide) ?_
  refine lv_icmp_ge (tgt := 48) hx hb d_M6_5 (by decide) (fun hc => ?_) (fun hc => ?_)
  · have hk2 := zi_ge 32 rfl hc hk (by decide)
    rw [hk2, zr_put v r V f4 hV, zr_put n r N f5 hN] at hP
    exact W.vret hx hb hr (fun t ht hW => zq_end hS hz ⟨rfl, hP⟩ ht) hS.2.2 d_M6_48
  · have hk2 := zi_lt 32 rfl hc hk (by decide)
    refine lv_aload_n hx hb d_M6_8 rfl (lv_at hl 1 rfl) ?_
    refine zg_M S hK hP rfl 1 (by decide) zl_M1 rfl d_M6_9 ?_
    refine lv_bipush (v := 32) hx hb d_M6_12 (by decide) ?_
    refine lv_iload_n hx hb d_M6_14 rfl (lv_at hl 2 rfl) ?_
    refine lv_imul hx hb d_M6_15 ?_
    refine lv_iload_n hx hb d_M6_16 rfl (lv_at hl 0 rfl) ?_
    refine lv_iadd hx hb d_M6_17 ?_
    refine lv_topi (fun zz ez => ?_)
    obtain rfl : zz = (nI (32 * r + k)) := ez.trans (zi_ix r k)
    refine lv_aload_n hx hb d_M6_18 rfl (lv_at hl 1 rfl) ?_
    refine zg_M S hK hP rfl 5 (by decide) zl_M5 rfl d_M6_19 ?_
    refine lv_iload_n hx hb d_M6_22 rfl (lv_at hl 0 rfl) ?_
    refine zz_ld hx hb hK hP 5 0 rfl rfl (j := k) (by omega) (by decide) d_M6_23 ?_
    refine zz_st hx hb hK hP (zd_of rfl hnd) hS 1 0 rfl rfl (j := (32 * r + k)) (by omega) (by decide) d_M6_24 (fun H locs hP hS hz1 => ?_)
    have hP : va_P D zC (MW cZ mo b0 b1 b2 b3 b4 b5 er (zs (zfl (zr v) (32 * r) k f4) ((32 * r + k)) (f4 k)) (zfl (zr n) (32 * r) k f5) f2 f3 f4 f5) H := hP
    have hz : H.size = s.heap.size := hz1.trans hz
    clear hz1
    rw [zfl_s] at hP
    refine lv_aload_n hx hb d_M6_25 rfl (lv_at hl 1 rfl) ?_
    refine zg_M S hK hP rfl 2 (by decide) zl_M2 rfl d_M6_26 ?_
    refine lv_bipush (v := 32) hx hb d_M6_29 (by decide) ?_
    refine lv_iload_n hx hb d_M6_31 rfl (lv_at hl 2 rfl) ?_
    refine lv_imul hx hb d_M6_32 ?_
    refine lv_iload_n hx hb d_M6_33 rfl (lv_at hl 0 rfl) ?_
    refine lv_iadd hx hb d_M6_34 ?_
    refine lv_topi (fun zz ez => ?_)
    obtain rfl : zz = (nI (32 * r + k)) := ez.trans (zi_ix r k)
    refine lv_aload_n hx hb d_M6_35 rfl (lv_at hl 1 rfl) ?_
    refine zg_M S hK hP rfl 6 (by decide) zl_M6 rfl d_M6_36 ?_
    refine lv_iload_n hx hb d_M6_39 rfl (lv_at hl 0 rfl) ?_
    refine zz_ld hx hb hK hP 6 0 rfl rfl (j := k) (by omega) (by decide) d_M6_40 ?_
    refine zz_st hx hb hK hP (zd_of rfl hnd) hS 2 0 rfl rfl (j := (32 * r + k)) (by omega) (by decide) d_M6_41 (fun H locs hP hS hz1 => ?_)
    have hP : va_P D zC (MW cZ mo b0 b1 b2 b3 b4 b5 er (zfl (zr v) (32 * r) (k + 1) f4) (zs (zfl (zr n) (32 * r) k f5) ((32 * r + k)) (f5 k)) f2 f3 f4 f5) H := hP
    have hz : H.size = s.heap.size := hz1.trans hz
    clear hz1
    rw [zfl_s] at hP
    refine lv_iinc (k := 0) (v := (nI (k + 1))) hx hb d_M6_42 hl rfl (zi_inc _) (by decide) rfl (fun ls hl => ?_)
    have hl : lv_has ls 3 [(2, .int (nI (k + 1))), (0, .ref mo), (1, .int (nI r))] := hl
    refine lv_goto (tgt := 2) hx hb d_M6_45 (by decide) ?_
    exact ih _ _ _ ⟨by omega, hz, hS, hP, lv_sub hl [0, 1, 2] rfl⟩
set_option maxHeartbeats 4000000 in
set_option maxRecDepth 100000 in
theorem c_M7 (l : Launch) (D : va_G) (cZ : ClassId) (mo b0 b1 b2 b3 b4 b5 : Nat) (hnd : [mo, b0, b1, b2, b3, b4, b5].Nodup) (er : Int32) (f0 f1 f2 f3 f4 f5 : Nat → Bool) (V : Int32) : Met l y_M7 (zw (.code y_M7 b_M7 3 none)) (rmv 0 0 0) (va_Pc [.ref mo, .int V] (zp_W D (mT cZ) (MW cZ mo b0 b1 b2 b3 b4 b5 er f0 f1 f2 f3 f4 f5))) (zq_w (fun rv H => rv = none ∧ ∃ g4 g5 : Nat → Bool, (∀ i, i < 32 → g4 i = bt V i) ∧ (∀ i, i < 32 → g5 i = false) ∧ va_P D zC (MW cZ mo b0 b1 b2 b3 b4 b5 er f0 f1 f2 f3 g4 g5) H) (fun q => q ∈ [mo, b0, b1, b2, b3, b4, b5])) 0 0 (fun q => q ∈ [mo, b0, b1, b2, b3, b4, b5]) := by
  refine zm_met (b := b_M7) [.ref mo, .int V] zy_M (Nat.le_of_ble_eq_true rfl) ?_
  intro p e s m below meth c ls S hr hlk hnm hl hB
  obtain ⟨hx, hb, hml, hown, hts⟩ := id S
  have hl : lv_has ls 3 [(0, .ref mo), (1, .int V)] := hl
  obtain ⟨hP, hK⟩ := hB
  have hS : va_S (fun q => q ∈ [mo, b0, b1, b2, b3, b4, b5]) s.heap s.heap [] := va_S.rf
  have hz : s.heap.size = s.heap.size := rfl
  refine lv_iconst (v := 0) hx hb d_M7_0 (by decide) ?_
  refine lv_istore_n hx hb d_M7_1 rfl hl (by decide) rfl (fun ls hl => ?_)
  have hl : lv_has ls 3 [(2, .int 0), (0, .ref mo), (1, .int V)] := hl
  refine zl_loop (fun k H locs ls => k ≤ 32 ∧ H.size = s.heap.size ∧ va_S (fun q => q ∈ [mo, b0, b1, b2, b3, b4, b5]) s.heap H locs ∧ va_P D zC (MW cZ mo b0 b1 b2 b3 b4 b5 er f0 f1 f2 f3 (zfl f4 0 k (bt V)) (zfl f5 0 k (fun _ => false))) H ∧ lv_has ls 3 [(2, .int (nI k)), (0, .ref mo), (1, .int V)]) 2 32 (fun k H locs ls h => h.1) ?_ 0 _ _ _ ⟨by omega, rfl, hS, by rw [zfl_0, zfl_0]; exact hP, hl⟩
  intro k H locs ls hI ih
  obtain ⟨hk, hz, hS, hP, hl⟩ := hI
  refine lv_iload_n hx hb d_M7_2 rfl (lv_at hl 0 rfl) ?_
  refine lv_bipush (v := 32) hx hb d_M7_3 (by decide) ?_
  refine lv_icmp_ge (tgt := 41) hx hb d_M7_5 (by decide) (fun hc => ?_) (fun hc => ?_)
  · have hk2 := zi_ge 32 rfl hc hk (by decide)
    rw [hk2] at hP
    exact W.vret hx hb hr (fun t ht hW => zq_end hS hz ⟨rfl, _, _, fun i hi => zfl_at f4 32 (bt V) hi, fun i hi => zfl_at f5 32 (fun _ => false) hi, hP⟩ ht) hS.2.2 d_M7_41
  · have hk2 := zi_lt 32 rfl hc hk (by decide)
    refine lv_aload_n hx hb d_M7_8 rfl (lv_at hl 1 rfl) ?_
    refine zg_M S hK hP rfl 5 (by decide) zl_M5 rfl d_M7_9 ?_
    refine lv_iload_n hx hb d_M7_12 rfl (lv_at hl 0 rfl) ?_
    refine lv_iload_n hx hb d_M7_13 rfl (lv_at hl 2 rfl) ?_
    refine lv_iload_n hx hb d_M7_14 rfl (lv_at hl 0 rfl) ?_
    refine lv_ishr hx hb d_M7_15 ?_
    refine lv_iconst (v := 1) hx hb d_M7_16 (by decide) ?_
    refine lv_iand hx hb d_M7_17 ?_
    refine lv_iconst (v := 1) hx hb d_M7_18 (by decide) ?_
    refine zd_icmp_ne hx hb d_M7_19 d_M7_22 d_M7_23 d_M7_26 ?_
    refine lv_topi (fun zz ez => ?_)
    obtain rfl : zz = (zb (bt V k)) := ez.trans (by rw [zshr_bit V hk2])
    refine zz_st hx hb hK hP (zd_of rfl hnd) hS 5 0 rfl rfl (j := k) (by omega) (by decide) d_M7_27 (fun H locs hP hS hz1 => ?_)
    have hP : va_P D zC (MW cZ mo b0 b1 b2 b3 b4 b5 er f0 f1 f2 f3 (zs (zfl f4 0 k (bt V)) (k) (bt V k)) (zfl f5 0 k (fun _ => false))) H := hP
    have hz : H.size = s.heap.size := hz1.trans hz
    clear hz1
    rw [zfl_s0] at hP
    refine lv_aload_n hx hb d_M7_28 rfl (lv_at hl 1 rfl) ?_
    refine zg_M S hK hP rfl 6 (by decide) zl_M6 rfl d_M7_29 ?_
    refine lv_iload_n hx hb d_M7_32 rfl (lv_at hl 0 rfl) ?_
    refine lv_iconst (v := 0) hx hb d_M7_33 (by decide) ?_
    show W p l e _ s m _ below meth c H locs 0 0 _ (F0 m 34 ls [.int (zb ((fun _ => false : Nat → Bool) k)), .int (nI k), .ref b5])
    refine zz_st hx hb hK hP (zd_of rfl hnd) hS 6 0 rfl rfl (j := k) (by omega) (by decide) d_M7_34 (fun H locs hP hS hz1 => ?_)
    have hP : va_P D zC (MW cZ mo b0 b1 b2 b3 b4 b5 er f0 f1 f2 f3 (zfl f4 0 (k + 1) (bt V)) (zs (zfl f5 0 k (fun _ => false)) (k) ((fun _ => false : Nat → Bool) k))) H := hP
    have hz : H.size = s.heap.size := hz1.trans hz
    clear hz1
    rw [zfl_s0] at hP
    refine lv_iinc (k := 0) (v := (nI (k + 1))) hx hb d_M7_35 hl rfl (zi_inc _) (by decide) rfl (fun ls hl => ?_)
    have hl : lv_has ls 3 [(2, .int (nI (k + 1))), (0, .ref mo), (1, .int V)] := hl
    refine lv_goto (tgt := 2) hx hb d_M7_38 (by decide) ?_
    exact ih _ _ _ ⟨by omega, hz, hS, hP, lv_sub hl [0, 1, 2] rfl⟩
set_option maxHeartbeats 4000000 in
set_option maxRecDepth 100000 in
theorem c_M13 (l : Launch) (D : va_G) (cZ : ClassId) (mo b0 b1 b2 b3 b4 b5 : Nat) (hnd : [mo, b0, b1, b2, b3, b4, b5].Nodup) (er : Int32) (f0 f1 f2 f3 f4 f5 : Nat → Bool) (q9 : Nat) (hq9 : q9 < 100) : Met l y_M13 (zw (.code y_M13 b_M13 3 none)) (rmv 0 0 0) (va_Pc [.ref mo, .int (nI q9)] (zp_W D (mT cZ) (MW cZ mo b0 b1 b2 b3 b4 b5 er f0 f1 f2 f3 f4 f5))) (zq_w (fun rv H => rv = none ∧ ∃ g5 : Nat → Bool, (∀ i, i < 32 → g5 i = decide (q9 ≤ i)) ∧ va_P D zC (MW cZ mo b0 b1 b2 b3 b4 b5 er f0 f1 f2 f3 f4 g5) H) (fun q => q ∈ [mo, b0, b1, b2, b3, b4, b5])) 0 0 (fun q => q ∈ [mo, b0, b1, b2, b3, b4, b5]) := by
  refine zm_met (b := b_M13) [.ref mo, .int (nI q9)] zy_M (Nat.le_of_ble_eq_true rfl) ?_
  intro p e s m below meth c ls S hr hlk hnm hl hB
  obtain ⟨hx, hb, hml, hown, hts⟩ := id S
  have hl : lv_has ls 3 [(0, .ref mo), (1, .int (nI q9))] := hl
  obtain ⟨hP, hK⟩ := hB
  have hS : va_S (fun q => q ∈ [mo, b0, b1, b2, b3, b4, b5]) s.heap s.heap [] := va_S.rf
  have hz : s.heap.size = s.heap.size := rfl
  refine lv_iconst (v := 0) hx hb d_M13_0 (by decide) ?_
  refine lv_istore_n hx hb d_M13_1 rfl hl (by decide) rfl (fun ls hl => ?_)
  have hl : lv_has ls 3 [(2, .int 0), (0, .ref mo), (1, .int (nI q9))] := hl
  refine zl_loop (fun k H locs ls => k ≤ 32 ∧ H.size = s.heap.size ∧ va_S (fun q => q ∈ [mo, b0, b1, b2, b3, b4, b5]) s.heap H locs ∧ va_P D zC (MW cZ mo b0 b1 b2 b3 b4 b5 er f0 f1 f2 f3 f4 (zfl f5 0 k (fun i => decide (q9 ≤ i)))) H ∧ lv_has ls 3 [(2, .int (nI k)), (0, .ref mo), (1, .int (nI q9))]) 2 32 (fun k H locs ls h => h.1) ?_ 0 _ _ _ ⟨by omega, rfl, hS, by rw [zfl_0]; exact hP, hl⟩
  intro k H locs ls hI ih
  obtain ⟨hk, hz, hS, hP, hl⟩ := hI
  refine lv_iload_n hx hb d_M13_2 rfl (lv_at hl 0 rfl) ?_
  refine lv_bipush (v := 32) hx hb d_M13_3 (by decide) ?_
  refine lv_icmp_ge (tgt := 30) hx hb d_M13_5 (by decide) (fun hc => ?_) (fun hc => ?_)
  · have hk2 := zi_ge 32 rfl hc hk (by decide)
    rw [hk2] at hP
    exact W.vret hx hb hr (fun t ht hW => zq_end hS hz ⟨rfl, _, fun i hi => zfl_at f5 32 (fun i => decide (q9 ≤ i)) hi, hP⟩ ht) hS.2.2 d_M13_30
  · have hk2 := zi_lt 32 rfl hc hk (by decide)
    refine lv_aload_n hx hb d_M13_8 rfl (lv_at hl 1 rfl) ?_
    refine zg_M S hK hP rfl 6 (by decide) zl_M6 rfl d_M13_9 ?_
    refine lv_iload_n hx hb d_M13_12 rfl (lv_at hl 0 rfl) ?_
    refine lv_iload_n hx hb d_M13_13 rfl (lv_at hl 0 rfl) ?_
    refine lv_iload_n hx hb d_M13_14 rfl (lv_at hl 2 rfl) ?_
    refine zd_icmp_lt hx hb d_M13_15 d_M13_18 d_M13_19 d_M13_22 ?_
    refine lv_topi (fun zz ez => ?_)
    obtain rfl : zz = (zb ((fun i => decide (q9 ≤ i)) k)) := ez.trans (by congr 1; exact decide_eq_decide.mpr (by rw [nI_ltI (by omega) (by omega)]; omega))
    refine zz_st hx hb hK hP (zd_of rfl hnd) hS 6 0 rfl rfl (j := k) (by omega) (by decide) d_M13_23 (fun H locs hP hS hz1 => ?_)
    have hP : va_P D zC (MW cZ mo b0 b1 b2 b3 b4 b5 er f0 f1 f2 f3 f4 (zs (zfl f5 0 k (fun i => decide (q9 ≤ i))) (k) ((fun i => decide (q9 ≤ i)) k))) H := hP
    have hz : H.size = s.heap.size := hz1.trans hz
    clear hz1
    rw [zfl_s0] at hP
    refine lv_iinc (k := 0) (v := (nI (k + 1))) hx hb d_M13_24 hl rfl (zi_inc _) (by decide) rfl (fun ls hl => ?_)
    have hl : lv_has ls 3 [(2, .int (nI (k + 1))), (0, .ref mo), (1, .int (nI q9))] := hl
    refine lv_goto (tgt := 2) hx hb d_M13_27 (by decide) ?_
    exact ih _ _ _ ⟨by omega, hz, hS, hP, lv_sub hl [0, 1, 2] rfl⟩
end
section
/-! a word shifted -/
def shf (op : Nat) (V : Int32) (q : Nat) : Int32 := match op with
  | 5 => V <<< (nI q &&& 31)
  | 6 => (V.toUInt32 >>> ((nI q).toUInt32 &&& Int32.toUInt32 31)).toInt32
  | _ => V >>> (nI q &&& 31)
theorem shf_5 (V : Int32) {q k : Nat} (hq : q < 32) (hk : k < 32) (h : q ≤ k) : bt V (k - q) = bt (shf 5 V q) k := by
  show _ = bt (V <<< (nI q &&& 31)) k
  rw [b_shl q hq V hk, decide_eq_true h, Bool.true_and]
theorem shf_5o (V : Int32) {q k : Nat} (hq : q < 32) (hk : k < 32) (h : ¬ q ≤ k) : bt (shf 5 V q) k = false := by
  show bt (V <<< (nI q &&& 31)) k = false
  rw [b_shl q hq V hk, decide_eq_false h, Bool.false_and]
theorem shf_6 (V : Int32) {q k : Nat} (hq : q < 32) : bt V (k + q) = bt (shf 6 V q) k := by
  show _ = bt ((V.toUInt32 >>> ((nI q).toUInt32 &&& Int32.toUInt32 31)).toInt32) k
  rw [b_ushr q hq V k, Nat.add_comm]
theorem shf_6o (V : Int32) {q k : Nat} (hq : q < 32) (h : ¬ k + q < 32) : bt (shf 6 V q) k = false := by
  rw [← shf_6 V hq]
  exact b_big (by omega)
theorem shf_7 (V : Int32) {q k : Nat} (hq : q < 32) (hk : k < 32) (h : k + q < 32) : bt V (k + q) = bt (shf 7 V q) k := by
  show _ = bt (V >>> (nI q &&& 31)) k
  rw [b_sshr q hq V hk, if_pos (by omega), Nat.add_comm]
theorem shf_7c (V : Int32) {q k : Nat} (hq : q < 32) (hk : k < 32) (h : ¬ k + q < 32) : bt V 31 = bt (shf 7 V q) k := by
  show _ = bt (V >>> (nI q &&& 31)) k
  rw [b_sshr q hq V hk, if_neg (by omega)]
/-! whether any place below k has it -/
def zany (f : Nat → Bool) : Nat → Bool
  | 0 => false
  | k + 1 => zany f k || f k
theorem zany_true {f : Nat → Bool} : ∀ {k : Nat}, zany f k = true ↔ ∃ i, i < k ∧ f i = true
  | 0 => by simp [zany]
  | k + 1 => by
    rw [zany, Bool.or_eq_true, zany_true]
    constructor
    · rintro (⟨i, h1, h2⟩ | h)
      · exact ⟨i, by omega, h2⟩
      · exact ⟨k, by omega, h⟩
    · rintro ⟨i, h1, h2⟩
      by_cases h : i = k
      · subst h; exact Or.inr h2
      · exact Or.inl ⟨i, by omega, h2⟩
theorem zany_false {f : Nat → Bool} {k : Nat} : zany f k = false ↔ ∀ i, i < k → f i = false := by
  constructor
  · intro h i hi
    cases hf : f i
    · rfl
    · rw [zany_true.mpr ⟨i, hi, hf⟩] at h; cases h
  · intro h
    cases hz : zany f k
    · rfl
    · obtain ⟨i, h1, h2⟩ := zany_true.mp hz
      rw [h i h1] at h2; cases h2
theorem zany_w (w : Int32) : zany (bt w) 32 = !decide (w = 0) := by
  by_cases h : w = 0
  · subst h
    rw [decide_eq_true rfl]
    exact zany_false.mpr (fun i _ => b_0 i)
  · rw [decide_eq_false h]
    cases hz : zany (bt w) 32
    · exact absurd (b_ext (fun i hi => by rw [zany_false.mp hz i hi, b_0])) h
    · rfl
theorem zany_5 (Q : Int32) : zany (bt Q) 5 = !decide (Q &&& 31 = 0) := by
  have h31 : ∀ i, i < 32 → bt 31 i = decide (i < 5) := by decide +kernel
  by_cases h : Q &&& 31 = 0
  · rw [decide_eq_true h]
    refine zany_false.mpr (fun i hi => ?_)
    have h1 : bt (Q &&& 31) i = false := by rw [h]; exact b_0 i
    rw [b_and, h31 i (by omega), decide_eq_true hi, Bool.and_true] at h1
    exact h1
  · rw [decide_eq_false h]
    cases hz : zany (bt Q) 5
    · refine absurd (b_ext (fun i hi => ?_)) h
      rw [b_and, h31 i hi, b_0]
      by_cases h2 : i < 5
      · rw [zany_false.mp hz i h2, Bool.false_and]
      · rw [decide_eq_false h2, Bool.and_false]
    · rfl
theorem zb_bit (b : Bool) {i : Nat} (hi : i < 32) : bt (zb b) i = (decide (i = 0) && b) := by
  have h : ∀ b : Bool, ∀ i, i < 32 → bt (zb b) i = (decide (i = 0) && b) := by decide +kernel
  exact h b i hi
/-! the bits that aren't given, by operation -/
theorem on_01 (x y p q w r : Int32) {i : Nat} (hi : i < 32) : bt ((p ||| q) ||| -(p ||| q)) i = decide (min (zlo p) (zlo q) ≤ i) := by
  rw [zn_up _ hi, zlo_or]
theorem on_2 (x y p q : Int32) {i : Nat} : bt (((p ||| q) &&& (x ||| p)) &&& (y ||| q)) i = ((bt p i || bt q i) && !(!bt p i && (bt x i == false)) && !(!bt q i && (bt y i == false))) := by
  rw [b_and, b_and, b_or, b_or, b_or]
  cases bt p i <;> cases bt q i <;> cases bt x i <;> cases bt y i <;> rfl
theorem on_3 (x y p q : Int32) {i : Nat} (hi : i < 32) : bt (((p ||| q) &&& ((x ^^^ (-1)) ||| p)) &&& ((y ^^^ (-1)) ||| q)) i = ((bt p i || bt q i) && !(!bt p i && (bt x i == true)) && !(!bt q i && (bt y i == true))) := by
  rw [b_and, b_and, b_or, b_or, b_or, b_xor, b_xor, b_m1 i hi]
  cases bt p i <;> cases bt q i <;> cases bt x i <;> cases bt y i <;> rfl
def zpp (a b : Nat) : Nat := if a = 32 ∨ b = 32 then 32 else a + b
theorem on_8 (x y p q : Int32) {i : Nat} (hi : i < 32) : bt (zpr p (y ||| q) ||| zpr q (x ||| p)) i = decide (min (zpp (zlo p) (zlo (y ||| q))) (zpp (zlo q) (zlo (x ||| p))) ≤ i) := by
  rw [b_or, zpr_bit _ _ hi, zpr_bit _ _ hi, ← Bool.decide_or]
  refine decide_eq_decide.mpr ?_
  have h1 : p ≠ 0 ↔ ¬ zlo p = 32 := not_congr zlo_32.symm
  have h2 : q ≠ 0 ↔ ¬ zlo q = 32 := not_congr zlo_32.symm
  rw [h1, h2]
  have a1 := zlo_le p
  have a2 := zlo_le q
  have a3 := zlo_le (y ||| q)
  have a4 := zlo_le (x ||| p)
  generalize zlo p = a at *
  generalize zlo q = b at *
  generalize zlo (y ||| q) = c at *
  generalize zlo (x ||| p) = d at *
  unfold zpp
  split <;> split <;> omega
theorem zel_s (V N Y Q : Int32) (g1 g2 : Bool) : zel V N g1 true < zel Y Q g2 true ↔ zen V N g1 true < zen Y Q g2 true := by
  show (zen V N g1 true).toInt64 < (zen Y Q g2 true).toInt64 ↔ _
  rw [Int64.lt_iff_toInt_lt, Int32.lt_iff_toInt_lt, Int32.toInt_toInt64, Int32.toInt_toInt64]
theorem zel_u (V N Y Q : Int32) (g1 g2 : Bool) : zel V N g1 false < zel Y Q g2 false ↔ zult (zen V N g1 false) (zen Y Q g2 false) = true := by
  show lN _ < lN _ ↔ decide _ = true
  have h1 := (zen V N g1 false).toBitVec.isLt
  have h2 := (zen Y Q g2 false).toBitVec.isLt
  rw [pk_lLT (by omega) (by omega), decide_eq_true_iff]
theorem zmsk (x : Int32) : x.toInt64 &&& 4294967295 = lN x.toBitVec.toNat := by
  apply Int64.toBitVec_inj.mp
  rw [Int64.toBitVec_and]
  show BitVec.signExtend 64 x.toBitVec &&& 4294967295#64 = BitVec.ofNat 64 x.toBitVec.toNat
  refine BitVec.eq_of_getLsbD_eq (fun i hi => ?_)
  have hm : ∀ i, i < 64 → (4294967295#64).getLsbD i = decide (i < 32) := by decide +kernel
  rw [BitVec.getLsbD_and, hm i hi, BitVec.getLsbD_signExtend, BitVec.getLsbD_ofNat]
  by_cases h : i < 32
  · simp [h, hi, BitVec.getLsbD]
  · rw [decide_eq_false h, Bool.and_false]
    symm
    rw [show x.toBitVec.toNat.testBit i = false from BitVec.getLsbD_of_ge _ _ (by omega)]
    simp
theorem zul_lt (x y : Int32) : lN x.toBitVec.toNat < lN y.toBitVec.toNat ↔ zult x y = true := by
  show _ ↔ decide _ = true
  have h1 := x.toBitVec.isLt
  have h2 := y.toBitVec.isLt
  rw [pk_lLT (by omega) (by omega), decide_eq_true_iff]
theorem on_11 (x y p q : Int32) : (!decide (x = y ∧ p ||| q = 0) && decide (((x ^^^ y) &&& (p ^^^ (-1))) &&& (q ^^^ (-1)) = 0)) = (!zany (fun i => !(bt p i || bt q i) && (bt x i != bt y i)) 32 && zany (fun i => bt p i || bt q i) 32) := by
  have e1 : zany (fun i => bt p i || bt q i) 32 = !decide (p ||| q = 0) := by
    rw [← zany_w]
    cases h : zany (bt (p ||| q)) 32
    · exact zany_false.mpr (fun i hi => by have := zany_false.mp h i hi; rw [b_or] at this; exact this)
    · obtain ⟨i, h1, h2⟩ := zany_true.mp h
      rw [b_or] at h2
      exact zany_true.mpr ⟨i, h1, h2⟩
  have hb : ∀ i, i < 32 → bt (((x ^^^ y) &&& (p ^^^ (-1))) &&& (q ^^^ (-1))) i = (!(bt p i || bt q i) && (bt x i != bt y i)) := by
    intro i hi
    rw [b_and, b_and, b_xor, b_xor, b_xor, b_m1 i hi]
    cases bt p i <;> cases bt q i <;> cases bt x i <;> cases bt y i <;> rfl
  have e2 : zany (fun i => !(bt p i || bt q i) && (bt x i != bt y i)) 32 = !decide (((x ^^^ y) &&& (p ^^^ (-1))) &&& (q ^^^ (-1)) = 0) := by
    rw [← zany_w]
    cases h : zany (bt (((x ^^^ y) &&& (p ^^^ (-1))) &&& (q ^^^ (-1)))) 32
    · exact zany_false.mpr (fun i hi => by have := zany_false.mp h i hi; rw [hb i hi] at this; exact this)
    · obtain ⟨i, h1, h2⟩ := zany_true.mp h
      rw [hb i h1] at h2
      exact zany_true.mpr ⟨i, h1, h2⟩
  rw [e1, e2]
  by_cases h1 : p ||| q = 0
  · by_cases h2 : ((x ^^^ y) &&& (p ^^^ (-1))) &&& (q ^^^ (-1)) = 0
    · have h3 : x = y := by
        refine b_ext (fun i hi => ?_)
        have h4 := hb i hi
        have h5 : (bt p i || bt q i) = false := by rw [← b_or, h1, b_0]
        rw [h2, b_0, h5] at h4
        revert h4
        cases bt x i <;> cases bt y i <;> decide
      rw [decide_eq_true h1, decide_eq_true h2, decide_eq_true ⟨h3, h1⟩]; rfl
    · rw [decide_eq_false h2, Bool.and_false]; rfl
  · rw [decide_eq_false h1, decide_eq_false (p := x = y ∧ p ||| q = 0) (fun h => h1 h.2)]
    cases decide (((x ^^^ y) &&& (p ^^^ (-1))) &&& (q ^^^ (-1)) = 0) <;> rfl
theorem on_12 (x y p q w r : Int32) {i : Nat} : bt (if bt q 0 = false then (if bt y 0 then p else r) else (p ||| r) ||| (x ^^^ w)) i = if bt q 0 then (bt p i || bt r i || (bt x i != bt w i)) else (if bt y 0 then bt p i else bt r i) := by
  cases hq : bt q 0
  · rw [if_pos rfl]
    cases hy : bt y 0 <;> rfl
  · rw [if_neg (by decide), b_or, b_or, b_xor]
    rfl
section ZJH
variable {p : Program} {l : Launch} {e : Env} {R : Room} {s : State} {m : MethodId} {args : Array Value} {below : List Frame} {meth : Method} {c : Code} {H : Heap} {locs : List Loc} {cells slots : Nat} {Q : State → Prop}
theorem zj_h (I : Heap → List Loc → Array Slot → Prop) (pc : Nat) {g : JFrame} (J : ∀ H locs ls, I H locs ls → W p l e R s m args below meth c H locs cells slots Q (F0 m pc ls [])) (k : (∀ H locs ls, I H locs ls → W p l e R s m args below meth c H locs cells slots Q (F0 m pc ls [])) → W p l e R s m args below meth c H locs cells slots Q g) : W p l e R s m args below meth c H locs cells slots Q g := k J
end ZJH
theorem zi_13 {x : Int32} (h : nI 13 ≤ x) : ¬ x ≤ 12 := by
  intro h2
  rw [Int32.le_iff_toInt_le] at h h2
  have e1 : (nI 13).toInt = 13 := by decide
  have e2 : (12 : Int32).toInt = 12 := by decide
  omega
end
section
set_option maxHeartbeats 4000000 in
set_option maxRecDepth 100000 in
theorem c_M15 (l : Launch) (D : va_G) (cZ : ClassId) (mo b0 b1 b2 b3 b4 b5 : Nat) (hnd : [mo, b0, b1, b2, b3, b4, b5].Nodup) (er : Int32) (f0 f1 f2 f3 f4 f5 : Nat → Bool) (op a b q : Nat) (hop : op = 5 ∨ op = 6 ∨ op = 7) (ha : a < 16) (hb9 : b < 16) (hq9 : q < 32) (V N B : Int32) (hV : ∀ i, i < 32 → f0 (32 * a + i) = bt V i) (hN : ∀ i, i < 32 → f1 (32 * a + i) = bt N i) (hB9 : ∀ i, i < 32 → f1 (32 * b + i) = bt B i) : Met l y_M15 (zw (.code y_M15 b_M15 8 none)) (rmv 1 0 0) (va_Pc [.ref mo, .int (nI op), .int (nI a), .int (nI b), .int (nI q)] (zp_W D (mT cZ) (MW cZ mo b0 b1 b2 b3 b4 b5 er f0 f1 f2 f3 f4 f5))) (zq_w (fun rv H => rv = none ∧ ∃ g4 g5 : Nat → Bool, (∀ i, i < 32 → g4 i = bt (shf op V q) i) ∧ (∀ i, i < 32 → g5 i = if B &&& 31 = 0 then bt (shf op N q) i else true) ∧ va_P D zC (MW cZ mo b0 b1 b2 b3 b4 b5 er f0 f1 f2 f3 g4 g5) H) (fun q => q ∈ [mo, b0, b1, b2, b3, b4, b5])) 0 0 (fun q => q ∈ [mo, b0, b1, b2, b3, b4, b5]) := by
  refine zm_met (b := b_M15) [.ref mo, .int (nI op), .int (nI a), .int (nI b), .int (nI q)] zy_M (Nat.le_of_ble_eq_true rfl) ?_
  intro p e s m below meth c ls S hr hlk hnm hl hB
  obtain ⟨hx, hb, hml, hown, hts⟩ := id S
  have hl : lv_has ls 8 [(0, .ref mo), (1, .int (nI op)), (2, .int (nI a)), (3, .int (nI b)), (4, .int (nI q))] := hl
  obtain ⟨hP, hK⟩ := hB
  have hS : va_S (fun q => q ∈ [mo, b0, b1, b2, b3, b4, b5]) s.heap s.heap [] := va_S.rf
  have hz : s.heap.size = s.heap.size := rfl
  refine lv_iconst (v := 0) hx hb d_M15_0 (by decide) ?_
  refine lv_istore hx hb d_M15_1 hl (by decide) rfl (fun ls hl => ?_)
  have hl : lv_has ls 8 [(5, .int 0), (0, .ref mo), (1, .int (nI op)), (2, .int (nI a)), (3, .int (nI b)), (4, .int (nI q))] := hl
  refine zj_h (fun H locs ls => H.size = s.heap.size ∧ va_S (fun q => q ∈ [mo, b0, b1, b2, b3, b4, b5]) s.heap H locs ∧ ∃ g4 g5 : Nat → Bool, (∀ i, i < 32 → g4 i = bt (shf op V q) i) ∧ (∀ i, i < 32 → g5 i = bt (shf op N q) i) ∧ va_P D zC (MW cZ mo b0 b1 b2 b3 b4 b5 er f0 f1 f2 f3 g4 g5) H ∧ lv_has ls 8 [(0, .ref mo), (3, .int (nI b))]) 126 ?_ (fun J => ?_)
  · intro H locs ls hI
    obtain ⟨hz, hS, g4, g5, h4, h5, hP, hl⟩ := hI
    refine lv_iconst (v := 1) hx hb d_M15_126 (by decide) ?_
    refine lv_istore hx hb d_M15_127 hl (by decide) rfl (fun ls hl => ?_)
    have hl : lv_has ls 8 [(5, .int 1), (0, .ref mo), (3, .int (nI b))] := hl
    refine lv_iconst (v := 0) hx hb d_M15_129 (by decide) ?_
    refine lv_istore hx hb d_M15_130 hl (by decide) rfl (fun ls hl => ?_)
    have hl : lv_has ls 8 [(6, .int 0), (5, .int 1), (0, .ref mo), (3, .int (nI b))] := hl
    refine zl_loop (fun k H9 locs9 ls => H9 = H ∧ locs9 = locs ∧ k ≤ 5 ∧ lv_has ls 8 [(6, .int (nI k)), (5, .int (zb (!zany (bt B) k))), (0, .ref mo), (3, .int (nI b))]) 132 5 (fun k H locs ls h => h.2.2.1) ?_ 0 _ _ _ ⟨rfl, rfl, by omega, hl⟩
    intro k H9 locs9 ls hI ih
    obtain ⟨rfl, rfl, hk, hl⟩ := hI
    refine lv_iload hx hb d_M15_132 (lv_at hl 0 rfl) ?_
    refine lv_iconst (v := 5) hx hb d_M15_134 (by decide) ?_
    refine lv_icmp_ge (tgt := 157) hx hb d_M15_135 (by decide) (fun hc => ?_) (fun hc => ?_)
    · have hk2 := zi_ge 5 rfl hc hk (by decide)
      rw [hk2, zany_5, Bool.not_not] at hl
      refine lv_iload hx hb d_M15_157 (lv_at hl 1 rfl) ?_
      refine lv_if_ne (tgt := 167) hx hb d_M15_159 (by decide) (fun hd => ?_) (fun hd => ?_)
      · have h1 : B &&& 31 = 0 := by simpa using mt (zb_0 _).mpr hd
        exact W.vret hx hb hr (fun t ht hW => zq_end hS hz ⟨rfl, g4, g5, h4, fun i hi => by rw [if_pos h1]; exact h5 i hi, hP⟩ ht) hS.2.2 d_M15_167
      · have h1 : ¬ (B &&& 31 = 0) := by simpa using (zb_0 _).mp hd
        refine lv_aload_n hx hb d_M15_162 rfl (lv_at hl 2 rfl) ?_
        refine lv_iconst (v := 0) hx hb d_M15_163 (by decide) ?_
        refine zc_Vw (C := zc_M) S k_M61 (c_M13 l D cZ mo b0 b1 b2 b3 b4 b5 hnd er f0 f1 f2 f3 g4 g5 0 (by decide)) rfl (mw_pre hK hP) ⟨Nat.le_of_ble_eq_true rfl, Nat.le_of_ble_eq_true rfl⟩ ⟨rfl, rfl⟩ rfl hl.1 rfl (Nat.le_of_ble_eq_true rfl) d_M15_164 ⟨Nat.zero_le _, Nat.zero_le _⟩ hS (fun rv H locs hq hz1 hS => ?_)
        obtain ⟨rfl, g6, h6, hP⟩ := hq
        have hz : H.size = s.heap.size := hz1.trans hz
        clear hz1
        exact W.vret hx hb hr (fun t ht hW => zq_end hS hz ⟨rfl, g4, g6, h4, fun i hi => by rw [if_neg h1, h6 i hi]; rfl, hP⟩ ht) hS.2.2 d_M15_167
    · have hk2 := zi_lt 5 rfl hc hk (by decide)
      refine lv_aload_n hx hb d_M15_138 rfl (lv_at hl 2 rfl) ?_
      refine lv_iload_n hx hb d_M15_139 rfl (lv_at hl 3 rfl) ?_
      refine lv_iload hx hb d_M15_140 (lv_at hl 0 rfl) ?_
      refine zc_Vi (C := zc_M) S k_M47 (c_M10 l D cZ mo b0 b1 b2 b3 b4 b5 hnd er f0 f1 f2 f3 g4 g5 b k hb9 (by omega)) rfl (mw_pre hK hP) ⟨Nat.le_of_ble_eq_true rfl, Nat.le_of_ble_eq_true rfl⟩ ⟨rfl, rfl⟩ rfl hl.1 rfl (Nat.le_of_ble_eq_true rfl) d_M15_142 ⟨Nat.zero_le _, Nat.zero_le _⟩ ?_
      rw [hB9 k (by omega)]
      refine lv_if_eq (tgt := 151) hx hb d_M15_145 (by decide) (fun hd => ?_) (fun hd => ?_)
      · refine lv_iinc (k := 0) (v := (nI (k + 1))) hx hb d_M15_151 hl rfl (zi_inc _) (by decide) rfl (fun ls hl => ?_)
        have hl : lv_has ls 8 [(6, .int (nI (k + 1))), (5, .int (zb (!zany (bt B) k))), (0, .ref mo), (3, .int (nI b))] := hl
        refine lv_goto (tgt := 132) hx hb d_M15_154 (by decide) ?_
        exact ih _ _ _ ⟨rfl, rfl, by omega, by rw [zany, (zb_0 _).mp hd, Bool.or_false]; exact lv_sub hl [0, 1, 2, 3] rfl⟩
      · refine lv_iconst (v := 0) hx hb d_M15_148 (by decide) ?_
        refine lv_istore hx hb d_M15_149 hl (by decide) rfl (fun ls hl => ?_)
        have hl : lv_has ls 8 [(5, .int 0), (6, .int (nI k)), (0, .ref mo), (3, .int (nI b))] := hl
        refine lv_iinc (k := 1) (v := (nI (k + 1))) hx hb d_M15_151 hl rfl (zi_inc _) (by decide) rfl (fun ls hl => ?_)
        have hl : lv_has ls 8 [(6, .int (nI (k + 1))), (5, .int 0), (0, .ref mo), (3, .int (nI b))] := hl
        refine lv_goto (tgt := 132) hx hb d_M15_154 (by decide) ?_
        exact ih _ _ _ ⟨rfl, rfl, by omega, by rw [zany, show bt B k = true by simpa using mt (zb_0 _).mpr hd, Bool.or_true]; exact lv_sub hl [0, 1, 2, 3] rfl⟩
  rcases hop with rfl | rfl | rfl
  · refine zl_loop (fun k H locs ls => k ≤ 32 ∧ H.size = s.heap.size ∧ va_S (fun q => q ∈ [mo, b0, b1, b2, b3, b4, b5]) s.heap H locs ∧ va_P D zC (MW cZ mo b0 b1 b2 b3 b4 b5 er f0 f1 f2 f3 (zfl f4 0 k (bt (shf 5 V q))) (zfl f5 0 k (bt (shf 5 N q)))) H ∧ lv_has ls 8 [(5, .int (nI k)), (0, .ref mo), (1, .int (nI 5)), (2, .int (nI a)), (3, .int (nI b)), (4, .int (nI q))]) 3 32 (fun k H locs ls h => h.1) ?_ 0 _ _ _ ⟨by omega, rfl, hS, by rw [zfl_0, zfl_0]; exact hP, hl⟩
    intro k H locs ls hI ih
    obtain ⟨hk, hz, hS, hP, hl⟩ := hI
    refine lv_iload hx hb d_M15_3 (lv_at hl 0 rfl) ?_
    refine lv_bipush (v := 32) hx hb d_M15_5 (by decide) ?_
    refine lv_icmp_ge (tgt := 126) hx hb d_M15_7 (by decide) (fun hc => ?_) (fun hc => ?_)
    · have hk2 := zi_ge 32 rfl hc hk (by decide)
      rw [hk2] at hP
      exact J _ _ _ ⟨hz, hS, _, _, fun i hi => zfl_at f4 32 _ hi, fun i hi => zfl_at f5 32 _ hi, hP, lv_sub hl [1, 4] rfl⟩
    · have hk2 := zi_lt 32 rfl hc hk (by decide)
      refine lv_iload_n hx hb d_M15_10 rfl (lv_at hl 2 rfl) ?_
      refine lv_iconst (v := 5) hx hb d_M15_11 (by decide) ?_
      refine lv_icmp_ne (tgt := 23) hx hb d_M15_12 (by decide) (fun hc3 => absurd rfl hc3) (fun hc3 => ?_)
      refine lv_iload hx hb d_M15_15 (lv_at hl 0 rfl) ?_
      refine lv_iload hx hb d_M15_17 (lv_at hl 5 rfl) ?_
      refine lv_isub hx hb d_M15_19 ?_
      by_cases hin : q ≤ k
      · refine lv_topi (fun zz ez => ?_)
        obtain rfl : zz = (nI (k - q)) := ez.trans (pk_sub hin)
        refine lv_goto (tgt := 28) hx hb d_M15_20 (by decide) ?_
        refine lv_istore hx hb d_M15_28 hl (by decide) rfl (fun ls hl => ?_)
        have hl : lv_has ls 8 [(6, .int (nI (k - q))), (5, .int (nI k)), (0, .ref mo), (1, .int (nI 5)), (2, .int (nI a)), (3, .int (nI b)), (4, .int (nI q))] := hl
        refine lv_iload_n hx hb d_M15_30 rfl (lv_at hl 3 rfl) ?_
        refine lv_bipush (v := 7) hx hb d_M15_31 (by decide) ?_
        refine lv_icmp_ne (tgt := 47) hx hb d_M15_33 (by decide) (fun hc4 => ?_) (fun hc4 => absurd hc4 (by decide))
        refine lv_iload hx hb d_M15_47 (lv_at hl 0 rfl) ?_
        refine lv_if_lt (tgt := 63) hx hb d_M15_49 (by decide) (fun hc6 => absurd hc6 (nI_pos (by omega))) (fun hc6 => ?_)
        refine lv_iload hx hb d_M15_52 (lv_at hl 0 rfl) ?_
        refine lv_bipush (v := 32) hx hb d_M15_54 (by decide) ?_
        refine lv_icmp_ge (tgt := 63) hx hb d_M15_56 (by decide) (fun hc7 => absurd hc7 (nI_ge (b := 32) (by omega) (by decide))) (fun hc7 => ?_)
        refine lv_iconst (v := 1) hx hb d_M15_59 (by decide) ?_
        refine lv_goto (tgt := 64) hx hb d_M15_60 (by decide) ?_
        refine lv_istore hx hb d_M15_64 hl (by decide) rfl (fun ls hl => ?_)
        have hl : lv_has ls 8 [(7, .int 1), (6, .int (nI (k - q))), (5, .int (nI k)), (0, .ref mo), (1, .int (nI 5)), (2, .int (nI a)), (3, .int (nI b)), (4, .int (nI q))] := hl
        refine lv_aload_n hx hb d_M15_66 rfl (lv_at hl 3 rfl) ?_
        refine zg_M S hK hP rfl 5 (by decide) zl_M5 rfl d_M15_67 ?_
        refine lv_iload hx hb d_M15_70 (lv_at hl 2 rfl) ?_
        refine lv_iload hx hb d_M15_72 (lv_at hl 0 rfl) ?_
        refine zj_i (x := (zb (bt (shf 5 V q) k))) (pc := 92) (ls := ls) (rest := [.int (nI k), .ref b4]) ?_ (fun J9 => ?_)
        · intro z hz9
          subst hz9
          refine zz_st hx hb hK hP (zd_of rfl hnd) hS 5 0 rfl rfl (j := k) (by omega) (by decide) d_M15_92 (fun H locs hP hS hz1 => ?_)
          have hP : va_P D zC (MW cZ mo b0 b1 b2 b3 b4 b5 er f0 f1 f2 f3 (zs (zfl f4 0 k (bt (shf 5 V q))) (k) (bt (shf 5 V q) k)) (zfl f5 0 k (bt (shf 5 N q)))) H := hP
          have hz : H.size = s.heap.size := hz1.trans hz
          clear hz1
          rw [zfl_s0] at hP
          refine lv_aload_n hx hb d_M15_93 rfl (lv_at hl 3 rfl) ?_
          refine zg_M S hK hP rfl 6 (by decide) zl_M6 rfl d_M15_94 ?_
          refine lv_iload hx hb d_M15_97 (lv_at hl 2 rfl) ?_
          refine lv_iload hx hb d_M15_99 (lv_at hl 0 rfl) ?_
          refine zj_i (x := (zb (bt (shf 5 N q) k))) (pc := 119) (ls := ls) (rest := [.int (nI k), .ref b5]) ?_ (fun J9 => ?_)
          · intro z hz9
            subst hz9
            refine zz_st hx hb hK hP (zd_of rfl hnd) hS 6 0 rfl rfl (j := k) (by omega) (by decide) d_M15_119 (fun H locs hP hS hz1 => ?_)
            have hP : va_P D zC (MW cZ mo b0 b1 b2 b3 b4 b5 er f0 f1 f2 f3 (zfl f4 0 (k + 1) (bt (shf 5 V q))) (zs (zfl f5 0 k (bt (shf 5 N q))) (k) (bt (shf 5 N q) k))) H := hP
            have hz : H.size = s.heap.size := hz1.trans hz
            clear hz1
            rw [zfl_s0] at hP
            refine lv_iinc (k := 2) (v := (nI (k + 1))) hx hb d_M15_120 hl rfl (zi_inc _) (by decide) rfl (fun ls hl => ?_)
            have hl : lv_has ls 8 [(5, .int (nI (k + 1))), (7, .int 1), (6, .int (nI (k - q))), (0, .ref mo), (1, .int (nI 5)), (2, .int (nI a)), (3, .int (nI b)), (4, .int (nI q))] := hl
            refine lv_goto (tgt := 3) hx hb d_M15_123 (by decide) ?_
            exact ih _ _ _ ⟨by omega, hz, hS, hP, lv_sub hl [0, 3, 4, 5, 6, 7] rfl⟩
          refine lv_if_eq (tgt := 118) hx hb d_M15_101 (by decide) (fun hc8 => absurd hc8 (by decide)) (fun hc8 => ?_)
          refine lv_aload_n hx hb d_M15_104 rfl (lv_at hl 3 rfl) ?_
          refine lv_iload_n hx hb d_M15_105 rfl (lv_at hl 5 rfl) ?_
          refine lv_iload hx hb d_M15_106 (lv_at hl 1 rfl) ?_
          refine zc_Vi (C := zc_M) S k_M47 (c_M10 l D cZ mo b0 b1 b2 b3 b4 b5 hnd er f0 f1 f2 f3 (zfl f4 0 (k + 1) (bt (shf 5 V q))) (zfl f5 0 k (bt (shf 5 N q))) a (k - q) ha (by omega)) rfl (mw_pre hK hP) ⟨Nat.le_of_ble_eq_true rfl, Nat.le_of_ble_eq_true rfl⟩ ⟨rfl, rfl⟩ rfl hl.1 rfl (Nat.le_of_ble_eq_true rfl) d_M15_108 ⟨Nat.zero_le _, Nat.zero_le _⟩ ?_
          rw [hN (k - q) (by omega), shf_5 N hq9 hk2 hin]
          refine lv_if_eq (tgt := 118) hx hb d_M15_111 (by decide) (fun hc9 => ?_) (fun hc9 => ?_)
          · refine lv_iconst (v := 0) hx hb d_M15_118 (by decide) ?_
            exact J9 _ ((zb_0 _).mp hc9 ▸ rfl)
          · refine lv_iconst (v := 1) hx hb d_M15_114 (by decide) ?_
            refine lv_goto (tgt := 119) hx hb d_M15_115 (by decide) ?_
            exact J9 _ (by rw [show bt (shf 5 N q) k = true by simpa using mt (zb_0 _).mpr hc9]; rfl)
        refine lv_if_eq (tgt := 91) hx hb d_M15_74 (by decide) (fun hc8 => absurd hc8 (by decide)) (fun hc8 => ?_)
        refine lv_aload_n hx hb d_M15_77 rfl (lv_at hl 3 rfl) ?_
        refine lv_iload_n hx hb d_M15_78 rfl (lv_at hl 5 rfl) ?_
        refine lv_iload hx hb d_M15_79 (lv_at hl 1 rfl) ?_
        refine zc_Vi (C := zc_M) S k_M51 (c_M9 l D cZ mo b0 b1 b2 b3 b4 b5 hnd er f0 f1 f2 f3 (zfl f4 0 k (bt (shf 5 V q))) (zfl f5 0 k (bt (shf 5 N q))) a (k - q) ha (by omega)) rfl (mw_pre hK hP) ⟨Nat.le_of_ble_eq_true rfl, Nat.le_of_ble_eq_true rfl⟩ ⟨rfl, rfl⟩ rfl hl.1 rfl (Nat.le_of_ble_eq_true rfl) d_M15_81 ⟨Nat.zero_le _, Nat.zero_le _⟩ ?_
        rw [hV (k - q) (by omega), shf_5 V hq9 hk2 hin]
        refine lv_if_eq (tgt := 91) hx hb d_M15_84 (by decide) (fun hc9 => ?_) (fun hc9 => ?_)
        · refine lv_iconst (v := 0) hx hb d_M15_91 (by decide) ?_
          exact J9 _ ((zb_0 _).mp hc9 ▸ rfl)
        · refine lv_iconst (v := 1) hx hb d_M15_87 (by decide) ?_
          refine lv_goto (tgt := 92) hx hb d_M15_88 (by decide) ?_
          exact J9 _ (by rw [show bt (shf 5 V q) k = true by simpa using mt (zb_0 _).mpr hc9]; rfl)
      · refine lv_goto (tgt := 28) hx hb d_M15_20 (by decide) ?_
        refine lv_istore hx hb d_M15_28 hl (by decide) rfl (fun ls hl => ?_)
        have hl : lv_has ls 8 [(6, .int ((nI k) - (nI q))), (5, .int (nI k)), (0, .ref mo), (1, .int (nI 5)), (2, .int (nI a)), (3, .int (nI b)), (4, .int (nI q))] := hl
        refine lv_iload_n hx hb d_M15_30 rfl (lv_at hl 3 rfl) ?_
        refine lv_bipush (v := 7) hx hb d_M15_31 (by decide) ?_
        refine lv_icmp_ne (tgt := 47) hx hb d_M15_33 (by decide) (fun hc4 => ?_) (fun hc4 => absurd hc4 (by decide))
        refine lv_iload hx hb d_M15_47 (lv_at hl 0 rfl) ?_
        refine lv_if_lt (tgt := 63) hx hb d_M15_49 (by decide) (fun hc6 => ?_) (fun hc6 => absurd (pk_sneg (by omega) (by omega)) hc6)
        refine lv_iconst (v := 0) hx hb d_M15_63 (by decide) ?_
        refine lv_istore hx hb d_M15_64 hl (by decide) rfl (fun ls hl => ?_)
        have hl : lv_has ls 8 [(7, .int 0), (6, .int ((nI k) - (nI q))), (5, .int (nI k)), (0, .ref mo), (1, .int (nI 5)), (2, .int (nI a)), (3, .int (nI b)), (4, .int (nI q))] := hl
        refine lv_aload_n hx hb d_M15_66 rfl (lv_at hl 3 rfl) ?_
        refine zg_M S hK hP rfl 5 (by decide) zl_M5 rfl d_M15_67 ?_
        refine lv_iload hx hb d_M15_70 (lv_at hl 2 rfl) ?_
        refine lv_iload hx hb d_M15_72 (lv_at hl 0 rfl) ?_
        refine zj_i (x := (zb (bt (shf 5 V q) k))) (pc := 92) (ls := ls) (rest := [.int (nI k), .ref b4]) ?_ (fun J9 => ?_)
        · intro z hz9
          subst hz9
          refine zz_st hx hb hK hP (zd_of rfl hnd) hS 5 0 rfl rfl (j := k) (by omega) (by decide) d_M15_92 (fun H locs hP hS hz1 => ?_)
          have hP : va_P D zC (MW cZ mo b0 b1 b2 b3 b4 b5 er f0 f1 f2 f3 (zs (zfl f4 0 k (bt (shf 5 V q))) (k) (bt (shf 5 V q) k)) (zfl f5 0 k (bt (shf 5 N q)))) H := hP
          have hz : H.size = s.heap.size := hz1.trans hz
          clear hz1
          rw [zfl_s0] at hP
          refine lv_aload_n hx hb d_M15_93 rfl (lv_at hl 3 rfl) ?_
          refine zg_M S hK hP rfl 6 (by decide) zl_M6 rfl d_M15_94 ?_
          refine lv_iload hx hb d_M15_97 (lv_at hl 2 rfl) ?_
          refine lv_iload hx hb d_M15_99 (lv_at hl 0 rfl) ?_
          refine zj_i (x := (zb (bt (shf 5 N q) k))) (pc := 119) (ls := ls) (rest := [.int (nI k), .ref b5]) ?_ (fun J9 => ?_)
          · intro z hz9
            subst hz9
            refine zz_st hx hb hK hP (zd_of rfl hnd) hS 6 0 rfl rfl (j := k) (by omega) (by decide) d_M15_119 (fun H locs hP hS hz1 => ?_)
            have hP : va_P D zC (MW cZ mo b0 b1 b2 b3 b4 b5 er f0 f1 f2 f3 (zfl f4 0 (k + 1) (bt (shf 5 V q))) (zs (zfl f5 0 k (bt (shf 5 N q))) (k) (bt (shf 5 N q) k))) H := hP
            have hz : H.size = s.heap.size := hz1.trans hz
            clear hz1
            rw [zfl_s0] at hP
            refine lv_iinc (k := 2) (v := (nI (k + 1))) hx hb d_M15_120 hl rfl (zi_inc _) (by decide) rfl (fun ls hl => ?_)
            have hl : lv_has ls 8 [(5, .int (nI (k + 1))), (7, .int 0), (6, .int ((nI k) - (nI q))), (0, .ref mo), (1, .int (nI 5)), (2, .int (nI a)), (3, .int (nI b)), (4, .int (nI q))] := hl
            refine lv_goto (tgt := 3) hx hb d_M15_123 (by decide) ?_
            exact ih _ _ _ ⟨by omega, hz, hS, hP, lv_sub hl [0, 3, 4, 5, 6, 7] rfl⟩
          refine lv_if_eq (tgt := 118) hx hb d_M15_101 (by decide) (fun hc8 => ?_) (fun hc8 => absurd rfl hc8)
          refine lv_iconst (v := 0) hx hb d_M15_118 (by decide) ?_
          exact J9 _ (by rw [shf_5o N hq9 hk2 hin]; rfl)
        refine lv_if_eq (tgt := 91) hx hb d_M15_74 (by decide) (fun hc8 => ?_) (fun hc8 => absurd rfl hc8)
        refine lv_iconst (v := 0) hx hb d_M15_91 (by decide) ?_
        exact J9 _ (by rw [shf_5o V hq9 hk2 hin]; rfl)
  · refine zl_loop (fun k H locs ls => k ≤ 32 ∧ H.size = s.heap.size ∧ va_S (fun q => q ∈ [mo, b0, b1, b2, b3, b4, b5]) s.heap H locs ∧ va_P D zC (MW cZ mo b0 b1 b2 b3 b4 b5 er f0 f1 f2 f3 (zfl f4 0 k (bt (shf 6 V q))) (zfl f5 0 k (bt (shf 6 N q)))) H ∧ lv_has ls 8 [(5, .int (nI k)), (0, .ref mo), (1, .int (nI 6)), (2, .int (nI a)), (3, .int (nI b)), (4, .int (nI q))]) 3 32 (fun k H locs ls h => h.1) ?_ 0 _ _ _ ⟨by omega, rfl, hS, by rw [zfl_0, zfl_0]; exact hP, hl⟩
    intro k H locs ls hI ih
    obtain ⟨hk, hz, hS, hP, hl⟩ := hI
    refine lv_iload hx hb d_M15_3 (lv_at hl 0 rfl) ?_
    refine lv_bipush (v := 32) hx hb d_M15_5 (by decide) ?_
    refine lv_icmp_ge (tgt := 126) hx hb d_M15_7 (by decide) (fun hc => ?_) (fun hc => ?_)
    · have hk2 := zi_ge 32 rfl hc hk (by decide)
      rw [hk2] at hP
      exact J _ _ _ ⟨hz, hS, _, _, fun i hi => zfl_at f4 32 _ hi, fun i hi => zfl_at f5 32 _ hi, hP, lv_sub hl [1, 4] rfl⟩
    · have hk2 := zi_lt 32 rfl hc hk (by decide)
      refine lv_iload_n hx hb d_M15_10 rfl (lv_at hl 2 rfl) ?_
      refine lv_iconst (v := 5) hx hb d_M15_11 (by decide) ?_
      refine lv_icmp_ne (tgt := 23) hx hb d_M15_12 (by decide) (fun hc3 => ?_) (fun hc3 => absurd hc3 (by decide))
      refine lv_iload hx hb d_M15_23 (lv_at hl 0 rfl) ?_
      refine lv_iload hx hb d_M15_25 (lv_at hl 5 rfl) ?_
      refine lv_iadd hx hb d_M15_27 ?_
      by_cases hin : k + q < 32
      · refine lv_topi (fun zz ez => ?_)
        obtain rfl : zz = (nI (k + q)) := ez.trans (nI_add _ _)
        refine lv_istore hx hb d_M15_28 hl (by decide) rfl (fun ls hl => ?_)
        have hl : lv_has ls 8 [(6, .int (nI (k + q))), (5, .int (nI k)), (0, .ref mo), (1, .int (nI 6)), (2, .int (nI a)), (3, .int (nI b)), (4, .int (nI q))] := hl
        refine lv_iload_n hx hb d_M15_30 rfl (lv_at hl 3 rfl) ?_
        refine lv_bipush (v := 7) hx hb d_M15_31 (by decide) ?_
        refine lv_icmp_ne (tgt := 47) hx hb d_M15_33 (by decide) (fun hc4 => ?_) (fun hc4 => absurd hc4 (by decide))
        refine lv_iload hx hb d_M15_47 (lv_at hl 0 rfl) ?_
        refine lv_if_lt (tgt := 63) hx hb d_M15_49 (by decide) (fun hc6 => absurd hc6 (nI_pos (by omega))) (fun hc6 => ?_)
        refine lv_iload hx hb d_M15_52 (lv_at hl 0 rfl) ?_
        refine lv_bipush (v := 32) hx hb d_M15_54 (by decide) ?_
        refine lv_icmp_ge (tgt := 63) hx hb d_M15_56 (by decide) (fun hc7 => absurd hc7 (nI_ge (b := 32) (by omega) (by decide))) (fun hc7 => ?_)
        refine lv_iconst (v := 1) hx hb d_M15_59 (by decide) ?_
        refine lv_goto (tgt := 64) hx hb d_M15_60 (by decide) ?_
        refine lv_istore hx hb d_M15_64 hl (by decide) rfl (fun ls hl => ?_)
        have hl : lv_has ls 8 [(7, .int 1), (6, .int (nI (k + q))), (5, .int (nI k)), (0, .ref mo), (1, .int (nI 6)), (2, .int (nI a)), (3, .int (nI b)), (4, .int (nI q))] := hl
        refine lv_aload_n hx hb d_M15_66 rfl (lv_at hl 3 rfl) ?_
        refine zg_M S hK hP rfl 5 (by decide) zl_M5 rfl d_M15_67 ?_
        refine lv_iload hx hb d_M15_70 (lv_at hl 2 rfl) ?_
        refine lv_iload hx hb d_M15_72 (lv_at hl 0 rfl) ?_
        refine zj_i (x := (zb (bt (shf 6 V q) k))) (pc := 92) (ls := ls) (rest := [.int (nI k), .ref b4]) ?_ (fun J9 => ?_)
        · intro z hz9
          subst hz9
          refine zz_st hx hb hK hP (zd_of rfl hnd) hS 5 0 rfl rfl (j := k) (by omega) (by decide) d_M15_92 (fun H locs hP hS hz1 => ?_)
          have hP : va_P D zC (MW cZ mo b0 b1 b2 b3 b4 b5 er f0 f1 f2 f3 (zs (zfl f4 0 k (bt (shf 6 V q))) (k) (bt (shf 6 V q) k)) (zfl f5 0 k (bt (shf 6 N q)))) H := hP
          have hz : H.size = s.heap.size := hz1.trans hz
          clear hz1
          rw [zfl_s0] at hP
          refine lv_aload_n hx hb d_M15_93 rfl (lv_at hl 3 rfl) ?_
          refine zg_M S hK hP rfl 6 (by decide) zl_M6 rfl d_M15_94 ?_
          refine lv_iload hx hb d_M15_97 (lv_at hl 2 rfl) ?_
          refine lv_iload hx hb d_M15_99 (lv_at hl 0 rfl) ?_
          refine zj_i (x := (zb (bt (shf 6 N q) k))) (pc := 119) (ls := ls) (rest := [.int (nI k), .ref b5]) ?_ (fun J9 => ?_)
          · intro z hz9
            subst hz9
            refine zz_st hx hb hK hP (zd_of rfl hnd) hS 6 0 rfl rfl (j := k) (by omega) (by decide) d_M15_119 (fun H locs hP hS hz1 => ?_)
            have hP : va_P D zC (MW cZ mo b0 b1 b2 b3 b4 b5 er f0 f1 f2 f3 (zfl f4 0 (k + 1) (bt (shf 6 V q))) (zs (zfl f5 0 k (bt (shf 6 N q))) (k) (bt (shf 6 N q) k))) H := hP
            have hz : H.size = s.heap.size := hz1.trans hz
            clear hz1
            rw [zfl_s0] at hP
            refine lv_iinc (k := 2) (v := (nI (k + 1))) hx hb d_M15_120 hl rfl (zi_inc _) (by decide) rfl (fun ls hl => ?_)
            have hl : lv_has ls 8 [(5, .int (nI (k + 1))), (7, .int 1), (6, .int (nI (k + q))), (0, .ref mo), (1, .int (nI 6)), (2, .int (nI a)), (3, .int (nI b)), (4, .int (nI q))] := hl
            refine lv_goto (tgt := 3) hx hb d_M15_123 (by decide) ?_
            exact ih _ _ _ ⟨by omega, hz, hS, hP, lv_sub hl [0, 3, 4, 5, 6, 7] rfl⟩
          refine lv_if_eq (tgt := 118) hx hb d_M15_101 (by decide) (fun hc8 => absurd hc8 (by decide)) (fun hc8 => ?_)
          refine lv_aload_n hx hb d_M15_104 rfl (lv_at hl 3 rfl) ?_
          refine lv_iload_n hx hb d_M15_105 rfl (lv_at hl 5 rfl) ?_
          refine lv_iload hx hb d_M15_106 (lv_at hl 1 rfl) ?_
          refine zc_Vi (C := zc_M) S k_M47 (c_M10 l D cZ mo b0 b1 b2 b3 b4 b5 hnd er f0 f1 f2 f3 (zfl f4 0 (k + 1) (bt (shf 6 V q))) (zfl f5 0 k (bt (shf 6 N q))) a (k + q) ha (by omega)) rfl (mw_pre hK hP) ⟨Nat.le_of_ble_eq_true rfl, Nat.le_of_ble_eq_true rfl⟩ ⟨rfl, rfl⟩ rfl hl.1 rfl (Nat.le_of_ble_eq_true rfl) d_M15_108 ⟨Nat.zero_le _, Nat.zero_le _⟩ ?_
          rw [hN (k + q) (by omega), shf_6 N hq9]
          refine lv_if_eq (tgt := 118) hx hb d_M15_111 (by decide) (fun hc9 => ?_) (fun hc9 => ?_)
          · refine lv_iconst (v := 0) hx hb d_M15_118 (by decide) ?_
            exact J9 _ ((zb_0 _).mp hc9 ▸ rfl)
          · refine lv_iconst (v := 1) hx hb d_M15_114 (by decide) ?_
            refine lv_goto (tgt := 119) hx hb d_M15_115 (by decide) ?_
            exact J9 _ (by rw [show bt (shf 6 N q) k = true by simpa using mt (zb_0 _).mpr hc9]; rfl)
        refine lv_if_eq (tgt := 91) hx hb d_M15_74 (by decide) (fun hc8 => absurd hc8 (by decide)) (fun hc8 => ?_)
        refine lv_aload_n hx hb d_M15_77 rfl (lv_at hl 3 rfl) ?_
        refine lv_iload_n hx hb d_M15_78 rfl (lv_at hl 5 rfl) ?_
        refine lv_iload hx hb d_M15_79 (lv_at hl 1 rfl) ?_
        refine zc_Vi (C := zc_M) S k_M51 (c_M9 l D cZ mo b0 b1 b2 b3 b4 b5 hnd er f0 f1 f2 f3 (zfl f4 0 k (bt (shf 6 V q))) (zfl f5 0 k (bt (shf 6 N q))) a (k + q) ha (by omega)) rfl (mw_pre hK hP) ⟨Nat.le_of_ble_eq_true rfl, Nat.le_of_ble_eq_true rfl⟩ ⟨rfl, rfl⟩ rfl hl.1 rfl (Nat.le_of_ble_eq_true rfl) d_M15_81 ⟨Nat.zero_le _, Nat.zero_le _⟩ ?_
        rw [hV (k + q) (by omega), shf_6 V hq9]
        refine lv_if_eq (tgt := 91) hx hb d_M15_84 (by decide) (fun hc9 => ?_) (fun hc9 => ?_)
        · refine lv_iconst (v := 0) hx hb d_M15_91 (by decide) ?_
          exact J9 _ ((zb_0 _).mp hc9 ▸ rfl)
        · refine lv_iconst (v := 1) hx hb d_M15_87 (by decide) ?_
          refine lv_goto (tgt := 92) hx hb d_M15_88 (by decide) ?_
          exact J9 _ (by rw [show bt (shf 6 V q) k = true by simpa using mt (zb_0 _).mpr hc9]; rfl)
      · refine lv_topi (fun zz ez => ?_)
        obtain rfl : zz = (nI (k + q)) := ez.trans (nI_add _ _)
        refine lv_istore hx hb d_M15_28 hl (by decide) rfl (fun ls hl => ?_)
        have hl : lv_has ls 8 [(6, .int (nI (k + q))), (5, .int (nI k)), (0, .ref mo), (1, .int (nI 6)), (2, .int (nI a)), (3, .int (nI b)), (4, .int (nI q))] := hl
        refine lv_iload_n hx hb d_M15_30 rfl (lv_at hl 3 rfl) ?_
        refine lv_bipush (v := 7) hx hb d_M15_31 (by decide) ?_
        refine lv_icmp_ne (tgt := 47) hx hb d_M15_33 (by decide) (fun hc4 => ?_) (fun hc4 => absurd hc4 (by decide))
        refine lv_iload hx hb d_M15_47 (lv_at hl 0 rfl) ?_
        refine lv_if_lt (tgt := 63) hx hb d_M15_49 (by decide) (fun hc6 => absurd hc6 (nI_pos (by omega))) (fun hc6 => ?_)
        refine lv_iload hx hb d_M15_52 (lv_at hl 0 rfl) ?_
        refine lv_bipush (v := 32) hx hb d_M15_54 (by decide) ?_
        refine lv_icmp_ge (tgt := 63) hx hb d_M15_56 (by decide) (fun hc7 => ?_) (fun hc7 => absurd (nI_le (a := 32) (by omega) (by omega)) hc7)
        refine lv_iconst (v := 0) hx hb d_M15_63 (by decide) ?_
        refine lv_istore hx hb d_M15_64 hl (by decide) rfl (fun ls hl => ?_)
        have hl : lv_has ls 8 [(7, .int 0), (6, .int (nI (k + q))), (5, .int (nI k)), (0, .ref mo), (1, .int (nI 6)), (2, .int (nI a)), (3, .int (nI b)), (4, .int (nI q))] := hl
        refine lv_aload_n hx hb d_M15_66 rfl (lv_at hl 3 rfl) ?_
        refine zg_M S hK hP rfl 5 (by decide) zl_M5 rfl d_M15_67 ?_
        refine lv_iload hx hb d_M15_70 (lv_at hl 2 rfl) ?_
        refine lv_iload hx hb d_M15_72 (lv_at hl 0 rfl) ?_
        refine zj_i (x := (zb (bt (shf 6 V q) k))) (pc := 92) (ls := ls) (rest := [.int (nI k), .ref b4]) ?_ (fun J9 => ?_)
        · intro z hz9
          subst hz9
          refine zz_st hx hb hK hP (zd_of rfl hnd) hS 5 0 rfl rfl (j := k) (by omega) (by decide) d_M15_92 (fun H locs hP hS hz1 => ?_)
          have hP : va_P D zC (MW cZ mo b0 b1 b2 b3 b4 b5 er f0 f1 f2 f3 (zs (zfl f4 0 k (bt (shf 6 V q))) (k) (bt (shf 6 V q) k)) (zfl f5 0 k (bt (shf 6 N q)))) H := hP
          have hz : H.size = s.heap.size := hz1.trans hz
          clear hz1
          rw [zfl_s0] at hP
          refine lv_aload_n hx hb d_M15_93 rfl (lv_at hl 3 rfl) ?_
          refine zg_M S hK hP rfl 6 (by decide) zl_M6 rfl d_M15_94 ?_
          refine lv_iload hx hb d_M15_97 (lv_at hl 2 rfl) ?_
          refine lv_iload hx hb d_M15_99 (lv_at hl 0 rfl) ?_
          refine zj_i (x := (zb (bt (shf 6 N q) k))) (pc := 119) (ls := ls) (rest := [.int (nI k), .ref b5]) ?_ (fun J9 => ?_)
          · intro z hz9
            subst hz9
            refine zz_st hx hb hK hP (zd_of rfl hnd) hS 6 0 rfl rfl (j := k) (by omega) (by decide) d_M15_119 (fun H locs hP hS hz1 => ?_)
            have hP : va_P D zC (MW cZ mo b0 b1 b2 b3 b4 b5 er f0 f1 f2 f3 (zfl f4 0 (k + 1) (bt (shf 6 V q))) (zs (zfl f5 0 k (bt (shf 6 N q))) (k) (bt (shf 6 N q) k))) H := hP
            have hz : H.size = s.heap.size := hz1.trans hz
            clear hz1
            rw [zfl_s0] at hP
            refine lv_iinc (k := 2) (v := (nI (k + 1))) hx hb d_M15_120 hl rfl (zi_inc _) (by decide) rfl (fun ls hl => ?_)
            have hl : lv_has ls 8 [(5, .int (nI (k + 1))), (7, .int 0), (6, .int (nI (k + q))), (0, .ref mo), (1, .int (nI 6)), (2, .int (nI a)), (3, .int (nI b)), (4, .int (nI q))] := hl
            refine lv_goto (tgt := 3) hx hb d_M15_123 (by decide) ?_
            exact ih _ _ _ ⟨by omega, hz, hS, hP, lv_sub hl [0, 3, 4, 5, 6, 7] rfl⟩
          refine lv_if_eq (tgt := 118) hx hb d_M15_101 (by decide) (fun hc8 => ?_) (fun hc8 => absurd rfl hc8)
          refine lv_iconst (v := 0) hx hb d_M15_118 (by decide) ?_
          exact J9 _ (by rw [shf_6o N hq9 hin]; rfl)
        refine lv_if_eq (tgt := 91) hx hb d_M15_74 (by decide) (fun hc8 => ?_) (fun hc8 => absurd rfl hc8)
        refine lv_iconst (v := 0) hx hb d_M15_91 (by decide) ?_
        exact J9 _ (by rw [shf_6o V hq9 hin]; rfl)
  · refine zl_loop (fun k H locs ls => k ≤ 32 ∧ H.size = s.heap.size ∧ va_S (fun q => q ∈ [mo, b0, b1, b2, b3, b4, b5]) s.heap H locs ∧ va_P D zC (MW cZ mo b0 b1 b2 b3 b4 b5 er f0 f1 f2 f3 (zfl f4 0 k (bt (shf 7 V q))) (zfl f5 0 k (bt (shf 7 N q)))) H ∧ lv_has ls 8 [(5, .int (nI k)), (0, .ref mo), (1, .int (nI 7)), (2, .int (nI a)), (3, .int (nI b)), (4, .int (nI q))]) 3 32 (fun k H locs ls h => h.1) ?_ 0 _ _ _ ⟨by omega, rfl, hS, by rw [zfl_0, zfl_0]; exact hP, hl⟩
    intro k H locs ls hI ih
    obtain ⟨hk, hz, hS, hP, hl⟩ := hI
    refine lv_iload hx hb d_M15_3 (lv_at hl 0 rfl) ?_
    refine lv_bipush (v := 32) hx hb d_M15_5 (by decide) ?_
    refine lv_icmp_ge (tgt := 126) hx hb d_M15_7 (by decide) (fun hc => ?_) (fun hc => ?_)
    · have hk2 := zi_ge 32 rfl hc hk (by decide)
      rw [hk2] at hP
      exact J _ _ _ ⟨hz, hS, _, _, fun i hi => zfl_at f4 32 _ hi, fun i hi => zfl_at f5 32 _ hi, hP, lv_sub hl [1, 4] rfl⟩
    · have hk2 := zi_lt 32 rfl hc hk (by decide)
      refine lv_iload_n hx hb d_M15_10 rfl (lv_at hl 2 rfl) ?_
      refine lv_iconst (v := 5) hx hb d_M15_11 (by decide) ?_
      refine lv_icmp_ne (tgt := 23) hx hb d_M15_12 (by decide) (fun hc3 => ?_) (fun hc3 => absurd hc3 (by decide))
      refine lv_iload hx hb d_M15_23 (lv_at hl 0 rfl) ?_
      refine lv_iload hx hb d_M15_25 (lv_at hl 5 rfl) ?_
      refine lv_iadd hx hb d_M15_27 ?_
      by_cases hin : k + q < 32
      · refine lv_topi (fun zz ez => ?_)
        obtain rfl : zz = (nI (k + q)) := ez.trans (nI_add _ _)
        refine lv_istore hx hb d_M15_28 hl (by decide) rfl (fun ls hl => ?_)
        have hl : lv_has ls 8 [(6, .int (nI (k + q))), (5, .int (nI k)), (0, .ref mo), (1, .int (nI 7)), (2, .int (nI a)), (3, .int (nI b)), (4, .int (nI q))] := hl
        refine lv_iload_n hx hb d_M15_30 rfl (lv_at hl 3 rfl) ?_
        refine lv_bipush (v := 7) hx hb d_M15_31 (by decide) ?_
        refine lv_icmp_ne (tgt := 47) hx hb d_M15_33 (by decide) (fun hc4 => absurd rfl hc4) (fun hc4 => ?_)
        refine lv_iload hx hb d_M15_36 (lv_at hl 0 rfl) ?_
        refine lv_bipush (v := 31) hx hb d_M15_38 (by decide) ?_
        refine lv_icmp_le (tgt := 47) hx hb d_M15_40 (by decide) (fun hc5 => ?_) (fun hc5 => absurd (nI_le (b := 31) (by omega) (by decide)) hc5)
        refine lv_iload hx hb d_M15_47 (lv_at hl 0 rfl) ?_
        refine lv_if_lt (tgt := 63) hx hb d_M15_49 (by decide) (fun hc6 => absurd hc6 (nI_pos (by omega))) (fun hc6 => ?_)
        refine lv_iload hx hb d_M15_52 (lv_at hl 0 rfl) ?_
        refine lv_bipush (v := 32) hx hb d_M15_54 (by decide) ?_
        refine lv_icmp_ge (tgt := 63) hx hb d_M15_56 (by decide) (fun hc7 => absurd hc7 (nI_ge (b := 32) (by omega) (by decide))) (fun hc7 => ?_)
        refine lv_iconst (v := 1) hx hb d_M15_59 (by decide) ?_
        refine lv_goto (tgt := 64) hx hb d_M15_60 (by decide) ?_
        refine lv_istore hx hb d_M15_64 hl (by decide) rfl (fun ls hl => ?_)
        have hl : lv_has ls 8 [(7, .int 1), (6, .int (nI (k + q))), (5, .int (nI k)), (0, .ref mo), (1, .int (nI 7)), (2, .int (nI a)), (3, .int (nI b)), (4, .int (nI q))] := hl
        refine lv_aload_n hx hb d_M15_66 rfl (lv_at hl 3 rfl) ?_
        refine zg_M S hK hP rfl 5 (by decide) zl_M5 rfl d_M15_67 ?_
        refine lv_iload hx hb d_M15_70 (lv_at hl 2 rfl) ?_
        refine lv_iload hx hb d_M15_72 (lv_at hl 0 rfl) ?_
        refine zj_i (x := (zb (bt (shf 7 V q) k))) (pc := 92) (ls := ls) (rest := [.int (nI k), .ref b4]) ?_ (fun J9 => ?_)
        · intro z hz9
          subst hz9
          refine zz_st hx hb hK hP (zd_of rfl hnd) hS 5 0 rfl rfl (j := k) (by omega) (by decide) d_M15_92 (fun H locs hP hS hz1 => ?_)
          have hP : va_P D zC (MW cZ mo b0 b1 b2 b3 b4 b5 er f0 f1 f2 f3 (zs (zfl f4 0 k (bt (shf 7 V q))) (k) (bt (shf 7 V q) k)) (zfl f5 0 k (bt (shf 7 N q)))) H := hP
          have hz : H.size = s.heap.size := hz1.trans hz
          clear hz1
          rw [zfl_s0] at hP
          refine lv_aload_n hx hb d_M15_93 rfl (lv_at hl 3 rfl) ?_
          refine zg_M S hK hP rfl 6 (by decide) zl_M6 rfl d_M15_94 ?_
          refine lv_iload hx hb d_M15_97 (lv_at hl 2 rfl) ?_
          refine lv_iload hx hb d_M15_99 (lv_at hl 0 rfl) ?_
          refine zj_i (x := (zb (bt (shf 7 N q) k))) (pc := 119) (ls := ls) (rest := [.int (nI k), .ref b5]) ?_ (fun J9 => ?_)
          · intro z hz9
            subst hz9
            refine zz_st hx hb hK hP (zd_of rfl hnd) hS 6 0 rfl rfl (j := k) (by omega) (by decide) d_M15_119 (fun H locs hP hS hz1 => ?_)
            have hP : va_P D zC (MW cZ mo b0 b1 b2 b3 b4 b5 er f0 f1 f2 f3 (zfl f4 0 (k + 1) (bt (shf 7 V q))) (zs (zfl f5 0 k (bt (shf 7 N q))) (k) (bt (shf 7 N q) k))) H := hP
            have hz : H.size = s.heap.size := hz1.trans hz
            clear hz1
            rw [zfl_s0] at hP
            refine lv_iinc (k := 2) (v := (nI (k + 1))) hx hb d_M15_120 hl rfl (zi_inc _) (by decide) rfl (fun ls hl => ?_)
            have hl : lv_has ls 8 [(5, .int (nI (k + 1))), (7, .int 1), (6, .int (nI (k + q))), (0, .ref mo), (1, .int (nI 7)), (2, .int (nI a)), (3, .int (nI b)), (4, .int (nI q))] := hl
            refine lv_goto (tgt := 3) hx hb d_M15_123 (by decide) ?_
            exact ih _ _ _ ⟨by omega, hz, hS, hP, lv_sub hl [0, 3, 4, 5, 6, 7] rfl⟩
          refine lv_if_eq (tgt := 118) hx hb d_M15_101 (by decide) (fun hc8 => absurd hc8 (by decide)) (fun hc8 => ?_)
          refine lv_aload_n hx hb d_M15_104 rfl (lv_at hl 3 rfl) ?_
          refine lv_iload_n hx hb d_M15_105 rfl (lv_at hl 5 rfl) ?_
          refine lv_iload hx hb d_M15_106 (lv_at hl 1 rfl) ?_
          refine zc_Vi (C := zc_M) S k_M47 (c_M10 l D cZ mo b0 b1 b2 b3 b4 b5 hnd er f0 f1 f2 f3 (zfl f4 0 (k + 1) (bt (shf 7 V q))) (zfl f5 0 k (bt (shf 7 N q))) a (k + q) ha (by omega)) rfl (mw_pre hK hP) ⟨Nat.le_of_ble_eq_true rfl, Nat.le_of_ble_eq_true rfl⟩ ⟨rfl, rfl⟩ rfl hl.1 rfl (Nat.le_of_ble_eq_true rfl) d_M15_108 ⟨Nat.zero_le _, Nat.zero_le _⟩ ?_
          rw [hN (k + q) (by omega), shf_7 N hq9 hk2 hin]
          refine lv_if_eq (tgt := 118) hx hb d_M15_111 (by decide) (fun hc9 => ?_) (fun hc9 => ?_)
          · refine lv_iconst (v := 0) hx hb d_M15_118 (by decide) ?_
            exact J9 _ ((zb_0 _).mp hc9 ▸ rfl)
          · refine lv_iconst (v := 1) hx hb d_M15_114 (by decide) ?_
            refine lv_goto (tgt := 119) hx hb d_M15_115 (by decide) ?_
            exact J9 _ (by rw [show bt (shf 7 N q) k = true by simpa using mt (zb_0 _).mpr hc9]; rfl)
        refine lv_if_eq (tgt := 91) hx hb d_M15_74 (by decide) (fun hc8 => absurd hc8 (by decide)) (fun hc8 => ?_)
        refine lv_aload_n hx hb d_M15_77 rfl (lv_at hl 3 rfl) ?_
        refine lv_iload_n hx hb d_M15_78 rfl (lv_at hl 5 rfl) ?_
        refine lv_iload hx hb d_M15_79 (lv_at hl 1 rfl) ?_
        refine zc_Vi (C := zc_M) S k_M51 (c_M9 l D cZ mo b0 b1 b2 b3 b4 b5 hnd er f0 f1 f2 f3 (zfl f4 0 k (bt (shf 7 V q))) (zfl f5 0 k (bt (shf 7 N q))) a (k + q) ha (by omega)) rfl (mw_pre hK hP) ⟨Nat.le_of_ble_eq_true rfl, Nat.le_of_ble_eq_true rfl⟩ ⟨rfl, rfl⟩ rfl hl.1 rfl (Nat.le_of_ble_eq_true rfl) d_M15_81 ⟨Nat.zero_le _, Nat.zero_le _⟩ ?_
        rw [hV (k + q) (by omega), shf_7 V hq9 hk2 hin]
        refine lv_if_eq (tgt := 91) hx hb d_M15_84 (by decide) (fun hc9 => ?_) (fun hc9 => ?_)
        · refine lv_iconst (v := 0) hx hb d_M15_91 (by decide) ?_
          exact J9 _ ((zb_0 _).mp hc9 ▸ rfl)
        · refine lv_iconst (v := 1) hx hb d_M15_87 (by decide) ?_
          refine lv_goto (tgt := 92) hx hb d_M15_88 (by decide) ?_
          exact J9 _ (by rw [show bt (shf 7 V q) k = true by simpa using mt (zb_0 _).mpr hc9]; rfl)
      · refine lv_topi (fun zz ez => ?_)
        obtain rfl : zz = (nI (k + q)) := ez.trans (nI_add _ _)
        refine lv_istore hx hb d_M15_28 hl (by decide) rfl (fun ls hl => ?_)
        have hl : lv_has ls 8 [(6, .int (nI (k + q))), (5, .int (nI k)), (0, .ref mo), (1, .int (nI 7)), (2, .int (nI a)), (3, .int (nI b)), (4, .int (nI q))] := hl
        refine lv_iload_n hx hb d_M15_30 rfl (lv_at hl 3 rfl) ?_
        refine lv_bipush (v := 7) hx hb d_M15_31 (by decide) ?_
        refine lv_icmp_ne (tgt := 47) hx hb d_M15_33 (by decide) (fun hc4 => absurd rfl hc4) (fun hc4 => ?_)
        refine lv_iload hx hb d_M15_36 (lv_at hl 0 rfl) ?_
        refine lv_bipush (v := 31) hx hb d_M15_38 (by decide) ?_
        refine lv_icmp_le (tgt := 47) hx hb d_M15_40 (by decide) (fun hc5 => absurd hc5 (nI_ge (a := 31) (by omega) (by omega))) (fun hc5 => ?_)
        refine lv_bipush (v := 31) hx hb d_M15_43 (by decide) ?_
        refine lv_istore hx hb d_M15_45 hl (by decide) rfl (fun ls hl => ?_)
        have hl : lv_has ls 8 [(6, .int 31), (5, .int (nI k)), (0, .ref mo), (1, .int (nI 7)), (2, .int (nI a)), (3, .int (nI b)), (4, .int (nI q))] := hl
        refine lv_iload hx hb d_M15_47 (lv_at hl 0 rfl) ?_
        refine lv_if_lt (tgt := 63) hx hb d_M15_49 (by decide) (fun hc6 => absurd hc6 (by decide)) (fun hc6 => ?_)
        refine lv_iload hx hb d_M15_52 (lv_at hl 0 rfl) ?_
        refine lv_bipush (v := 32) hx hb d_M15_54 (by decide) ?_
        refine lv_icmp_ge (tgt := 63) hx hb d_M15_56 (by decide) (fun hc7 => absurd hc7 (by decide)) (fun hc7 => ?_)
        refine lv_iconst (v := 1) hx hb d_M15_59 (by decide) ?_
        refine lv_goto (tgt := 64) hx hb d_M15_60 (by decide) ?_
        refine lv_istore hx hb d_M15_64 hl (by decide) rfl (fun ls hl => ?_)
        have hl : lv_has ls 8 [(7, .int 1), (6, .int 31), (5, .int (nI k)), (0, .ref mo), (1, .int (nI 7)), (2, .int (nI a)), (3, .int (nI b)), (4, .int (nI q))] := hl
        refine lv_aload_n hx hb d_M15_66 rfl (lv_at hl 3 rfl) ?_
        refine zg_M S hK hP rfl 5 (by decide) zl_M5 rfl d_M15_67 ?_
        refine lv_iload hx hb d_M15_70 (lv_at hl 2 rfl) ?_
        refine lv_iload hx hb d_M15_72 (lv_at hl 0 rfl) ?_
        refine zj_i (x := (zb (bt (shf 7 V q) k))) (pc := 92) (ls := ls) (rest := [.int (nI k), .ref b4]) ?_ (fun J9 => ?_)
        · intro z hz9
          subst hz9
          refine zz_st hx hb hK hP (zd_of rfl hnd) hS 5 0 rfl rfl (j := k) (by omega) (by decide) d_M15_92 (fun H locs hP hS hz1 => ?_)
          have hP : va_P D zC (MW cZ mo b0 b1 b2 b3 b4 b5 er f0 f1 f2 f3 (zs (zfl f4 0 k (bt (shf 7 V q))) (k) (bt (shf 7 V q) k)) (zfl f5 0 k (bt (shf 7 N q)))) H := hP
          have hz : H.size = s.heap.size := hz1.trans hz
          clear hz1
          rw [zfl_s0] at hP
          refine lv_aload_n hx hb d_M15_93 rfl (lv_at hl 3 rfl) ?_
          refine zg_M S hK hP rfl 6 (by decide) zl_M6 rfl d_M15_94 ?_
          refine lv_iload hx hb d_M15_97 (lv_at hl 2 rfl) ?_
          refine lv_iload hx hb d_M15_99 (lv_at hl 0 rfl) ?_
          refine zj_i (x := (zb (bt (shf 7 N q) k))) (pc := 119) (ls := ls) (rest := [.int (nI k), .ref b5]) ?_ (fun J9 => ?_)
          · intro z hz9
            subst hz9
            refine zz_st hx hb hK hP (zd_of rfl hnd) hS 6 0 rfl rfl (j := k) (by omega) (by decide) d_M15_119 (fun H locs hP hS hz1 => ?_)
            have hP : va_P D zC (MW cZ mo b0 b1 b2 b3 b4 b5 er f0 f1 f2 f3 (zfl f4 0 (k + 1) (bt (shf 7 V q))) (zs (zfl f5 0 k (bt (shf 7 N q))) (k) (bt (shf 7 N q) k))) H := hP
            have hz : H.size = s.heap.size := hz1.trans hz
            clear hz1
            rw [zfl_s0] at hP
            refine lv_iinc (k := 2) (v := (nI (k + 1))) hx hb d_M15_120 hl rfl (zi_inc _) (by decide) rfl (fun ls hl => ?_)
            have hl : lv_has ls 8 [(5, .int (nI (k + 1))), (7, .int 1), (6, .int 31), (0, .ref mo), (1, .int (nI 7)), (2, .int (nI a)), (3, .int (nI b)), (4, .int (nI q))] := hl
            refine lv_goto (tgt := 3) hx hb d_M15_123 (by decide) ?_
            exact ih _ _ _ ⟨by omega, hz, hS, hP, lv_sub hl [0, 3, 4, 5, 6, 7] rfl⟩
          refine lv_if_eq (tgt := 118) hx hb d_M15_101 (by decide) (fun hc8 => absurd hc8 (by decide)) (fun hc8 => ?_)
          refine lv_aload_n hx hb d_M15_104 rfl (lv_at hl 3 rfl) ?_
          refine lv_iload_n hx hb d_M15_105 rfl (lv_at hl 5 rfl) ?_
          refine lv_iload hx hb d_M15_106 (lv_at hl 1 rfl) ?_
          refine zc_Vi (C := zc_M) S k_M47 (c_M10 l D cZ mo b0 b1 b2 b3 b4 b5 hnd er f0 f1 f2 f3 (zfl f4 0 (k + 1) (bt (shf 7 V q))) (zfl f5 0 k (bt (shf 7 N q))) a (31) ha (by decide)) rfl (mw_pre hK hP) ⟨Nat.le_of_ble_eq_true rfl, Nat.le_of_ble_eq_true rfl⟩ ⟨rfl, rfl⟩ rfl hl.1 rfl (Nat.le_of_ble_eq_true rfl) d_M15_108 ⟨Nat.zero_le _, Nat.zero_le _⟩ ?_
          rw [hN (31) (by decide), shf_7c N hq9 hk2 hin]
          refine lv_if_eq (tgt := 118) hx hb d_M15_111 (by decide) (fun hc9 => ?_) (fun hc9 => ?_)
          · refine lv_iconst (v := 0) hx hb d_M15_118 (by decide) ?_
            exact J9 _ ((zb_0 _).mp hc9 ▸ rfl)
          · refine lv_iconst (v := 1) hx hb d_M15_114 (by decide) ?_
            refine lv_goto (tgt := 119) hx hb d_M15_115 (by decide) ?_
            exact J9 _ (by rw [show bt (shf 7 N q) k = true by simpa using mt (zb_0 _).mpr hc9]; rfl)
        refine lv_if_eq (tgt := 91) hx hb d_M15_74 (by decide) (fun hc8 => absurd hc8 (by decide)) (fun hc8 => ?_)
        refine lv_aload_n hx hb d_M15_77 rfl (lv_at hl 3 rfl) ?_
        refine lv_iload_n hx hb d_M15_78 rfl (lv_at hl 5 rfl) ?_
        refine lv_iload hx hb d_M15_79 (lv_at hl 1 rfl) ?_
        refine zc_Vi (C := zc_M) S k_M51 (c_M9 l D cZ mo b0 b1 b2 b3 b4 b5 hnd er f0 f1 f2 f3 (zfl f4 0 k (bt (shf 7 V q))) (zfl f5 0 k (bt (shf 7 N q))) a (31) ha (by decide)) rfl (mw_pre hK hP) ⟨Nat.le_of_ble_eq_true rfl, Nat.le_of_ble_eq_true rfl⟩ ⟨rfl, rfl⟩ rfl hl.1 rfl (Nat.le_of_ble_eq_true rfl) d_M15_81 ⟨Nat.zero_le _, Nat.zero_le _⟩ ?_
        rw [hV (31) (by decide), shf_7c V hq9 hk2 hin]
        refine lv_if_eq (tgt := 91) hx hb d_M15_84 (by decide) (fun hc9 => ?_) (fun hc9 => ?_)
        · refine lv_iconst (v := 0) hx hb d_M15_91 (by decide) ?_
          exact J9 _ ((zb_0 _).mp hc9 ▸ rfl)
        · refine lv_iconst (v := 1) hx hb d_M15_87 (by decide) ?_
          refine lv_goto (tgt := 92) hx hb d_M15_88 (by decide) ?_
          exact J9 _ (by rw [show bt (shf 7 V q) k = true by simpa using mt (zb_0 _).mpr hc9]; rfl)
set_option maxHeartbeats 4000000 in
set_option maxRecDepth 100000 in
theorem c_M17 (l : Launch) (D : va_G) (cZ : ClassId) (mo b0 b1 b2 b3 b4 b5 : Nat) (hnd : [mo, b0, b1, b2, b3, b4, b5].Nodup) (er : Int32) (f0 f1 f2 f3 f4 f5 : Nat → Bool) (d a b : Nat) (hd : d < 16) (ha : a < 16) (hb9 : b < 16) (V N Y B Z E : Int32) (hV : ∀ i, i < 32 → f0 (32 * a + i) = bt V i) (hN : ∀ i, i < 32 → f1 (32 * a + i) = bt N i) (hY : ∀ i, i < 32 → f0 (32 * b + i) = bt Y i) (hB9 : ∀ i, i < 32 → f1 (32 * b + i) = bt B i) (hZ : ∀ i, i < 32 → f0 (32 * d + i) = bt Z i) (hE : ∀ i, i < 32 → f1 (32 * d + i) = bt E i) : Met l y_M17 (zw (.code y_M17 b_M17 6 none)) (rmv 1 0 0) (va_Pc [.ref mo, .int (nI d), .int (nI a), .int (nI b)] (zp_W D (mT cZ) (MW cZ mo b0 b1 b2 b3 b4 b5 er f0 f1 f2 f3 f4 f5))) (zq_w (fun rv H => rv = none ∧ ∃ g4 g5 : Nat → Bool, (∀ i, i < 32 → g4 i = (bt (oV 12 V Y Z)) i) ∧ (∀ i, i < 32 → g5 i = (bt (oN 12 V Y N B Z E)) i) ∧ va_P D zC (MW cZ mo b0 b1 b2 b3 b4 b5 er f0 f1 f2 f3 g4 g5) H) (fun q => q ∈ [mo, b0, b1, b2, b3, b4, b5])) 0 0 (fun q => q ∈ [mo, b0, b1, b2, b3, b4, b5]) := by
  refine zm_met (b := b_M17) [.ref mo, .int (nI d), .int (nI a), .int (nI b)] zy_M (Nat.le_of_ble_eq_true rfl) ?_
  intro p e s m below meth c ls S hr hlk hnm hl hB
  obtain ⟨hx, hb, hml, hown, hts⟩ := id S
  have hl : lv_has ls 6 [(0, .ref mo), (1, .int (nI d)), (2, .int (nI a)), (3, .int (nI b))] := hl
  obtain ⟨hP, hK⟩ := hB
  have hS : va_S (fun q => q ∈ [mo, b0, b1, b2, b3, b4, b5]) s.heap s.heap [] := va_S.rf
  have hz : s.heap.size = s.heap.size := rfl
  refine lv_iconst (v := 0) hx hb d_M17_0 (by decide) ?_
  refine lv_istore hx hb d_M17_1 hl (by decide) rfl (fun ls hl => ?_)
  have hl : lv_has ls 6 [(4, .int 0), (0, .ref mo), (1, .int (nI d)), (2, .int (nI a)), (3, .int (nI b))] := hl
  refine zl_loop (fun k H locs ls => k ≤ 32 ∧ H.size = s.heap.size ∧ va_S (fun q => q ∈ [mo, b0, b1, b2, b3, b4, b5]) s.heap H locs ∧ va_P D zC (MW cZ mo b0 b1 b2 b3 b4 b5 er f0 f1 f2 f3 (zfl f4 0 k (bt (oV 12 V Y Z))) (zfl f5 0 k (bt (oN 12 V Y N B Z E)))) H ∧ lv_has ls 6 [(4, .int (nI k)), (0, .ref mo), (1, .int (nI d)), (2, .int (nI a)), (3, .int (nI b))]) 3 32 (fun k H locs ls h => h.1) ?_ 0 _ _ _ ⟨by omega, rfl, hS, by rw [zfl_0, zfl_0]; exact hP, hl⟩
  intro k H locs ls hI ih
  obtain ⟨hk, hz, hS, hP, hl⟩ := hI
  refine lv_iload hx hb d_M17_3 (lv_at hl 0 rfl) ?_
  refine lv_bipush (v := 32) hx hb d_M17_5 (by decide) ?_
  refine lv_icmp_ge (tgt := 136) hx hb d_M17_7 (by decide) (fun hc => ?_) (fun hc => ?_)
  · have hk2 := zi_ge 32 rfl hc hk (by decide)
    rw [hk2] at hP
    exact W.vret hx hb hr (fun t ht hW => zq_end hS hz ⟨rfl, _, _, fun i hi => zfl_at f4 32 _ hi, fun i hi => zfl_at f5 32 _ hi, hP⟩ ht) hS.2.2 d_M17_136
  · have hk2 := zi_lt 32 rfl hc hk (by decide)
    refine lv_aload_n hx hb d_M17_10 rfl (lv_at hl 1 rfl) ?_
    refine lv_iload_n hx hb d_M17_11 rfl (lv_at hl 4 rfl) ?_
    refine lv_iconst (v := 0) hx hb d_M17_12 (by decide) ?_
    refine zc_Vi (C := zc_M) S k_M51 (c_M9 l D cZ mo b0 b1 b2 b3 b4 b5 hnd er f0 f1 f2 f3 (zfl f4 0 k (bt (oV 12 V Y Z))) (zfl f5 0 k (bt (oN 12 V Y N B Z E))) b (0) hb9 (by decide)) rfl (mw_pre hK hP) ⟨Nat.le_of_ble_eq_true rfl, Nat.le_of_ble_eq_true rfl⟩ ⟨rfl, rfl⟩ rfl hl.1 rfl (Nat.le_of_ble_eq_true rfl) d_M17_13 ⟨Nat.zero_le _, Nat.zero_le _⟩ ?_
    rw [hY 0 (by decide)]
    refine lv_istore hx hb d_M17_16 hl (by decide) rfl (fun ls hl => ?_)
    have hl : lv_has ls 6 [(5, .int (zb (bt Y 0))), (4, .int (nI k)), (0, .ref mo), (1, .int (nI d)), (2, .int (nI a)), (3, .int (nI b))] := hl
    refine lv_aload_n hx hb d_M17_18 rfl (lv_at hl 2 rfl) ?_
    refine zg_M S hK hP rfl 5 (by decide) zl_M5 rfl d_M17_19 ?_
    refine lv_iload hx hb d_M17_22 (lv_at hl 1 rfl) ?_
    refine lv_iload hx hb d_M17_24 (lv_at hl 0 rfl) ?_
    refine zj_i (x := zb ((bt (oV 12 V Y Z)) k)) (pc := 46) (ls := ls) (rest := [.int (nI k), .ref b4]) ?_ (fun J => ?_)
    · intro z hz9
      subst hz9
      refine zz_st hx hb hK hP (zd_of rfl hnd) hS 5 0 rfl rfl (j := k) (by omega) (by decide) d_M17_46 (fun H locs hP hS hz1 => ?_)
      have hP : va_P D zC (MW cZ mo b0 b1 b2 b3 b4 b5 er f0 f1 f2 f3 (zs (zfl f4 0 k (bt (oV 12 V Y Z))) (k) ((bt (oV 12 V Y Z)) k)) (zfl f5 0 k (bt (oN 12 V Y N B Z E)))) H := hP
      have hz : H.size = s.heap.size := hz1.trans hz
      clear hz1
      rw [zfl_s0] at hP
      refine lv_aload_n hx hb d_M17_47 rfl (lv_at hl 2 rfl) ?_
      refine zg_M S hK hP rfl 6 (by decide) zl_M6 rfl d_M17_48 ?_
      refine lv_iload hx hb d_M17_51 (lv_at hl 1 rfl) ?_
      refine lv_aload_n hx hb d_M17_53 rfl (lv_at hl 2 rfl) ?_
      refine lv_iload_n hx hb d_M17_54 rfl (lv_at hl 5 rfl) ?_
      refine lv_iconst (v := 0) hx hb d_M17_55 (by decide) ?_
      refine zc_Vi (C := zc_M) S k_M47 (c_M10 l D cZ mo b0 b1 b2 b3 b4 b5 hnd er f0 f1 f2 f3 (zfl f4 0 (k + 1) (bt (oV 12 V Y Z))) (zfl f5 0 k (bt (oN 12 V Y N B Z E))) b (0) hb9 (by decide)) rfl (mw_pre hK hP) ⟨Nat.le_of_ble_eq_true rfl, Nat.le_of_ble_eq_true rfl⟩ ⟨rfl, rfl⟩ rfl hl.1 rfl (Nat.le_of_ble_eq_true rfl) d_M17_56 ⟨Nat.zero_le _, Nat.zero_le _⟩ ?_
      rw [hB9 0 (by decide)]
      refine zj_i (x := zb ((bt (oN 12 V Y N B Z E)) k)) (pc := 129) (ls := ls) (rest := [.int (nI k), .ref b5]) ?_ (fun J => ?_)
      · intro z hz9
        subst hz9
        refine zz_st hx hb hK hP (zd_of rfl hnd) hS 6 0 rfl rfl (j := k) (by omega) (by decide) d_M17_129 (fun H locs hP hS hz1 => ?_)
        have hP : va_P D zC (MW cZ mo b0 b1 b2 b3 b4 b5 er f0 f1 f2 f3 (zfl f4 0 (k + 1) (bt (oV 12 V Y Z))) (zs (zfl f5 0 k (bt (oN 12 V Y N B Z E))) (k) ((bt (oN 12 V Y N B Z E)) k))) H := hP
        have hz : H.size = s.heap.size := hz1.trans hz
        clear hz1
        rw [zfl_s0] at hP
        refine lv_iinc (k := 1) (v := (nI (k + 1))) hx hb d_M17_130 hl rfl (zi_inc _) (by decide) rfl (fun ls hl => ?_)
        have hl : lv_has ls 6 [(4, .int (nI (k + 1))), (5, .int (zb (bt Y 0))), (0, .ref mo), (1, .int (nI d)), (2, .int (nI a)), (3, .int (nI b))] := hl
        refine lv_goto (tgt := 3) hx hb d_M17_133 (by decide) ?_
        exact ih _ _ _ ⟨by omega, hz, hS, hP, lv_sub hl [0, 2, 3, 4, 5] rfl⟩
      refine lv_if_eq (tgt := 107) hx hb d_M17_59 (by decide) (fun h1 => ?_) (fun h1 => ?_)
      · have hB0 := (zb_0 _).mp h1
        refine lv_iload hx hb d_M17_107 (lv_at hl 0 rfl) ?_
        refine lv_if_eq (tgt := 122) hx hb d_M17_109 (by decide) (fun h2 => ?_) (fun h2 => ?_)
        · refine lv_aload_n hx hb d_M17_122 rfl (lv_at hl 2 rfl) ?_
          refine lv_iload_n hx hb d_M17_123 rfl (lv_at hl 3 rfl) ?_
          refine lv_iload hx hb d_M17_124 (lv_at hl 1 rfl) ?_
          refine zc_Vi (C := zc_M) S k_M47 (c_M10 l D cZ mo b0 b1 b2 b3 b4 b5 hnd er f0 f1 f2 f3 (zfl f4 0 (k + 1) (bt (oV 12 V Y Z))) (zfl f5 0 k (bt (oN 12 V Y N B Z E))) d (k) hd (hk2)) rfl (mw_pre hK hP) ⟨Nat.le_of_ble_eq_true rfl, Nat.le_of_ble_eq_true rfl⟩ ⟨rfl, rfl⟩ rfl hl.1 rfl (Nat.le_of_ble_eq_true rfl) d_M17_126 ⟨Nat.zero_le _, Nat.zero_le _⟩ ?_
          rw [hE k (hk2)]
          exact J _ (by rw [oN_12, on_12, hB0, (zb_0 _).mp h2]; rfl)
        · refine lv_aload_n hx hb d_M17_112 rfl (lv_at hl 2 rfl) ?_
          refine lv_iload_n hx hb d_M17_113 rfl (lv_at hl 4 rfl) ?_
          refine lv_iload hx hb d_M17_114 (lv_at hl 1 rfl) ?_
          refine zc_Vi (C := zc_M) S k_M47 (c_M10 l D cZ mo b0 b1 b2 b3 b4 b5 hnd er f0 f1 f2 f3 (zfl f4 0 (k + 1) (bt (oV 12 V Y Z))) (zfl f5 0 k (bt (oN 12 V Y N B Z E))) a (k) ha (hk2)) rfl (mw_pre hK hP) ⟨Nat.le_of_ble_eq_true rfl, Nat.le_of_ble_eq_true rfl⟩ ⟨rfl, rfl⟩ rfl hl.1 rfl (Nat.le_of_ble_eq_true rfl) d_M17_116 ⟨Nat.zero_le _, Nat.zero_le _⟩ ?_
          rw [hN k (hk2)]
          refine lv_goto (tgt := 129) hx hb d_M17_119 (by decide) ?_
          exact J _ (by rw [oN_12, on_12, hB0, show bt Y 0 = true by simpa using mt (zb_0 _).mpr h2]; rfl)
      · have hB0 : bt B 0 = true := by simpa using mt (zb_0 _).mpr h1
        refine lv_aload_n hx hb d_M17_62 rfl (lv_at hl 2 rfl) ?_
        refine lv_iload_n hx hb d_M17_63 rfl (lv_at hl 4 rfl) ?_
        refine lv_iload hx hb d_M17_64 (lv_at hl 1 rfl) ?_
        refine zc_Vi (C := zc_M) S k_M47 (c_M10 l D cZ mo b0 b1 b2 b3 b4 b5 hnd er f0 f1 f2 f3 (zfl f4 0 (k + 1) (bt (oV 12 V Y Z))) (zfl f5 0 k (bt (oN 12 V Y N B Z E))) a (k) ha (hk2)) rfl (mw_pre hK hP) ⟨Nat.le_of_ble_eq_true rfl, Nat.le_of_ble_eq_true rfl⟩ ⟨rfl, rfl⟩ rfl hl.1 rfl (Nat.le_of_ble_eq_true rfl) d_M17_66 ⟨Nat.zero_le _, Nat.zero_le _⟩ ?_
        rw [hN k (hk2)]
        refine lv_if_ne (tgt := 99) hx hb d_M17_69 (by decide) (fun h2 => ?_) (fun h2 => ?_)
        · refine lv_iconst (v := 1) hx hb d_M17_99 (by decide) ?_
          refine lv_goto (tgt := 129) hx hb d_M17_100 (by decide) ?_
          exact J _ (by rw [oN_12, on_12, hB0, if_pos rfl, show bt N k = true by simpa using mt (zb_0 _).mpr h2]; rfl)
        · refine lv_aload_n hx hb d_M17_72 rfl (lv_at hl 2 rfl) ?_
          refine lv_iload_n hx hb d_M17_73 rfl (lv_at hl 3 rfl) ?_
          refine lv_iload hx hb d_M17_74 (lv_at hl 1 rfl) ?_
          refine zc_Vi (C := zc_M) S k_M47 (c_M10 l D cZ mo b0 b1 b2 b3 b4 b5 hnd er f0 f1 f2 f3 (zfl f4 0 (k + 1) (bt (oV 12 V Y Z))) (zfl f5 0 k (bt (oN 12 V Y N B Z E))) d (k) hd (hk2)) rfl (mw_pre hK hP) ⟨Nat.le_of_ble_eq_true rfl, Nat.le_of_ble_eq_true rfl⟩ ⟨rfl, rfl⟩ rfl hl.1 rfl (Nat.le_of_ble_eq_true rfl) d_M17_76 ⟨Nat.zero_le _, Nat.zero_le _⟩ ?_
          rw [hE k (hk2)]
          refine lv_if_ne (tgt := 99) hx hb d_M17_79 (by decide) (fun h3 => ?_) (fun h3 => ?_)
          · refine lv_iconst (v := 1) hx hb d_M17_99 (by decide) ?_
            refine lv_goto (tgt := 129) hx hb d_M17_100 (by decide) ?_
            exact J _ (by rw [oN_12, on_12, hB0, if_pos rfl, (zb_0 _).mp h2, show bt E k = true by simpa using mt (zb_0 _).mpr h3]; rfl)
          · refine lv_aload_n hx hb d_M17_82 rfl (lv_at hl 2 rfl) ?_
            refine lv_iload_n hx hb d_M17_83 rfl (lv_at hl 4 rfl) ?_
            refine lv_iload hx hb d_M17_84 (lv_at hl 1 rfl) ?_
            refine zc_Vi (C := zc_M) S k_M51 (c_M9 l D cZ mo b0 b1 b2 b3 b4 b5 hnd er f0 f1 f2 f3 (zfl f4 0 (k + 1) (bt (oV 12 V Y Z))) (zfl f5 0 k (bt (oN 12 V Y N B Z E))) a (k) ha (hk2)) rfl (mw_pre hK hP) ⟨Nat.le_of_ble_eq_true rfl, Nat.le_of_ble_eq_true rfl⟩ ⟨rfl, rfl⟩ rfl hl.1 rfl (Nat.le_of_ble_eq_true rfl) d_M17_86 ⟨Nat.zero_le _, Nat.zero_le _⟩ ?_
            rw [hV k (hk2)]
            refine lv_aload_n hx hb d_M17_89 rfl (lv_at hl 2 rfl) ?_
            refine lv_iload_n hx hb d_M17_90 rfl (lv_at hl 3 rfl) ?_
            refine lv_iload hx hb d_M17_91 (lv_at hl 1 rfl) ?_
            refine zc_Vi (C := zc_M) S k_M51 (c_M9 l D cZ mo b0 b1 b2 b3 b4 b5 hnd er f0 f1 f2 f3 (zfl f4 0 (k + 1) (bt (oV 12 V Y Z))) (zfl f5 0 k (bt (oN 12 V Y N B Z E))) d (k) hd (hk2)) rfl (mw_pre hK hP) ⟨Nat.le_of_ble_eq_true rfl, Nat.le_of_ble_eq_true rfl⟩ ⟨rfl, rfl⟩ rfl hl.1 rfl (Nat.le_of_ble_eq_true rfl) d_M17_93 ⟨Nat.zero_le _, Nat.zero_le _⟩ ?_
            rw [hZ k (hk2)]
            refine lv_icmp_eq (tgt := 103) hx hb d_M17_96 (by decide) (fun h4 => ?_) (fun h4 => ?_)
            · refine lv_iconst (v := 0) hx hb d_M17_103 (by decide) ?_
              refine lv_goto (tgt := 129) hx hb d_M17_104 (by decide) ?_
              exact J _ (by rw [oN_12, on_12, hB0, if_pos rfl, (zb_0 _).mp h2, (zb_0 _).mp h3, zb_inj.mp h4]; cases bt Z k <;> rfl)
            · refine lv_iconst (v := 1) hx hb d_M17_99 (by decide) ?_
              refine lv_goto (tgt := 129) hx hb d_M17_100 (by decide) ?_
              exact J _ (by rw [oN_12, on_12, hB0, if_pos rfl, (zb_0 _).mp h2, (zb_0 _).mp h3]; have h5 := mt zb_inj.mpr h4; revert h5; cases bt V k <;> cases bt Z k <;> decide)
    refine lv_if_eq (tgt := 39) hx hb d_M17_26 (by decide) (fun h1 => ?_) (fun h1 => ?_)
    · refine lv_aload_n hx hb d_M17_39 rfl (lv_at hl 2 rfl) ?_
      refine lv_iload_n hx hb d_M17_40 rfl (lv_at hl 3 rfl) ?_
      refine lv_iload hx hb d_M17_41 (lv_at hl 1 rfl) ?_
      refine zc_Vi (C := zc_M) S k_M51 (c_M9 l D cZ mo b0 b1 b2 b3 b4 b5 hnd er f0 f1 f2 f3 (zfl f4 0 k (bt (oV 12 V Y Z))) (zfl f5 0 k (bt (oN 12 V Y N B Z E))) d (k) hd (hk2)) rfl (mw_pre hK hP) ⟨Nat.le_of_ble_eq_true rfl, Nat.le_of_ble_eq_true rfl⟩ ⟨rfl, rfl⟩ rfl hl.1 rfl (Nat.le_of_ble_eq_true rfl) d_M17_43 ⟨Nat.zero_le _, Nat.zero_le _⟩ ?_
      rw [hZ k (hk2)]
      exact J _ (by rw [oV_12, (zb_0 _).mp h1]; rfl)
    · refine lv_aload_n hx hb d_M17_29 rfl (lv_at hl 2 rfl) ?_
      refine lv_iload_n hx hb d_M17_30 rfl (lv_at hl 4 rfl) ?_
      refine lv_iload hx hb d_M17_31 (lv_at hl 1 rfl) ?_
      refine zc_Vi (C := zc_M) S k_M51 (c_M9 l D cZ mo b0 b1 b2 b3 b4 b5 hnd er f0 f1 f2 f3 (zfl f4 0 k (bt (oV 12 V Y Z))) (zfl f5 0 k (bt (oN 12 V Y N B Z E))) a (k) ha (hk2)) rfl (mw_pre hK hP) ⟨Nat.le_of_ble_eq_true rfl, Nat.le_of_ble_eq_true rfl⟩ ⟨rfl, rfl⟩ rfl hl.1 rfl (Nat.le_of_ble_eq_true rfl) d_M17_33 ⟨Nat.zero_le _, Nat.zero_le _⟩ ?_
      rw [hV k (hk2)]
      refine lv_goto (tgt := 46) hx hb d_M17_36 (by decide) ?_
      exact J _ (by rw [oV_12, show bt Y 0 = true by simpa using mt (zb_0 _).mpr h1]; rfl)
end
section
set_option maxHeartbeats 4000000 in
set_option maxRecDepth 100000 in
theorem c_M14a (l : Launch) (D : va_G) (cZ : ClassId) (mo b0 b1 b2 b3 b4 b5 : Nat) (hnd : [mo, b0, b1, b2, b3, b4, b5].Nodup) (er : Int32) (v n : Nat → Int32) (f2 f3 f4 f5 : Nat → Bool) (o9 d a b : Int32) (h9 : o9 < 0 ∨ nI 13 ≤ o9) : Met l y_M14 (zw (.code y_M14 b_M14 11 none)) (rmv 2 0 0) (va_Pc [.ref mo, .int o9, .int d, .int a, .int b] (zp_W D (mT cZ) (MW cZ mo b0 b1 b2 b3 b4 b5 er (zr v) (zr n) f2 f3 f4 f5))) (zq_w (fun rv H => rv = none ∧ ∃ g4 g5 : Nat → Bool, va_P D zC (MW cZ mo b0 b1 b2 b3 b4 b5 1 (zr v) (zr n) f2 f3 g4 g5) H) (fun q => q ∈ [mo, b0, b1, b2, b3, b4, b5])) 0 0 (fun q => q ∈ [mo, b0, b1, b2, b3, b4, b5]) := by
  refine zm_met (b := b_M14) [.ref mo, .int o9, .int d, .int a, .int b] zy_M (Nat.le_of_ble_eq_true rfl) ?_
  intro p e s m below meth c ls S hr hlk hnm hl hB
  obtain ⟨hx, hb, hml, hown, hts⟩ := id S
  have hl : lv_has ls 11 [(0, .ref mo), (1, .int o9), (2, .int d), (3, .int a), (4, .int b)] := hl
  obtain ⟨hP, hK⟩ := hB
  have hS : va_S (fun q => q ∈ [mo, b0, b1, b2, b3, b4, b5]) s.heap s.heap [] := va_S.rf
  have hz : s.heap.size = s.heap.size := rfl
  refine lv_aload_n hx hb d_M14_0 rfl (lv_at hl 0 rfl) ?_
  refine lv_iload_n hx hb d_M14_1 rfl (lv_at hl 1 rfl) ?_
  refine lv_if_lt (tgt := 11) hx hb d_M14_2 (by decide) (fun h1 => ?_) (fun h1 => ?_)
  · refine lv_iconst (v := 1) hx hb d_M14_11 (by decide) ?_
    refine lv_goto (tgt := 16) hx hb d_M14_12 (by decide) ?_
    refine lv_iconst (v := 1) hx hb d_M14_16 (by decide) ?_
    refine zc_Vw (C := zc_M) S k_M36 (c_M3 l D cZ mo b0 b1 b2 b3 b4 b5 hnd er (zr v) (zr n) f2 f3 f4 f5 true 1) rfl (mw_pre hK hP) ⟨Nat.le_of_ble_eq_true rfl, Nat.le_of_ble_eq_true rfl⟩ ⟨rfl, rfl⟩ rfl hl.1 rfl (Nat.le_of_ble_eq_true rfl) d_M14_17 ⟨Nat.zero_le _, Nat.zero_le _⟩ hS (fun rv H locs hq hz1 hS => ?_)
    obtain ⟨rfl, hP⟩ := hq
    have hP : va_P D zC (MW cZ mo b0 b1 b2 b3 b4 b5 1 (zr v) (zr n) f2 f3 f4 f5) H := hP
    have hz : H.size = s.heap.size := hz1.trans hz
    clear hz1
    refine lv_if_eq (tgt := 24) hx hb d_M14_20 (by decide) (fun hq => absurd hq (by decide)) (fun hq => ?_)
    exact W.vret hx hb hr (fun t ht hW => zq_end hS hz ⟨rfl, f4, f5, hP⟩ ht) hS.2.2 d_M14_23
  · refine lv_iload_n hx hb d_M14_5 rfl (lv_at hl 1 rfl) ?_
    refine lv_bipush (v := 12) hx hb d_M14_6 (by decide) ?_
    refine lv_icmp_le (tgt := 15) hx hb d_M14_8 (by decide) (fun h2 => ?_) (fun h2 => ?_)
    · exact absurd h2 (zi_13 (h9.resolve_left h1))
    · refine lv_iconst (v := 1) hx hb d_M14_11 (by decide) ?_
      refine lv_goto (tgt := 16) hx hb d_M14_12 (by decide) ?_
      refine lv_iconst (v := 1) hx hb d_M14_16 (by decide) ?_
      refine zc_Vw (C := zc_M) S k_M36 (c_M3 l D cZ mo b0 b1 b2 b3 b4 b5 hnd er (zr v) (zr n) f2 f3 f4 f5 true 1) rfl (mw_pre hK hP) ⟨Nat.le_of_ble_eq_true rfl, Nat.le_of_ble_eq_true rfl⟩ ⟨rfl, rfl⟩ rfl hl.1 rfl (Nat.le_of_ble_eq_true rfl) d_M14_17 ⟨Nat.zero_le _, Nat.zero_le _⟩ hS (fun rv H locs hq hz1 hS => ?_)
      obtain ⟨rfl, hP⟩ := hq
      have hP : va_P D zC (MW cZ mo b0 b1 b2 b3 b4 b5 1 (zr v) (zr n) f2 f3 f4 f5) H := hP
      have hz : H.size = s.heap.size := hz1.trans hz
      clear hz1
      refine lv_if_eq (tgt := 24) hx hb d_M14_20 (by decide) (fun hq => absurd hq (by decide)) (fun hq => ?_)
      exact W.vret hx hb hr (fun t ht hW => zq_end hS hz ⟨rfl, f4, f5, hP⟩ ht) hS.2.2 d_M14_23
set_option maxHeartbeats 4000000 in
set_option maxRecDepth 100000 in
theorem c_M14b (l : Launch) (D : va_G) (cZ : ClassId) (mo b0 b1 b2 b3 b4 b5 : Nat) (hnd : [mo, b0, b1, b2, b3, b4, b5].Nodup) (er : Int32) (v n : Nat → Int32) (f2 f3 f4 f5 : Nat → Bool) (op : Nat) (d a b : Int32) (hop : op < 13) (h9 : (zk_16 d && zk_16 a && zk_16 b) = false) : Met l y_M14 (zw (.code y_M14 b_M14 11 none)) (rmv 2 0 0) (va_Pc [.ref mo, .int (nI op), .int d, .int a, .int b] (zp_W D (mT cZ) (MW cZ mo b0 b1 b2 b3 b4 b5 er (zr v) (zr n) f2 f3 f4 f5))) (zq_w (fun rv H => rv = none ∧ ∃ g4 g5 : Nat → Bool, va_P D zC (MW cZ mo b0 b1 b2 b3 b4 b5 2 (zr v) (zr n) f2 f3 g4 g5) H) (fun q => q ∈ [mo, b0, b1, b2, b3, b4, b5])) 0 0 (fun q => q ∈ [mo, b0, b1, b2, b3, b4, b5]) := by
  refine zm_met (b := b_M14) [.ref mo, .int (nI op), .int d, .int a, .int b] zy_M (Nat.le_of_ble_eq_true rfl) ?_
  intro p e s m below meth c ls S hr hlk hnm hl hB
  obtain ⟨hx, hb, hml, hown, hts⟩ := id S
  have hl : lv_has ls 11 [(0, .ref mo), (1, .int (nI op)), (2, .int d), (3, .int a), (4, .int b)] := hl
  obtain ⟨hP, hK⟩ := hB
  have hS : va_S (fun q => q ∈ [mo, b0, b1, b2, b3, b4, b5]) s.heap s.heap [] := va_S.rf
  have hz : s.heap.size = s.heap.size := rfl
  refine lv_aload_n hx hb d_M14_0 rfl (lv_at hl 0 rfl) ?_
  refine lv_iload_n hx hb d_M14_1 rfl (lv_at hl 1 rfl) ?_
  refine lv_if_lt (tgt := 11) hx hb d_M14_2 (by decide) (fun hq => absurd hq (nI_pos (by omega))) (fun hq => ?_)
  refine lv_iload_n hx hb d_M14_5 rfl (lv_at hl 1 rfl) ?_
  refine lv_bipush (v := 12) hx hb d_M14_6 (by decide) ?_
  refine lv_icmp_le (tgt := 15) hx hb d_M14_8 (by decide) (fun hq => ?_) (fun hq => absurd (nI_le (b := 12) (by omega) (by decide)) hq)
  refine lv_iconst (v := 0) hx hb d_M14_15 (by decide) ?_
  refine lv_iconst (v := 1) hx hb d_M14_16 (by decide) ?_
  refine zc_Vw (C := zc_M) S k_M36 (c_M3 l D cZ mo b0 b1 b2 b3 b4 b5 hnd er (zr v) (zr n) f2 f3 f4 f5 false 1) rfl (mw_pre hK hP) ⟨Nat.le_of_ble_eq_true rfl, Nat.le_of_ble_eq_true rfl⟩ ⟨rfl, rfl⟩ rfl hl.1 rfl (Nat.le_of_ble_eq_true rfl) d_M14_17 ⟨Nat.zero_le _, Nat.zero_le _⟩ hS (fun rv H locs hq hz1 hS => ?_)
  obtain ⟨rfl, hP⟩ := hq
  have hP : va_P D zC (MW cZ mo b0 b1 b2 b3 b4 b5 0 (zr v) (zr n) f2 f3 f4 f5) H := hP
  have hz : H.size = s.heap.size := hz1.trans hz
  clear hz1
  refine lv_if_eq (tgt := 24) hx hb d_M14_20 (by decide) (fun hq => ?_) (fun hq => absurd rfl hq)
  refine lv_aload_n hx hb d_M14_24 rfl (lv_at hl 0 rfl) ?_
  refine lv_iload_n hx hb d_M14_25 rfl (lv_at hl 2 rfl) ?_
  refine zc_Si S k_M32 (c_M4 l d) zp_S ⟨Nat.le_of_ble_eq_true rfl, Nat.le_of_ble_eq_true rfl⟩ ⟨rfl, rfl⟩ rfl hl.1 rfl (Nat.le_of_ble_eq_true rfl) d_M14_26 ⟨Nat.zero_le _, Nat.zero_le _⟩ ?_
  refine lv_if_ne (tgt := 47) hx hb d_M14_29 (by decide) (fun hd => ?_) (fun hd => ?_)
  · refine lv_iconst (v := 1) hx hb d_M14_47 (by decide) ?_
    refine lv_goto (tgt := 52) hx hb d_M14_48 (by decide) ?_
    refine lv_iconst (v := 2) hx hb d_M14_52 (by decide) ?_
    refine zc_Vw (C := zc_M) S k_M36 (c_M3 l D cZ mo b0 b1 b2 b3 b4 b5 hnd 0 (zr v) (zr n) f2 f3 f4 f5 true 2) rfl (mw_pre hK hP) ⟨Nat.le_of_ble_eq_true rfl, Nat.le_of_ble_eq_true rfl⟩ ⟨rfl, rfl⟩ rfl hl.1 rfl (Nat.le_of_ble_eq_true rfl) d_M14_53 ⟨Nat.zero_le _, Nat.zero_le _⟩ hS (fun rv H locs hq hz1 hS => ?_)
    obtain ⟨rfl, hP⟩ := hq
    have hP : va_P D zC (MW cZ mo b0 b1 b2 b3 b4 b5 2 (zr v) (zr n) f2 f3 f4 f5) H := hP
    have hz : H.size = s.heap.size := hz1.trans hz
    clear hz1
    refine lv_if_eq (tgt := 60) hx hb d_M14_56 (by decide) (fun hq => absurd hq (by decide)) (fun hq => ?_)
    exact W.vret hx hb hr (fun t ht hW => zq_end hS hz ⟨rfl, f4, f5, hP⟩ ht) hS.2.2 d_M14_59
  · refine lv_iload_n hx hb d_M14_32 rfl (lv_at hl 3 rfl) ?_
    refine zc_Si S k_M32 (c_M4 l a) zp_S ⟨Nat.le_of_ble_eq_true rfl, Nat.le_of_ble_eq_true rfl⟩ ⟨rfl, rfl⟩ rfl hl.1 rfl (Nat.le_of_ble_eq_true rfl) d_M14_33 ⟨Nat.zero_le _, Nat.zero_le _⟩ ?_
    refine lv_if_ne (tgt := 47) hx hb d_M14_36 (by decide) (fun ha => ?_) (fun ha => ?_)
    · refine lv_iconst (v := 1) hx hb d_M14_47 (by decide) ?_
      refine lv_goto (tgt := 52) hx hb d_M14_48 (by decide) ?_
      refine lv_iconst (v := 2) hx hb d_M14_52 (by decide) ?_
      refine zc_Vw (C := zc_M) S k_M36 (c_M3 l D cZ mo b0 b1 b2 b3 b4 b5 hnd 0 (zr v) (zr n) f2 f3 f4 f5 true 2) rfl (mw_pre hK hP) ⟨Nat.le_of_ble_eq_true rfl, Nat.le_of_ble_eq_true rfl⟩ ⟨rfl, rfl⟩ rfl hl.1 rfl (Nat.le_of_ble_eq_true rfl) d_M14_53 ⟨Nat.zero_le _, Nat.zero_le _⟩ hS (fun rv H locs hq hz1 hS => ?_)
      obtain ⟨rfl, hP⟩ := hq
      have hP : va_P D zC (MW cZ mo b0 b1 b2 b3 b4 b5 2 (zr v) (zr n) f2 f3 f4 f5) H := hP
      have hz : H.size = s.heap.size := hz1.trans hz
      clear hz1
      refine lv_if_eq (tgt := 60) hx hb d_M14_56 (by decide) (fun hq => absurd hq (by decide)) (fun hq => ?_)
      exact W.vret hx hb hr (fun t ht hW => zq_end hS hz ⟨rfl, f4, f5, hP⟩ ht) hS.2.2 d_M14_59
    · refine lv_iload hx hb d_M14_39 (lv_at hl 4 rfl) ?_
      refine zc_Si S k_M32 (c_M4 l b) zp_S ⟨Nat.le_of_ble_eq_true rfl, Nat.le_of_ble_eq_true rfl⟩ ⟨rfl, rfl⟩ rfl hl.1 rfl (Nat.le_of_ble_eq_true rfl) d_M14_41 ⟨Nat.zero_le _, Nat.zero_le _⟩ ?_
      refine lv_if_eq (tgt := 51) hx hb d_M14_44 (by decide) (fun hb9 => ?_) (fun hb9 => ?_)
      · exact absurd h9 (by rw [show zk_16 d = true by simpa using (zb_0 _).mp hd, show zk_16 a = true by simpa using (zb_0 _).mp ha, show zk_16 b = true by simpa using (zb_0 _).mp hb9]; decide)
      · refine lv_iconst (v := 1) hx hb d_M14_47 (by decide) ?_
        refine lv_goto (tgt := 52) hx hb d_M14_48 (by decide) ?_
        refine lv_iconst (v := 2) hx hb d_M14_52 (by decide) ?_
        refine zc_Vw (C := zc_M) S k_M36 (c_M3 l D cZ mo b0 b1 b2 b3 b4 b5 hnd 0 (zr v) (zr n) f2 f3 f4 f5 true 2) rfl (mw_pre hK hP) ⟨Nat.le_of_ble_eq_true rfl, Nat.le_of_ble_eq_true rfl⟩ ⟨rfl, rfl⟩ rfl hl.1 rfl (Nat.le_of_ble_eq_true rfl) d_M14_53 ⟨Nat.zero_le _, Nat.zero_le _⟩ hS (fun rv H locs hq hz1 hS => ?_)
        obtain ⟨rfl, hP⟩ := hq
        have hP : va_P D zC (MW cZ mo b0 b1 b2 b3 b4 b5 2 (zr v) (zr n) f2 f3 f4 f5) H := hP
        have hz : H.size = s.heap.size := hz1.trans hz
        clear hz1
        refine lv_if_eq (tgt := 60) hx hb d_M14_56 (by decide) (fun hq => absurd hq (by decide)) (fun hq => ?_)
        exact W.vret hx hb hr (fun t ht hW => zq_end hS hz ⟨rfl, f4, f5, hP⟩ ht) hS.2.2 d_M14_59
set_option maxHeartbeats 4000000 in
set_option maxRecDepth 100000 in
theorem c_M14 (l : Launch) (D : va_G) (cZ : ClassId) (mo b0 b1 b2 b3 b4 b5 : Nat) (hnd : [mo, b0, b1, b2, b3, b4, b5].Nodup) (er : Int32) (v n : Nat → Int32) (f2 f3 f4 f5 : Nat → Bool) (op d a b : Nat) (hop : op < 13) (hd : d < 16) (ha : a < 16) (hb9 : b < 16) : Met l y_M14 (zw (.code y_M14 b_M14 11 none)) (rmv 2 0 0) (va_Pc [.ref mo, .int (nI op), .int (nI d), .int (nI a), .int (nI b)] (zp_W D (mT cZ) (MW cZ mo b0 b1 b2 b3 b4 b5 er (zr v) (zr n) f2 f3 f4 f5))) (zq_w (fun rv H => rv = none ∧ ∃ g4 g5 : Nat → Bool, va_P D zC (MW cZ mo b0 b1 b2 b3 b4 b5 0 (zr (zs v d (oV op (v a) (v b) (v d)))) (zr (zs n d (oN op (v a) (v b) (n a) (n b) (v d) (n d)))) f2 f3 g4 g5) H) (fun q => q ∈ [mo, b0, b1, b2, b3, b4, b5])) 0 0 (fun q => q ∈ [mo, b0, b1, b2, b3, b4, b5]) := by
  refine zm_met (b := b_M14) [.ref mo, .int (nI op), .int (nI d), .int (nI a), .int (nI b)] zy_M (Nat.le_of_ble_eq_true rfl) ?_
  intro p e s m below meth c ls S hr hlk hnm hl hB
  obtain ⟨hx, hb, hml, hown, hts⟩ := id S
  have hl : lv_has ls 11 [(0, .ref mo), (1, .int (nI op)), (2, .int (nI d)), (3, .int (nI a)), (4, .int (nI b))] := hl
  obtain ⟨hP, hK⟩ := hB
  have hS : va_S (fun q => q ∈ [mo, b0, b1, b2, b3, b4, b5]) s.heap s.heap [] := va_S.rf
  have hz : s.heap.size = s.heap.size := rfl
  refine lv_aload_n hx hb d_M14_0 rfl (lv_at hl 0 rfl) ?_
  refine lv_iload_n hx hb d_M14_1 rfl (lv_at hl 1 rfl) ?_
  refine lv_if_lt (tgt := 11) hx hb d_M14_2 (by decide) (fun hq => absurd hq (nI_pos (by omega))) (fun hq => ?_)
  refine lv_iload_n hx hb d_M14_5 rfl (lv_at hl 1 rfl) ?_
  refine lv_bipush (v := 12) hx hb d_M14_6 (by decide) ?_
  refine lv_icmp_le (tgt := 15) hx hb d_M14_8 (by decide) (fun hq => ?_) (fun hq => absurd (nI_le (b := 12) (by omega) (by decide)) hq)
  refine lv_iconst (v := 0) hx hb d_M14_15 (by decide) ?_
  refine lv_iconst (v := 1) hx hb d_M14_16 (by decide) ?_
  refine zc_Vw (C := zc_M) S k_M36 (c_M3 l D cZ mo b0 b1 b2 b3 b4 b5 hnd er (zr v) (zr n) f2 f3 f4 f5 false 1) rfl (mw_pre hK hP) ⟨Nat.le_of_ble_eq_true rfl, Nat.le_of_ble_eq_true rfl⟩ ⟨rfl, rfl⟩ rfl hl.1 rfl (Nat.le_of_ble_eq_true rfl) d_M14_17 ⟨Nat.zero_le _, Nat.zero_le _⟩ hS (fun rv H locs hq hz1 hS => ?_)
  obtain ⟨rfl, hP⟩ := hq
  have hP : va_P D zC (MW cZ mo b0 b1 b2 b3 b4 b5 0 (zr v) (zr n) f2 f3 f4 f5) H := hP
  have hz : H.size = s.heap.size := hz1.trans hz
  clear hz1
  refine lv_if_eq (tgt := 24) hx hb d_M14_20 (by decide) (fun hq => ?_) (fun hq => absurd rfl hq)
  refine lv_aload_n hx hb d_M14_24 rfl (lv_at hl 0 rfl) ?_
  refine lv_iload_n hx hb d_M14_25 rfl (lv_at hl 2 rfl) ?_
  refine zc_Si S k_M32 (c_M4 l (nI d)) zp_S ⟨Nat.le_of_ble_eq_true rfl, Nat.le_of_ble_eq_true rfl⟩ ⟨rfl, rfl⟩ rfl hl.1 rfl (Nat.le_of_ble_eq_true rfl) d_M14_26 ⟨Nat.zero_le _, Nat.zero_le _⟩ ?_
  rw [zk_in hd]
  refine lv_if_ne (tgt := 47) hx hb d_M14_29 (by decide) (fun hq => absurd rfl hq) (fun hq => ?_)
  refine lv_iload_n hx hb d_M14_32 rfl (lv_at hl 3 rfl) ?_
  refine zc_Si S k_M32 (c_M4 l (nI a)) zp_S ⟨Nat.le_of_ble_eq_true rfl, Nat.le_of_ble_eq_true rfl⟩ ⟨rfl, rfl⟩ rfl hl.1 rfl (Nat.le_of_ble_eq_true rfl) d_M14_33 ⟨Nat.zero_le _, Nat.zero_le _⟩ ?_
  rw [zk_in ha]
  refine lv_if_ne (tgt := 47) hx hb d_M14_36 (by decide) (fun hq => absurd rfl hq) (fun hq => ?_)
  refine lv_iload hx hb d_M14_39 (lv_at hl 4 rfl) ?_
  refine zc_Si S k_M32 (c_M4 l (nI b)) zp_S ⟨Nat.le_of_ble_eq_true rfl, Nat.le_of_ble_eq_true rfl⟩ ⟨rfl, rfl⟩ rfl hl.1 rfl (Nat.le_of_ble_eq_true rfl) d_M14_41 ⟨Nat.zero_le _, Nat.zero_le _⟩ ?_
  rw [zk_in hb9]
  refine lv_if_eq (tgt := 51) hx hb d_M14_44 (by decide) (fun hq => ?_) (fun hq => absurd rfl hq)
  refine lv_iconst (v := 0) hx hb d_M14_51 (by decide) ?_
  refine lv_iconst (v := 2) hx hb d_M14_52 (by decide) ?_
  refine zc_Vw (C := zc_M) S k_M36 (c_M3 l D cZ mo b0 b1 b2 b3 b4 b5 hnd 0 (zr v) (zr n) f2 f3 f4 f5 false 2) rfl (mw_pre hK hP) ⟨Nat.le_of_ble_eq_true rfl, Nat.le_of_ble_eq_true rfl⟩ ⟨rfl, rfl⟩ rfl hl.1 rfl (Nat.le_of_ble_eq_true rfl) d_M14_53 ⟨Nat.zero_le _, Nat.zero_le _⟩ hS (fun rv H locs hq hz1 hS => ?_)
  obtain ⟨rfl, hP⟩ := hq
  have hP : va_P D zC (MW cZ mo b0 b1 b2 b3 b4 b5 0 (zr v) (zr n) f2 f3 f4 f5) H := hP
  have hz : H.size = s.heap.size := hz1.trans hz
  clear hz1
  refine lv_if_eq (tgt := 60) hx hb d_M14_56 (by decide) (fun hq => ?_) (fun hq => absurd rfl hq)
  refine lv_aload_n hx hb d_M14_60 rfl (lv_at hl 0 rfl) ?_
  refine lv_iload_n hx hb d_M14_61 rfl (lv_at hl 3 rfl) ?_
  refine zc_Vi (C := zc_M) S k_M54 (c_M5 l D cZ mo b0 b1 b2 b3 b4 b5 hnd 0 (zr v) (zr n) f2 f3 f4 f5 a ha (v a) (fun i hi => zr_at v a i hi)) rfl (mw_pre hK hP) ⟨Nat.le_of_ble_eq_true rfl, Nat.le_of_ble_eq_true rfl⟩ ⟨rfl, rfl⟩ rfl hl.1 rfl (Nat.le_of_ble_eq_true rfl) d_M14_62 ⟨Nat.zero_le _, Nat.zero_le _⟩ ?_
  refine lv_istore hx hb d_M14_65 hl (by decide) rfl (fun ls hl => ?_)
  have hl : lv_has ls 11 [(5, .int (v a)), (0, .ref mo), (1, .int (nI op)), (2, .int (nI d)), (3, .int (nI a)), (4, .int (nI b))] := hl
  refine lv_aload_n hx hb d_M14_67 rfl (lv_at hl 1 rfl) ?_
  refine lv_iload hx hb d_M14_68 (lv_at hl 5 rfl) ?_
  refine zc_Vi (C := zc_M) S k_M54 (c_M5 l D cZ mo b0 b1 b2 b3 b4 b5 hnd 0 (zr v) (zr n) f2 f3 f4 f5 b hb9 (v b) (fun i hi => zr_at v b i hi)) rfl (mw_pre hK hP) ⟨Nat.le_of_ble_eq_true rfl, Nat.le_of_ble_eq_true rfl⟩ ⟨rfl, rfl⟩ rfl hl.1 rfl (Nat.le_of_ble_eq_true rfl) d_M14_70 ⟨Nat.zero_le _, Nat.zero_le _⟩ ?_
  refine lv_istore hx hb d_M14_73 hl (by decide) rfl (fun ls hl => ?_)
  have hl : lv_has ls 11 [(6, .int (v b)), (5, .int (v a)), (0, .ref mo), (1, .int (nI op)), (2, .int (nI d)), (3, .int (nI a)), (4, .int (nI b))] := hl
  refine lv_aload_n hx hb d_M14_75 rfl (lv_at hl 2 rfl) ?_
  refine lv_iload_n hx hb d_M14_76 rfl (lv_at hl 5 rfl) ?_
  refine zc_Vi (C := zc_M) S k_M58 (c_M11 l D cZ mo b0 b1 b2 b3 b4 b5 hnd 0 (zr v) (zr n) f2 f3 f4 f5 a ha (n a) (fun i hi => zr_at n a i hi)) rfl (mw_pre hK hP) ⟨Nat.le_of_ble_eq_true rfl, Nat.le_of_ble_eq_true rfl⟩ ⟨rfl, rfl⟩ rfl hl.1 rfl (Nat.le_of_ble_eq_true rfl) d_M14_77 ⟨Nat.zero_le _, Nat.zero_le _⟩ ?_
  refine lv_aload_n hx hb d_M14_80 rfl (lv_at hl 2 rfl) ?_
  refine lv_iload hx hb d_M14_81 (lv_at hl 6 rfl) ?_
  refine zc_Vi (C := zc_M) S k_M58 (c_M11 l D cZ mo b0 b1 b2 b3 b4 b5 hnd 0 (zr v) (zr n) f2 f3 f4 f5 b hb9 (n b) (fun i hi => zr_at n b i hi)) rfl (mw_pre hK hP) ⟨Nat.le_of_ble_eq_true rfl, Nat.le_of_ble_eq_true rfl⟩ ⟨rfl, rfl⟩ rfl hl.1 rfl (Nat.le_of_ble_eq_true rfl) d_M14_83 ⟨Nat.zero_le _, Nat.zero_le _⟩ ?_
  have hla := zlo_le (n a)
  have hlb := zlo_le (n b)
  refine zj_i (x := (nI (min (zlo (n a)) (zlo (n b))))) (pc := 103) (ls := ls) (rest := []) ?_ (fun J => ?_)
  · intro z hz9
    subst hz9
    refine lv_istore hx hb d_M14_103 hl (by decide) rfl (fun ls hl => ?_)
    have hl : lv_has ls 11 [(7, .int (nI (min (zlo (n a)) (zlo (n b))))), (6, .int (v b)), (5, .int (v a)), (0, .ref mo), (1, .int (nI op)), (2, .int (nI d)), (3, .int (nI a)), (4, .int (nI b))] := hl
    refine lv_iload_n hx hb d_M14_105 rfl (lv_at hl 4 rfl) ?_
    refine zj_h (fun H locs ls => H.size = s.heap.size ∧ va_S (fun q => q ∈ [mo, b0, b1, b2, b3, b4, b5]) s.heap H locs ∧ ∃ g4 g5 : Nat → Bool, (∀ i, i < 32 → g4 i = bt (oV op (v a) (v b) (v d)) i) ∧ (∀ i, i < 32 → g5 i = bt (oN op (v a) (v b) (n a) (n b) (v d) (n d)) i) ∧ va_P D zC (MW cZ mo b0 b1 b2 b3 b4 b5 0 (zr v) (zr n) f2 f3 g4 g5) H ∧ lv_has ls 11 [(0, .ref mo), (2, .int (nI d))]) 778 ?_ (fun J => ?_)
    · intro H locs ls hI
      obtain ⟨hz, hS, g4, g5, h4, h5, hP, hl⟩ := hI
      refine lv_aload_n hx hb d_M14_778 rfl (lv_at hl 0 rfl) ?_
      refine lv_iload_n hx hb d_M14_779 rfl (lv_at hl 1 rfl) ?_
      refine zc_Vw (C := zc_M) S k_M44 (c_M6 l D cZ mo b0 b1 b2 b3 b4 b5 hnd 0 v n f2 f3 g4 g5 d hd (oV op (v a) (v b) (v d)) (oN op (v a) (v b) (n a) (n b) (v d) (n d)) h4 h5) rfl (mw_pre hK hP) ⟨Nat.le_of_ble_eq_true rfl, Nat.le_of_ble_eq_true rfl⟩ ⟨rfl, rfl⟩ rfl hl.1 rfl (Nat.le_of_ble_eq_true rfl) d_M14_780 ⟨Nat.zero_le _, Nat.zero_le _⟩ hS (fun rv H locs hq hz1 hS => ?_)
      obtain ⟨rfl, hP⟩ := hq
      have hz : H.size = s.heap.size := hz1.trans hz
      clear hz1
      exact W.vret hx hb hr (fun t ht hW => zq_end hS hz ⟨rfl, g4, g5, hP⟩ ht) hS.2.2 d_M14_783
    obtain rfl | rfl | rfl | rfl | rfl | rfl | rfl | rfl | rfl | rfl | rfl | rfl | rfl : op = 0 ∨ op = 1 ∨ op = 2 ∨ op = 3 ∨ op = 4 ∨ op = 5 ∨ op = 6 ∨ op = 7 ∨ op = 8 ∨ op = 9 ∨ op = 10 ∨ op = 11 ∨ op = 12 := by omega
    · refine lv_tableIn (tgt := 168) hx hb d_M14_106 (by decide) (by decide) rfl (by decide) ?_
      refine lv_aload_n hx hb d_M14_168 rfl (lv_at hl 3 rfl) ?_
      refine lv_iload hx hb d_M14_169 (lv_at hl 2 rfl) ?_
      refine lv_iload hx hb d_M14_171 (lv_at hl 1 rfl) ?_
      refine lv_iadd hx hb d_M14_173 ?_
      refine zc_Vw (C := zc_M) S k_M40 (c_M7 l D cZ mo b0 b1 b2 b3 b4 b5 hnd 0 (zr v) (zr n) f2 f3 f4 f5 ((v a) + (v b))) rfl (mw_pre hK hP) ⟨Nat.le_of_ble_eq_true rfl, Nat.le_of_ble_eq_true rfl⟩ ⟨rfl, rfl⟩ rfl hl.1 rfl (Nat.le_of_ble_eq_true rfl) d_M14_174 ⟨Nat.zero_le _, Nat.zero_le _⟩ hS (fun rv H locs hq hz1 hS => ?_)
      obtain ⟨rfl, g4, g5, h4, h5, hP⟩ := hq
      have hz : H.size = s.heap.size := hz1.trans hz
      clear hz1
      refine lv_aload_n hx hb d_M14_177 rfl (lv_at hl 3 rfl) ?_
      refine lv_iload hx hb d_M14_178 (lv_at hl 0 rfl) ?_
      refine zc_Vw (C := zc_M) S k_M61 (c_M13 l D cZ mo b0 b1 b2 b3 b4 b5 hnd 0 (zr v) (zr n) f2 f3 g4 g5 (min (zlo (n a)) (zlo (n b))) (by omega)) rfl (mw_pre hK hP) ⟨Nat.le_of_ble_eq_true rfl, Nat.le_of_ble_eq_true rfl⟩ ⟨rfl, rfl⟩ rfl hl.1 rfl (Nat.le_of_ble_eq_true rfl) d_M14_180 ⟨Nat.zero_le _, Nat.zero_le _⟩ hS (fun rv H locs hq hz1 hS => ?_)
      obtain ⟨rfl, g6, h6, hP⟩ := hq
      have hz : H.size = s.heap.size := hz1.trans hz
      clear hz1
      refine lv_goto (tgt := 778) hx hb d_M14_183 (by decide) ?_
      exact J _ _ _ ⟨hz, hS, g4, g6, h4, fun i hi => by rw [h6 i hi, oN_0, on_01 (v a) (v b) (n a) (n b) (v d) (n d) hi], hP, lv_sub hl [3, 5] rfl⟩
    · refine lv_tableIn (tgt := 186) hx hb d_M14_106 (by decide) (by decide) rfl (by decide) ?_
      refine lv_aload_n hx hb d_M14_186 rfl (lv_at hl 3 rfl) ?_
      refine lv_iload hx hb d_M14_187 (lv_at hl 2 rfl) ?_
      refine lv_iload hx hb d_M14_189 (lv_at hl 1 rfl) ?_
      refine lv_isub hx hb d_M14_191 ?_
      refine zc_Vw (C := zc_M) S k_M40 (c_M7 l D cZ mo b0 b1 b2 b3 b4 b5 hnd 0 (zr v) (zr n) f2 f3 f4 f5 ((v a) - (v b))) rfl (mw_pre hK hP) ⟨Nat.le_of_ble_eq_true rfl, Nat.le_of_ble_eq_true rfl⟩ ⟨rfl, rfl⟩ rfl hl.1 rfl (Nat.le_of_ble_eq_true rfl) d_M14_192 ⟨Nat.zero_le _, Nat.zero_le _⟩ hS (fun rv H locs hq hz1 hS => ?_)
      obtain ⟨rfl, g4, g5, h4, h5, hP⟩ := hq
      have hz : H.size = s.heap.size := hz1.trans hz
      clear hz1
      refine lv_aload_n hx hb d_M14_195 rfl (lv_at hl 3 rfl) ?_
      refine lv_iload hx hb d_M14_196 (lv_at hl 0 rfl) ?_
      refine zc_Vw (C := zc_M) S k_M61 (c_M13 l D cZ mo b0 b1 b2 b3 b4 b5 hnd 0 (zr v) (zr n) f2 f3 g4 g5 (min (zlo (n a)) (zlo (n b))) (by omega)) rfl (mw_pre hK hP) ⟨Nat.le_of_ble_eq_true rfl, Nat.le_of_ble_eq_true rfl⟩ ⟨rfl, rfl⟩ rfl hl.1 rfl (Nat.le_of_ble_eq_true rfl) d_M14_198 ⟨Nat.zero_le _, Nat.zero_le _⟩ hS (fun rv H locs hq hz1 hS => ?_)
      obtain ⟨rfl, g6, h6, hP⟩ := hq
      have hz : H.size = s.heap.size := hz1.trans hz
      clear hz1
      refine lv_goto (tgt := 778) hx hb d_M14_201 (by decide) ?_
      exact J _ _ _ ⟨hz, hS, g4, g6, h4, fun i hi => by rw [h6 i hi, oN_1, on_01 (v a) (v b) (n a) (n b) (v d) (n d) hi], hP, lv_sub hl [3, 5] rfl⟩
    · refine lv_tableIn (tgt := 204) hx hb d_M14_106 (by decide) (by decide) rfl (by decide) ?_
      refine lv_aload_n hx hb d_M14_204 rfl (lv_at hl 3 rfl) ?_
      refine lv_iload_n hx hb d_M14_205 rfl (lv_at hl 4 rfl) ?_
      refine lv_iconst (v := 2) hx hb d_M14_206 (by decide) ?_
      refine lv_icmp_ne (tgt := 218) hx hb d_M14_207 (by decide) (fun hq => absurd rfl hq) (fun hq => ?_)
      refine lv_iload hx hb d_M14_210 (lv_at hl 2 rfl) ?_
      refine lv_iload hx hb d_M14_212 (lv_at hl 1 rfl) ?_
      refine lv_iand hx hb d_M14_214 ?_
      refine lv_goto (tgt := 236) hx hb d_M14_215 (by decide) ?_
      refine zc_Vw (C := zc_M) S k_M40 (c_M7 l D cZ mo b0 b1 b2 b3 b4 b5 hnd 0 (zr v) (zr n) f2 f3 f4 f5 ((v a) &&& (v b))) rfl (mw_pre hK hP) ⟨Nat.le_of_ble_eq_true rfl, Nat.le_of_ble_eq_true rfl⟩ ⟨rfl, rfl⟩ rfl hl.1 rfl (Nat.le_of_ble_eq_true rfl) d_M14_236 ⟨Nat.zero_le _, Nat.zero_le _⟩ hS (fun rv H locs hq hz1 hS => ?_)
      obtain ⟨rfl, g4, g5, h4, h5, hP⟩ := hq
      have hz : H.size = s.heap.size := hz1.trans hz
      clear hz1
      refine lv_iconst (v := 0) hx hb d_M14_239 (by decide) ?_
      refine lv_istore hx hb d_M14_240 hl (by decide) rfl (fun ls hl => ?_)
      have hl : lv_has ls 11 [(8, .int 0), (7, .int (nI (min (zlo (n a)) (zlo (n b))))), (6, .int (v b)), (5, .int (v a)), (0, .ref mo), (1, .int (nI 2)), (2, .int (nI d)), (3, .int (nI a)), (4, .int (nI b))] := hl
      refine zl_loop (fun k H locs ls => k ≤ 32 ∧ H.size = s.heap.size ∧ va_S (fun q => q ∈ [mo, b0, b1, b2, b3, b4, b5]) s.heap H locs ∧ va_P D zC (MW cZ mo b0 b1 b2 b3 b4 b5 0 (zr v) (zr n) f2 f3 g4 (zfl g5 0 k (bt (oN 2 (v a) (v b) (n a) (n b) (v d) (n d))))) H ∧ lv_has ls 11 [(8, .int (nI k)), (7, .int (nI (min (zlo (n a)) (zlo (n b))))), (6, .int (v b)), (5, .int (v a)), (0, .ref mo), (1, .int (nI 2)), (2, .int (nI d)), (3, .int (nI a)), (4, .int (nI b))]) 242 32 (fun k H locs ls h => h.1) ?_ 0 _ _ _ ⟨by omega, hz, hS, by rw [zfl_0]; exact hP, hl⟩
      intro k H locs ls hI ih
      obtain ⟨hk, hz, hS, hP, hl⟩ := hI
      refine lv_iload hx hb d_M14_242 (lv_at hl 0 rfl) ?_
      refine lv_bipush (v := 32) hx hb d_M14_244 (by decide) ?_
      refine lv_icmp_ge (tgt := 384) hx hb d_M14_246 (by decide) (fun hc => ?_) (fun hc => ?_)
      · have hk2 := zi_ge 32 rfl hc hk (by decide)
        rw [hk2] at hP
        refine lv_goto (tgt := 778) hx hb d_M14_384 (by decide) ?_
        exact J _ _ _ ⟨hz, hS, g4, _, h4, fun i hi => zfl_at g5 32 _ hi, hP, lv_sub hl [4, 6] rfl⟩
      · have hk2 := zi_lt 32 rfl hc hk (by decide)
        refine zj_i (x := (zb (!bt (n a) k && (bt (v a) k == false)))) (pc := 289) (ls := ls) (rest := []) ?_ (fun J9 => ?_)
        · intro z hz9
          subst hz9
          refine lv_istore hx hb d_M14_289 hl (by decide) rfl (fun ls hl => ?_)
          have hl : lv_has ls 11 [(9, .int (zb (!bt (n a) k && (bt (v a) k == false)))), (8, .int (nI k)), (7, .int (nI (min (zlo (n a)) (zlo (n b))))), (6, .int (v b)), (5, .int (v a)), (0, .ref mo), (1, .int (nI 2)), (2, .int (nI d)), (3, .int (nI a)), (4, .int (nI b))] := hl
          refine zj_i (x := (zb (!bt (n b) k && (bt (v b) k == false)))) (pc := 333) (ls := ls) (rest := []) ?_ (fun J9 => ?_)
          · intro z hz9
            subst hz9
            refine lv_istore hx hb d_M14_333 hl (by decide) rfl (fun ls hl => ?_)
            have hl : lv_has ls 11 [(10, .int (zb (!bt (n b) k && (bt (v b) k == false)))), (9, .int (zb (!bt (n a) k && (bt (v a) k == false)))), (8, .int (nI k)), (7, .int (nI (min (zlo (n a)) (zlo (n b))))), (6, .int (v b)), (5, .int (v a)), (0, .ref mo), (1, .int (nI 2)), (2, .int (nI d)), (3, .int (nI a)), (4, .int (nI b))] := hl
            refine lv_aload_n hx hb d_M14_335 rfl (lv_at hl 6 rfl) ?_
            refine zg_M S hK hP rfl 6 (by decide) zl_M6 rfl d_M14_336 ?_
            refine lv_iload hx hb d_M14_339 (lv_at hl 2 rfl) ?_
            refine lv_aload_n hx hb d_M14_341 rfl (lv_at hl 6 rfl) ?_
            refine lv_iload_n hx hb d_M14_342 rfl (lv_at hl 9 rfl) ?_
            refine lv_iload hx hb d_M14_343 (lv_at hl 2 rfl) ?_
            refine zc_Vi (C := zc_M) S k_M47 (c_M10 l D cZ mo b0 b1 b2 b3 b4 b5 hnd 0 (zr v) (zr n) f2 f3 g4 (zfl g5 0 k (bt (oN 2 (v a) (v b) (n a) (n b) (v d) (n d)))) a k ha (hk2)) rfl (mw_pre hK hP) ⟨Nat.le_of_ble_eq_true rfl, Nat.le_of_ble_eq_true rfl⟩ ⟨rfl, rfl⟩ rfl hl.1 rfl (Nat.le_of_ble_eq_true rfl) d_M14_345 ⟨Nat.zero_le _, Nat.zero_le _⟩ ?_
            rw [zr_at n a k (hk2)]
            refine zj_i (x := (zb ((bt (oN 2 (v a) (v b) (n a) (n b) (v d) (n d))) k))) (pc := 377) (ls := ls) (rest := [.int (nI k), .ref b5]) ?_ (fun J9 => ?_)
            · intro z hz9
              subst hz9
              refine zz_st hx hb hK hP (zd_of rfl hnd) hS 6 0 rfl rfl (j := k) (by omega) (by decide) d_M14_377 (fun H locs hP hS hz1 => ?_)
              have hP : va_P D zC (MW cZ mo b0 b1 b2 b3 b4 b5 0 (zr v) (zr n) f2 f3 g4 (zs (zfl g5 0 k (bt (oN 2 (v a) (v b) (n a) (n b) (v d) (n d)))) (k) ((bt (oN 2 (v a) (v b) (n a) (n b) (v d) (n d))) k))) H := hP
              have hz : H.size = s.heap.size := hz1.trans hz
              clear hz1
              rw [zfl_s0] at hP
              refine lv_iinc (k := 2) (v := (nI (k + 1))) hx hb d_M14_378 hl rfl (zi_inc _) (by decide) rfl (fun ls hl => ?_)
              have hl : lv_has ls 11 [(8, .int (nI (k + 1))), (10, .int (zb (!bt (n b) k && (bt (v b) k == false)))), (9, .int (zb (!bt (n a) k && (bt (v a) k == false)))), (7, .int (nI (min (zlo (n a)) (zlo (n b))))), (6, .int (v b)), (5, .int (v a)), (0, .ref mo), (1, .int (nI 2)), (2, .int (nI d)), (3, .int (nI a)), (4, .int (nI b))] := hl
              refine lv_goto (tgt := 242) hx hb d_M14_381 (by decide) ?_
              exact ih _ _ _ ⟨by omega, hz, hS, hP, lv_sub hl [0, 3, 4, 5, 6, 7, 8, 9, 10] rfl⟩
            refine lv_if_ne (tgt := 362) hx hb d_M14_348 (by decide) (fun t1 => ?_) (fun t1 => ?_)
            · refine lv_iload hx hb d_M14_362 (lv_at hl 1 rfl) ?_
              refine lv_if_ne (tgt := 376) hx hb d_M14_364 (by decide) (fun t3 => ?_) (fun t3 => ?_)
              · refine lv_iconst (v := 0) hx hb d_M14_376 (by decide) ?_
                exact J9 _ (by rw [oN_2, on_2]; have t4 := mt (zb_0 _).mpr t3; revert t4; cases bt (n a) k <;> cases bt (n b) k <;> cases bt (v a) k <;> cases bt (v b) k <;> decide)
              · refine lv_iload hx hb d_M14_367 (lv_at hl 0 rfl) ?_
                refine lv_if_ne (tgt := 376) hx hb d_M14_369 (by decide) (fun t4 => ?_) (fun t4 => ?_)
                · refine lv_iconst (v := 0) hx hb d_M14_376 (by decide) ?_
                  exact J9 _ (by rw [oN_2, on_2]; have t5 := mt (zb_0 _).mpr t4; revert t5; cases bt (n a) k <;> cases bt (n b) k <;> cases bt (v a) k <;> cases bt (v b) k <;> decide)
                · refine lv_iconst (v := 1) hx hb d_M14_372 (by decide) ?_
                  refine lv_goto (tgt := 377) hx hb d_M14_373 (by decide) ?_
                  exact J9 _ (by rw [oN_2, on_2]; have t5 := (zb_0 _).mp t3; have t6 := (zb_0 _).mp t4; have t7 := mt (zb_0 _).mpr t1; revert t5 t6 t7; cases bt (n a) k <;> cases bt (n b) k <;> cases bt (v a) k <;> cases bt (v b) k <;> decide)
            · refine lv_aload_n hx hb d_M14_351 rfl (lv_at hl 6 rfl) ?_
              refine lv_iload hx hb d_M14_352 (lv_at hl 10 rfl) ?_
              refine lv_iload hx hb d_M14_354 (lv_at hl 2 rfl) ?_
              refine zc_Vi (C := zc_M) S k_M47 (c_M10 l D cZ mo b0 b1 b2 b3 b4 b5 hnd 0 (zr v) (zr n) f2 f3 g4 (zfl g5 0 k (bt (oN 2 (v a) (v b) (n a) (n b) (v d) (n d)))) b k hb9 (hk2)) rfl (mw_pre hK hP) ⟨Nat.le_of_ble_eq_true rfl, Nat.le_of_ble_eq_true rfl⟩ ⟨rfl, rfl⟩ rfl hl.1 rfl (Nat.le_of_ble_eq_true rfl) d_M14_356 ⟨Nat.zero_le _, Nat.zero_le _⟩ ?_
              rw [zr_at n b k (hk2)]
              refine lv_if_eq (tgt := 376) hx hb d_M14_359 (by decide) (fun t2 => ?_) (fun t2 => ?_)
              · refine lv_iconst (v := 0) hx hb d_M14_376 (by decide) ?_
                exact J9 _ (by rw [oN_2, on_2, (zb_0 _).mp t1, (zb_0 _).mp t2]; rfl)
              · refine lv_iload hx hb d_M14_362 (lv_at hl 1 rfl) ?_
                refine lv_if_ne (tgt := 376) hx hb d_M14_364 (by decide) (fun t3 => ?_) (fun t3 => ?_)
                · refine lv_iconst (v := 0) hx hb d_M14_376 (by decide) ?_
                  exact J9 _ (by rw [oN_2, on_2]; have t4 := mt (zb_0 _).mpr t3; revert t4; cases bt (n a) k <;> cases bt (n b) k <;> cases bt (v a) k <;> cases bt (v b) k <;> decide)
                · refine lv_iload hx hb d_M14_367 (lv_at hl 0 rfl) ?_
                  refine lv_if_ne (tgt := 376) hx hb d_M14_369 (by decide) (fun t4 => ?_) (fun t4 => ?_)
                  · refine lv_iconst (v := 0) hx hb d_M14_376 (by decide) ?_
                    exact J9 _ (by rw [oN_2, on_2]; have t5 := mt (zb_0 _).mpr t4; revert t5; cases bt (n a) k <;> cases bt (n b) k <;> cases bt (v a) k <;> cases bt (v b) k <;> decide)
                  · refine lv_iconst (v := 1) hx hb d_M14_372 (by decide) ?_
                    refine lv_goto (tgt := 377) hx hb d_M14_373 (by decide) ?_
                    exact J9 _ (by rw [oN_2, on_2]; have t5 := (zb_0 _).mp t3; have t6 := (zb_0 _).mp t4; have t7 := mt (zb_0 _).mpr t2; revert t5 t6 t7; cases bt (n a) k <;> cases bt (n b) k <;> cases bt (v a) k <;> cases bt (v b) k <;> decide)
          refine lv_iload_n hx hb d_M14_291 rfl (lv_at hl 6 rfl) ?_
          refine lv_iconst (v := 4) hx hb d_M14_292 (by decide) ?_
          refine lv_icmp_ge (tgt := 332) hx hb d_M14_293 (by decide) (fun hq => absurd hq (by decide)) (fun hq => ?_)
          refine lv_aload_n hx hb d_M14_296 rfl (lv_at hl 5 rfl) ?_
          refine lv_iload hx hb d_M14_297 (lv_at hl 9 rfl) ?_
          refine lv_iload hx hb d_M14_299 (lv_at hl 1 rfl) ?_
          refine zc_Vi (C := zc_M) S k_M47 (c_M10 l D cZ mo b0 b1 b2 b3 b4 b5 hnd 0 (zr v) (zr n) f2 f3 g4 (zfl g5 0 k (bt (oN 2 (v a) (v b) (n a) (n b) (v d) (n d)))) b k hb9 (hk2)) rfl (mw_pre hK hP) ⟨Nat.le_of_ble_eq_true rfl, Nat.le_of_ble_eq_true rfl⟩ ⟨rfl, rfl⟩ rfl hl.1 rfl (Nat.le_of_ble_eq_true rfl) d_M14_301 ⟨Nat.zero_le _, Nat.zero_le _⟩ ?_
          rw [zr_at n b k (hk2)]
          refine lv_if_ne (tgt := 332) hx hb d_M14_304 (by decide) (fun g1 => ?_) (fun g1 => ?_)
          · refine lv_iconst (v := 0) hx hb d_M14_332 (by decide) ?_
            exact J9 _ (by rw [show bt (n b) k = true by simpa using mt (zb_0 _).mpr g1]; rfl)
          · refine lv_aload_n hx hb d_M14_307 rfl (lv_at hl 5 rfl) ?_
            refine lv_iload hx hb d_M14_308 (lv_at hl 9 rfl) ?_
            refine lv_iload hx hb d_M14_310 (lv_at hl 1 rfl) ?_
            refine zc_Vi (C := zc_M) S k_M51 (c_M9 l D cZ mo b0 b1 b2 b3 b4 b5 hnd 0 (zr v) (zr n) f2 f3 g4 (zfl g5 0 k (bt (oN 2 (v a) (v b) (n a) (n b) (v d) (n d)))) b k hb9 (hk2)) rfl (mw_pre hK hP) ⟨Nat.le_of_ble_eq_true rfl, Nat.le_of_ble_eq_true rfl⟩ ⟨rfl, rfl⟩ rfl hl.1 rfl (Nat.le_of_ble_eq_true rfl) d_M14_312 ⟨Nat.zero_le _, Nat.zero_le _⟩ ?_
            rw [zr_at v b k (hk2)]
            refine lv_iload_n hx hb d_M14_315 rfl (lv_at hl 6 rfl) ?_
            refine lv_iconst (v := 3) hx hb d_M14_316 (by decide) ?_
            refine lv_icmp_ne (tgt := 324) hx hb d_M14_317 (by decide) (fun hq => ?_) (fun hq => absurd hq (by decide))
            refine lv_iconst (v := 0) hx hb d_M14_324 (by decide) ?_
            refine lv_icmp_ne (tgt := 332) hx hb d_M14_325 (by decide) (fun g2 => ?_) (fun g2 => ?_)
            · refine lv_iconst (v := 0) hx hb d_M14_332 (by decide) ?_
              exact J9 _ (by rw [(zb_0 _).mp g1]; have g3 := mt (zb_0 _).mpr g2; revert g3; cases bt (v b) k <;> decide)
            · refine lv_iconst (v := 1) hx hb d_M14_328 (by decide) ?_
              refine lv_goto (tgt := 333) hx hb d_M14_329 (by decide) ?_
              exact J9 _ (by rw [(zb_0 _).mp g1, (zb_0 _).mp g2]; rfl)
        refine lv_iload_n hx hb d_M14_249 rfl (lv_at hl 5 rfl) ?_
        refine lv_iconst (v := 4) hx hb d_M14_250 (by decide) ?_
        refine lv_icmp_ge (tgt := 288) hx hb d_M14_251 (by decide) (fun hq => absurd hq (by decide)) (fun hq => ?_)
        refine lv_aload_n hx hb d_M14_254 rfl (lv_at hl 4 rfl) ?_
        refine lv_iload_n hx hb d_M14_255 rfl (lv_at hl 7 rfl) ?_
        refine lv_iload hx hb d_M14_256 (lv_at hl 0 rfl) ?_
        refine zc_Vi (C := zc_M) S k_M47 (c_M10 l D cZ mo b0 b1 b2 b3 b4 b5 hnd 0 (zr v) (zr n) f2 f3 g4 (zfl g5 0 k (bt (oN 2 (v a) (v b) (n a) (n b) (v d) (n d)))) a k ha (hk2)) rfl (mw_pre hK hP) ⟨Nat.le_of_ble_eq_true rfl, Nat.le_of_ble_eq_true rfl⟩ ⟨rfl, rfl⟩ rfl hl.1 rfl (Nat.le_of_ble_eq_true rfl) d_M14_258 ⟨Nat.zero_le _, Nat.zero_le _⟩ ?_
        rw [zr_at n a k (hk2)]
        refine lv_if_ne (tgt := 288) hx hb d_M14_261 (by decide) (fun g1 => ?_) (fun g1 => ?_)
        · refine lv_iconst (v := 0) hx hb d_M14_288 (by decide) ?_
          exact J9 _ (by rw [show bt (n a) k = true by simpa using mt (zb_0 _).mpr g1]; rfl)
        · refine lv_aload_n hx hb d_M14_264 rfl (lv_at hl 4 rfl) ?_
          refine lv_iload_n hx hb d_M14_265 rfl (lv_at hl 7 rfl) ?_
          refine lv_iload hx hb d_M14_266 (lv_at hl 0 rfl) ?_
          refine zc_Vi (C := zc_M) S k_M51 (c_M9 l D cZ mo b0 b1 b2 b3 b4 b5 hnd 0 (zr v) (zr n) f2 f3 g4 (zfl g5 0 k (bt (oN 2 (v a) (v b) (n a) (n b) (v d) (n d)))) a k ha (hk2)) rfl (mw_pre hK hP) ⟨Nat.le_of_ble_eq_true rfl, Nat.le_of_ble_eq_true rfl⟩ ⟨rfl, rfl⟩ rfl hl.1 rfl (Nat.le_of_ble_eq_true rfl) d_M14_268 ⟨Nat.zero_le _, Nat.zero_le _⟩ ?_
          rw [zr_at v a k (hk2)]
          refine lv_iload_n hx hb d_M14_271 rfl (lv_at hl 5 rfl) ?_
          refine lv_iconst (v := 3) hx hb d_M14_272 (by decide) ?_
          refine lv_icmp_ne (tgt := 280) hx hb d_M14_273 (by decide) (fun hq => ?_) (fun hq => absurd hq (by decide))
          refine lv_iconst (v := 0) hx hb d_M14_280 (by decide) ?_
          refine lv_icmp_ne (tgt := 288) hx hb d_M14_281 (by decide) (fun g2 => ?_) (fun g2 => ?_)
          · refine lv_iconst (v := 0) hx hb d_M14_288 (by decide) ?_
            exact J9 _ (by rw [(zb_0 _).mp g1]; have g3 := mt (zb_0 _).mpr g2; revert g3; cases bt (v a) k <;> decide)
          · refine lv_iconst (v := 1) hx hb d_M14_284 (by decide) ?_
            refine lv_goto (tgt := 289) hx hb d_M14_285 (by decide) ?_
            exact J9 _ (by rw [(zb_0 _).mp g1, (zb_0 _).mp g2]; rfl)
    · refine lv_tableIn (tgt := 204) hx hb d_M14_106 (by decide) (by decide) rfl (by decide) ?_
      refine lv_aload_n hx hb d_M14_204 rfl (lv_at hl 3 rfl) ?_
      refine lv_iload_n hx hb d_M14_205 rfl (lv_at hl 4 rfl) ?_
      refine lv_iconst (v := 2) hx hb d_M14_206 (by decide) ?_
      refine lv_icmp_ne (tgt := 218) hx hb d_M14_207 (by decide) (fun hq => ?_) (fun hq => absurd hq (by decide))
      refine lv_iload_n hx hb d_M14_218 rfl (lv_at hl 4 rfl) ?_
      refine lv_iconst (v := 3) hx hb d_M14_219 (by decide) ?_
      refine lv_icmp_ne (tgt := 231) hx hb d_M14_220 (by decide) (fun hq => absurd rfl hq) (fun hq => ?_)
      refine lv_iload hx hb d_M14_223 (lv_at hl 2 rfl) ?_
      refine lv_iload hx hb d_M14_225 (lv_at hl 1 rfl) ?_
      refine lv_ior hx hb d_M14_227 ?_
      refine lv_goto (tgt := 236) hx hb d_M14_228 (by decide) ?_
      refine zc_Vw (C := zc_M) S k_M40 (c_M7 l D cZ mo b0 b1 b2 b3 b4 b5 hnd 0 (zr v) (zr n) f2 f3 f4 f5 ((v a) ||| (v b))) rfl (mw_pre hK hP) ⟨Nat.le_of_ble_eq_true rfl, Nat.le_of_ble_eq_true rfl⟩ ⟨rfl, rfl⟩ rfl hl.1 rfl (Nat.le_of_ble_eq_true rfl) d_M14_236 ⟨Nat.zero_le _, Nat.zero_le _⟩ hS (fun rv H locs hq hz1 hS => ?_)
      obtain ⟨rfl, g4, g5, h4, h5, hP⟩ := hq
      have hz : H.size = s.heap.size := hz1.trans hz
      clear hz1
      refine lv_iconst (v := 0) hx hb d_M14_239 (by decide) ?_
      refine lv_istore hx hb d_M14_240 hl (by decide) rfl (fun ls hl => ?_)
      have hl : lv_has ls 11 [(8, .int 0), (7, .int (nI (min (zlo (n a)) (zlo (n b))))), (6, .int (v b)), (5, .int (v a)), (0, .ref mo), (1, .int (nI 3)), (2, .int (nI d)), (3, .int (nI a)), (4, .int (nI b))] := hl
      refine zl_loop (fun k H locs ls => k ≤ 32 ∧ H.size = s.heap.size ∧ va_S (fun q => q ∈ [mo, b0, b1, b2, b3, b4, b5]) s.heap H locs ∧ va_P D zC (MW cZ mo b0 b1 b2 b3 b4 b5 0 (zr v) (zr n) f2 f3 g4 (zfl g5 0 k (bt (oN 3 (v a) (v b) (n a) (n b) (v d) (n d))))) H ∧ lv_has ls 11 [(8, .int (nI k)), (7, .int (nI (min (zlo (n a)) (zlo (n b))))), (6, .int (v b)), (5, .int (v a)), (0, .ref mo), (1, .int (nI 3)), (2, .int (nI d)), (3, .int (nI a)), (4, .int (nI b))]) 242 32 (fun k H locs ls h => h.1) ?_ 0 _ _ _ ⟨by omega, hz, hS, by rw [zfl_0]; exact hP, hl⟩
      intro k H locs ls hI ih
      obtain ⟨hk, hz, hS, hP, hl⟩ := hI
      refine lv_iload hx hb d_M14_242 (lv_at hl 0 rfl) ?_
      refine lv_bipush (v := 32) hx hb d_M14_244 (by decide) ?_
      refine lv_icmp_ge (tgt := 384) hx hb d_M14_246 (by decide) (fun hc => ?_) (fun hc => ?_)
      · have hk2 := zi_ge 32 rfl hc hk (by decide)
        rw [hk2] at hP
        refine lv_goto (tgt := 778) hx hb d_M14_384 (by decide) ?_
        exact J _ _ _ ⟨hz, hS, g4, _, h4, fun i hi => zfl_at g5 32 _ hi, hP, lv_sub hl [4, 6] rfl⟩
      · have hk2 := zi_lt 32 rfl hc hk (by decide)
        refine zj_i (x := (zb (!bt (n a) k && (bt (v a) k == true)))) (pc := 289) (ls := ls) (rest := []) ?_ (fun J9 => ?_)
        · intro z hz9
          subst hz9
          refine lv_istore hx hb d_M14_289 hl (by decide) rfl (fun ls hl => ?_)
          have hl : lv_has ls 11 [(9, .int (zb (!bt (n a) k && (bt (v a) k == true)))), (8, .int (nI k)), (7, .int (nI (min (zlo (n a)) (zlo (n b))))), (6, .int (v b)), (5, .int (v a)), (0, .ref mo), (1, .int (nI 3)), (2, .int (nI d)), (3, .int (nI a)), (4, .int (nI b))] := hl
          refine zj_i (x := (zb (!bt (n b) k && (bt (v b) k == true)))) (pc := 333) (ls := ls) (rest := []) ?_ (fun J9 => ?_)
          · intro z hz9
            subst hz9
            refine lv_istore hx hb d_M14_333 hl (by decide) rfl (fun ls hl => ?_)
            have hl : lv_has ls 11 [(10, .int (zb (!bt (n b) k && (bt (v b) k == true)))), (9, .int (zb (!bt (n a) k && (bt (v a) k == true)))), (8, .int (nI k)), (7, .int (nI (min (zlo (n a)) (zlo (n b))))), (6, .int (v b)), (5, .int (v a)), (0, .ref mo), (1, .int (nI 3)), (2, .int (nI d)), (3, .int (nI a)), (4, .int (nI b))] := hl
            refine lv_aload_n hx hb d_M14_335 rfl (lv_at hl 6 rfl) ?_
            refine zg_M S hK hP rfl 6 (by decide) zl_M6 rfl d_M14_336 ?_
            refine lv_iload hx hb d_M14_339 (lv_at hl 2 rfl) ?_
            refine lv_aload_n hx hb d_M14_341 rfl (lv_at hl 6 rfl) ?_
            refine lv_iload_n hx hb d_M14_342 rfl (lv_at hl 9 rfl) ?_
            refine lv_iload hx hb d_M14_343 (lv_at hl 2 rfl) ?_
            refine zc_Vi (C := zc_M) S k_M47 (c_M10 l D cZ mo b0 b1 b2 b3 b4 b5 hnd 0 (zr v) (zr n) f2 f3 g4 (zfl g5 0 k (bt (oN 3 (v a) (v b) (n a) (n b) (v d) (n d)))) a k ha (hk2)) rfl (mw_pre hK hP) ⟨Nat.le_of_ble_eq_true rfl, Nat.le_of_ble_eq_true rfl⟩ ⟨rfl, rfl⟩ rfl hl.1 rfl (Nat.le_of_ble_eq_true rfl) d_M14_345 ⟨Nat.zero_le _, Nat.zero_le _⟩ ?_
            rw [zr_at n a k (hk2)]
            refine zj_i (x := (zb ((bt (oN 3 (v a) (v b) (n a) (n b) (v d) (n d))) k))) (pc := 377) (ls := ls) (rest := [.int (nI k), .ref b5]) ?_ (fun J9 => ?_)
            · intro z hz9
              subst hz9
              refine zz_st hx hb hK hP (zd_of rfl hnd) hS 6 0 rfl rfl (j := k) (by omega) (by decide) d_M14_377 (fun H locs hP hS hz1 => ?_)
              have hP : va_P D zC (MW cZ mo b0 b1 b2 b3 b4 b5 0 (zr v) (zr n) f2 f3 g4 (zs (zfl g5 0 k (bt (oN 3 (v a) (v b) (n a) (n b) (v d) (n d)))) (k) ((bt (oN 3 (v a) (v b) (n a) (n b) (v d) (n d))) k))) H := hP
              have hz : H.size = s.heap.size := hz1.trans hz
              clear hz1
              rw [zfl_s0] at hP
              refine lv_iinc (k := 2) (v := (nI (k + 1))) hx hb d_M14_378 hl rfl (zi_inc _) (by decide) rfl (fun ls hl => ?_)
              have hl : lv_has ls 11 [(8, .int (nI (k + 1))), (10, .int (zb (!bt (n b) k && (bt (v b) k == true)))), (9, .int (zb (!bt (n a) k && (bt (v a) k == true)))), (7, .int (nI (min (zlo (n a)) (zlo (n b))))), (6, .int (v b)), (5, .int (v a)), (0, .ref mo), (1, .int (nI 3)), (2, .int (nI d)), (3, .int (nI a)), (4, .int (nI b))] := hl
              refine lv_goto (tgt := 242) hx hb d_M14_381 (by decide) ?_
              exact ih _ _ _ ⟨by omega, hz, hS, hP, lv_sub hl [0, 3, 4, 5, 6, 7, 8, 9, 10] rfl⟩
            refine lv_if_ne (tgt := 362) hx hb d_M14_348 (by decide) (fun t1 => ?_) (fun t1 => ?_)
            · refine lv_iload hx hb d_M14_362 (lv_at hl 1 rfl) ?_
              refine lv_if_ne (tgt := 376) hx hb d_M14_364 (by decide) (fun t3 => ?_) (fun t3 => ?_)
              · refine lv_iconst (v := 0) hx hb d_M14_376 (by decide) ?_
                exact J9 _ (by rw [oN_3, on_3 _ _ _ _ hk2]; have t4 := mt (zb_0 _).mpr t3; revert t4; cases bt (n a) k <;> cases bt (n b) k <;> cases bt (v a) k <;> cases bt (v b) k <;> decide)
              · refine lv_iload hx hb d_M14_367 (lv_at hl 0 rfl) ?_
                refine lv_if_ne (tgt := 376) hx hb d_M14_369 (by decide) (fun t4 => ?_) (fun t4 => ?_)
                · refine lv_iconst (v := 0) hx hb d_M14_376 (by decide) ?_
                  exact J9 _ (by rw [oN_3, on_3 _ _ _ _ hk2]; have t5 := mt (zb_0 _).mpr t4; revert t5; cases bt (n a) k <;> cases bt (n b) k <;> cases bt (v a) k <;> cases bt (v b) k <;> decide)
                · refine lv_iconst (v := 1) hx hb d_M14_372 (by decide) ?_
                  refine lv_goto (tgt := 377) hx hb d_M14_373 (by decide) ?_
                  exact J9 _ (by rw [oN_3, on_3 _ _ _ _ hk2]; have t5 := (zb_0 _).mp t3; have t6 := (zb_0 _).mp t4; have t7 := mt (zb_0 _).mpr t1; revert t5 t6 t7; cases bt (n a) k <;> cases bt (n b) k <;> cases bt (v a) k <;> cases bt (v b) k <;> decide)
            · refine lv_aload_n hx hb d_M14_351 rfl (lv_at hl 6 rfl) ?_
              refine lv_iload hx hb d_M14_352 (lv_at hl 10 rfl) ?_
              refine lv_iload hx hb d_M14_354 (lv_at hl 2 rfl) ?_
              refine zc_Vi (C := zc_M) S k_M47 (c_M10 l D cZ mo b0 b1 b2 b3 b4 b5 hnd 0 (zr v) (zr n) f2 f3 g4 (zfl g5 0 k (bt (oN 3 (v a) (v b) (n a) (n b) (v d) (n d)))) b k hb9 (hk2)) rfl (mw_pre hK hP) ⟨Nat.le_of_ble_eq_true rfl, Nat.le_of_ble_eq_true rfl⟩ ⟨rfl, rfl⟩ rfl hl.1 rfl (Nat.le_of_ble_eq_true rfl) d_M14_356 ⟨Nat.zero_le _, Nat.zero_le _⟩ ?_
              rw [zr_at n b k (hk2)]
              refine lv_if_eq (tgt := 376) hx hb d_M14_359 (by decide) (fun t2 => ?_) (fun t2 => ?_)
              · refine lv_iconst (v := 0) hx hb d_M14_376 (by decide) ?_
                exact J9 _ (by rw [oN_3, on_3 _ _ _ _ hk2, (zb_0 _).mp t1, (zb_0 _).mp t2]; rfl)
              · refine lv_iload hx hb d_M14_362 (lv_at hl 1 rfl) ?_
                refine lv_if_ne (tgt := 376) hx hb d_M14_364 (by decide) (fun t3 => ?_) (fun t3 => ?_)
                · refine lv_iconst (v := 0) hx hb d_M14_376 (by decide) ?_
                  exact J9 _ (by rw [oN_3, on_3 _ _ _ _ hk2]; have t4 := mt (zb_0 _).mpr t3; revert t4; cases bt (n a) k <;> cases bt (n b) k <;> cases bt (v a) k <;> cases bt (v b) k <;> decide)
                · refine lv_iload hx hb d_M14_367 (lv_at hl 0 rfl) ?_
                  refine lv_if_ne (tgt := 376) hx hb d_M14_369 (by decide) (fun t4 => ?_) (fun t4 => ?_)
                  · refine lv_iconst (v := 0) hx hb d_M14_376 (by decide) ?_
                    exact J9 _ (by rw [oN_3, on_3 _ _ _ _ hk2]; have t5 := mt (zb_0 _).mpr t4; revert t5; cases bt (n a) k <;> cases bt (n b) k <;> cases bt (v a) k <;> cases bt (v b) k <;> decide)
                  · refine lv_iconst (v := 1) hx hb d_M14_372 (by decide) ?_
                    refine lv_goto (tgt := 377) hx hb d_M14_373 (by decide) ?_
                    exact J9 _ (by rw [oN_3, on_3 _ _ _ _ hk2]; have t5 := (zb_0 _).mp t3; have t6 := (zb_0 _).mp t4; have t7 := mt (zb_0 _).mpr t2; revert t5 t6 t7; cases bt (n a) k <;> cases bt (n b) k <;> cases bt (v a) k <;> cases bt (v b) k <;> decide)
          refine lv_iload_n hx hb d_M14_291 rfl (lv_at hl 6 rfl) ?_
          refine lv_iconst (v := 4) hx hb d_M14_292 (by decide) ?_
          refine lv_icmp_ge (tgt := 332) hx hb d_M14_293 (by decide) (fun hq => absurd hq (by decide)) (fun hq => ?_)
          refine lv_aload_n hx hb d_M14_296 rfl (lv_at hl 5 rfl) ?_
          refine lv_iload hx hb d_M14_297 (lv_at hl 9 rfl) ?_
          refine lv_iload hx hb d_M14_299 (lv_at hl 1 rfl) ?_
          refine zc_Vi (C := zc_M) S k_M47 (c_M10 l D cZ mo b0 b1 b2 b3 b4 b5 hnd 0 (zr v) (zr n) f2 f3 g4 (zfl g5 0 k (bt (oN 3 (v a) (v b) (n a) (n b) (v d) (n d)))) b k hb9 (hk2)) rfl (mw_pre hK hP) ⟨Nat.le_of_ble_eq_true rfl, Nat.le_of_ble_eq_true rfl⟩ ⟨rfl, rfl⟩ rfl hl.1 rfl (Nat.le_of_ble_eq_true rfl) d_M14_301 ⟨Nat.zero_le _, Nat.zero_le _⟩ ?_
          rw [zr_at n b k (hk2)]
          refine lv_if_ne (tgt := 332) hx hb d_M14_304 (by decide) (fun g1 => ?_) (fun g1 => ?_)
          · refine lv_iconst (v := 0) hx hb d_M14_332 (by decide) ?_
            exact J9 _ (by rw [show bt (n b) k = true by simpa using mt (zb_0 _).mpr g1]; rfl)
          · refine lv_aload_n hx hb d_M14_307 rfl (lv_at hl 5 rfl) ?_
            refine lv_iload hx hb d_M14_308 (lv_at hl 9 rfl) ?_
            refine lv_iload hx hb d_M14_310 (lv_at hl 1 rfl) ?_
            refine zc_Vi (C := zc_M) S k_M51 (c_M9 l D cZ mo b0 b1 b2 b3 b4 b5 hnd 0 (zr v) (zr n) f2 f3 g4 (zfl g5 0 k (bt (oN 3 (v a) (v b) (n a) (n b) (v d) (n d)))) b k hb9 (hk2)) rfl (mw_pre hK hP) ⟨Nat.le_of_ble_eq_true rfl, Nat.le_of_ble_eq_true rfl⟩ ⟨rfl, rfl⟩ rfl hl.1 rfl (Nat.le_of_ble_eq_true rfl) d_M14_312 ⟨Nat.zero_le _, Nat.zero_le _⟩ ?_
            rw [zr_at v b k (hk2)]
            refine lv_iload_n hx hb d_M14_315 rfl (lv_at hl 6 rfl) ?_
            refine lv_iconst (v := 3) hx hb d_M14_316 (by decide) ?_
            refine lv_icmp_ne (tgt := 324) hx hb d_M14_317 (by decide) (fun hq => absurd rfl hq) (fun hq => ?_)
            refine lv_iconst (v := 1) hx hb d_M14_320 (by decide) ?_
            refine lv_goto (tgt := 325) hx hb d_M14_321 (by decide) ?_
            refine lv_icmp_ne (tgt := 332) hx hb d_M14_325 (by decide) (fun g2 => ?_) (fun g2 => ?_)
            · refine lv_iconst (v := 0) hx hb d_M14_332 (by decide) ?_
              exact J9 _ (by rw [(zb_0 _).mp g1]; have g3 := mt (zb_1 _).mpr g2; revert g3; cases bt (v b) k <;> decide)
            · refine lv_iconst (v := 1) hx hb d_M14_328 (by decide) ?_
              refine lv_goto (tgt := 333) hx hb d_M14_329 (by decide) ?_
              exact J9 _ (by rw [(zb_0 _).mp g1, (zb_1 _).mp g2]; rfl)
        refine lv_iload_n hx hb d_M14_249 rfl (lv_at hl 5 rfl) ?_
        refine lv_iconst (v := 4) hx hb d_M14_250 (by decide) ?_
        refine lv_icmp_ge (tgt := 288) hx hb d_M14_251 (by decide) (fun hq => absurd hq (by decide)) (fun hq => ?_)
        refine lv_aload_n hx hb d_M14_254 rfl (lv_at hl 4 rfl) ?_
        refine lv_iload_n hx hb d_M14_255 rfl (lv_at hl 7 rfl) ?_
        refine lv_iload hx hb d_M14_256 (lv_at hl 0 rfl) ?_
        refine zc_Vi (C := zc_M) S k_M47 (c_M10 l D cZ mo b0 b1 b2 b3 b4 b5 hnd 0 (zr v) (zr n) f2 f3 g4 (zfl g5 0 k (bt (oN 3 (v a) (v b) (n a) (n b) (v d) (n d)))) a k ha (hk2)) rfl (mw_pre hK hP) ⟨Nat.le_of_ble_eq_true rfl, Nat.le_of_ble_eq_true rfl⟩ ⟨rfl, rfl⟩ rfl hl.1 rfl (Nat.le_of_ble_eq_true rfl) d_M14_258 ⟨Nat.zero_le _, Nat.zero_le _⟩ ?_
        rw [zr_at n a k (hk2)]
        refine lv_if_ne (tgt := 288) hx hb d_M14_261 (by decide) (fun g1 => ?_) (fun g1 => ?_)
        · refine lv_iconst (v := 0) hx hb d_M14_288 (by decide) ?_
          exact J9 _ (by rw [show bt (n a) k = true by simpa using mt (zb_0 _).mpr g1]; rfl)
        · refine lv_aload_n hx hb d_M14_264 rfl (lv_at hl 4 rfl) ?_
          refine lv_iload_n hx hb d_M14_265 rfl (lv_at hl 7 rfl) ?_
          refine lv_iload hx hb d_M14_266 (lv_at hl 0 rfl) ?_
          refine zc_Vi (C := zc_M) S k_M51 (c_M9 l D cZ mo b0 b1 b2 b3 b4 b5 hnd 0 (zr v) (zr n) f2 f3 g4 (zfl g5 0 k (bt (oN 3 (v a) (v b) (n a) (n b) (v d) (n d)))) a k ha (hk2)) rfl (mw_pre hK hP) ⟨Nat.le_of_ble_eq_true rfl, Nat.le_of_ble_eq_true rfl⟩ ⟨rfl, rfl⟩ rfl hl.1 rfl (Nat.le_of_ble_eq_true rfl) d_M14_268 ⟨Nat.zero_le _, Nat.zero_le _⟩ ?_
          rw [zr_at v a k (hk2)]
          refine lv_iload_n hx hb d_M14_271 rfl (lv_at hl 5 rfl) ?_
          refine lv_iconst (v := 3) hx hb d_M14_272 (by decide) ?_
          refine lv_icmp_ne (tgt := 280) hx hb d_M14_273 (by decide) (fun hq => absurd rfl hq) (fun hq => ?_)
          refine lv_iconst (v := 1) hx hb d_M14_276 (by decide) ?_
          refine lv_goto (tgt := 281) hx hb d_M14_277 (by decide) ?_
          refine lv_icmp_ne (tgt := 288) hx hb d_M14_281 (by decide) (fun g2 => ?_) (fun g2 => ?_)
          · refine lv_iconst (v := 0) hx hb d_M14_288 (by decide) ?_
            exact J9 _ (by rw [(zb_0 _).mp g1]; have g3 := mt (zb_1 _).mpr g2; revert g3; cases bt (v a) k <;> decide)
          · refine lv_iconst (v := 1) hx hb d_M14_284 (by decide) ?_
            refine lv_goto (tgt := 289) hx hb d_M14_285 (by decide) ?_
            exact J9 _ (by rw [(zb_0 _).mp g1, (zb_1 _).mp g2]; rfl)
    · refine lv_tableIn (tgt := 204) hx hb d_M14_106 (by decide) (by decide) rfl (by decide) ?_
      refine lv_aload_n hx hb d_M14_204 rfl (lv_at hl 3 rfl) ?_
      refine lv_iload_n hx hb d_M14_205 rfl (lv_at hl 4 rfl) ?_
      refine lv_iconst (v := 2) hx hb d_M14_206 (by decide) ?_
      refine lv_icmp_ne (tgt := 218) hx hb d_M14_207 (by decide) (fun hq => ?_) (fun hq => absurd hq (by decide))
      refine lv_iload_n hx hb d_M14_218 rfl (lv_at hl 4 rfl) ?_
      refine lv_iconst (v := 3) hx hb d_M14_219 (by decide) ?_
      refine lv_icmp_ne (tgt := 231) hx hb d_M14_220 (by decide) (fun hq => ?_) (fun hq => absurd hq (by decide))
      refine lv_iload hx hb d_M14_231 (lv_at hl 2 rfl) ?_
      refine lv_iload hx hb d_M14_233 (lv_at hl 1 rfl) ?_
      refine lv_ixor hx hb d_M14_235 ?_
      refine zc_Vw (C := zc_M) S k_M40 (c_M7 l D cZ mo b0 b1 b2 b3 b4 b5 hnd 0 (zr v) (zr n) f2 f3 f4 f5 ((v a) ^^^ (v b))) rfl (mw_pre hK hP) ⟨Nat.le_of_ble_eq_true rfl, Nat.le_of_ble_eq_true rfl⟩ ⟨rfl, rfl⟩ rfl hl.1 rfl (Nat.le_of_ble_eq_true rfl) d_M14_236 ⟨Nat.zero_le _, Nat.zero_le _⟩ hS (fun rv H locs hq hz1 hS => ?_)
      obtain ⟨rfl, g4, g5, h4, h5, hP⟩ := hq
      have hz : H.size = s.heap.size := hz1.trans hz
      clear hz1
      refine lv_iconst (v := 0) hx hb d_M14_239 (by decide) ?_
      refine lv_istore hx hb d_M14_240 hl (by decide) rfl (fun ls hl => ?_)
      have hl : lv_has ls 11 [(8, .int 0), (7, .int (nI (min (zlo (n a)) (zlo (n b))))), (6, .int (v b)), (5, .int (v a)), (0, .ref mo), (1, .int (nI 4)), (2, .int (nI d)), (3, .int (nI a)), (4, .int (nI b))] := hl
      refine zl_loop (fun k H locs ls => k ≤ 32 ∧ H.size = s.heap.size ∧ va_S (fun q => q ∈ [mo, b0, b1, b2, b3, b4, b5]) s.heap H locs ∧ va_P D zC (MW cZ mo b0 b1 b2 b3 b4 b5 0 (zr v) (zr n) f2 f3 g4 (zfl g5 0 k (bt (oN 4 (v a) (v b) (n a) (n b) (v d) (n d))))) H ∧ lv_has ls 11 [(8, .int (nI k)), (7, .int (nI (min (zlo (n a)) (zlo (n b))))), (6, .int (v b)), (5, .int (v a)), (0, .ref mo), (1, .int (nI 4)), (2, .int (nI d)), (3, .int (nI a)), (4, .int (nI b))]) 242 32 (fun k H locs ls h => h.1) ?_ 0 _ _ _ ⟨by omega, hz, hS, by rw [zfl_0]; exact hP, hl⟩
      intro k H locs ls hI ih
      obtain ⟨hk, hz, hS, hP, hl⟩ := hI
      refine lv_iload hx hb d_M14_242 (lv_at hl 0 rfl) ?_
      refine lv_bipush (v := 32) hx hb d_M14_244 (by decide) ?_
      refine lv_icmp_ge (tgt := 384) hx hb d_M14_246 (by decide) (fun hc => ?_) (fun hc => ?_)
      · have hk2 := zi_ge 32 rfl hc hk (by decide)
        rw [hk2] at hP
        refine lv_goto (tgt := 778) hx hb d_M14_384 (by decide) ?_
        exact J _ _ _ ⟨hz, hS, g4, _, h4, fun i hi => zfl_at g5 32 _ hi, hP, lv_sub hl [4, 6] rfl⟩
      · have hk2 := zi_lt 32 rfl hc hk (by decide)
        refine zj_i (x := (zb false)) (pc := 289) (ls := ls) (rest := []) ?_ (fun J9 => ?_)
        · intro z hz9
          subst hz9
          refine lv_istore hx hb d_M14_289 hl (by decide) rfl (fun ls hl => ?_)
          have hl : lv_has ls 11 [(9, .int (zb false)), (8, .int (nI k)), (7, .int (nI (min (zlo (n a)) (zlo (n b))))), (6, .int (v b)), (5, .int (v a)), (0, .ref mo), (1, .int (nI 4)), (2, .int (nI d)), (3, .int (nI a)), (4, .int (nI b))] := hl
          refine zj_i (x := (zb false)) (pc := 333) (ls := ls) (rest := []) ?_ (fun J9 => ?_)
          · intro z hz9
            subst hz9
            refine lv_istore hx hb d_M14_333 hl (by decide) rfl (fun ls hl => ?_)
            have hl : lv_has ls 11 [(10, .int (zb false)), (9, .int (zb false)), (8, .int (nI k)), (7, .int (nI (min (zlo (n a)) (zlo (n b))))), (6, .int (v b)), (5, .int (v a)), (0, .ref mo), (1, .int (nI 4)), (2, .int (nI d)), (3, .int (nI a)), (4, .int (nI b))] := hl
            refine lv_aload_n hx hb d_M14_335 rfl (lv_at hl 6 rfl) ?_
            refine zg_M S hK hP rfl 6 (by decide) zl_M6 rfl d_M14_336 ?_
            refine lv_iload hx hb d_M14_339 (lv_at hl 2 rfl) ?_
            refine lv_aload_n hx hb d_M14_341 rfl (lv_at hl 6 rfl) ?_
            refine lv_iload_n hx hb d_M14_342 rfl (lv_at hl 9 rfl) ?_
            refine lv_iload hx hb d_M14_343 (lv_at hl 2 rfl) ?_
            refine zc_Vi (C := zc_M) S k_M47 (c_M10 l D cZ mo b0 b1 b2 b3 b4 b5 hnd 0 (zr v) (zr n) f2 f3 g4 (zfl g5 0 k (bt (oN 4 (v a) (v b) (n a) (n b) (v d) (n d)))) a k ha (hk2)) rfl (mw_pre hK hP) ⟨Nat.le_of_ble_eq_true rfl, Nat.le_of_ble_eq_true rfl⟩ ⟨rfl, rfl⟩ rfl hl.1 rfl (Nat.le_of_ble_eq_true rfl) d_M14_345 ⟨Nat.zero_le _, Nat.zero_le _⟩ ?_
            rw [zr_at n a k (hk2)]
            refine zj_i (x := (zb ((bt (oN 4 (v a) (v b) (n a) (n b) (v d) (n d))) k))) (pc := 377) (ls := ls) (rest := [.int (nI k), .ref b5]) ?_ (fun J9 => ?_)
            · intro z hz9
              subst hz9
              refine zz_st hx hb hK hP (zd_of rfl hnd) hS 6 0 rfl rfl (j := k) (by omega) (by decide) d_M14_377 (fun H locs hP hS hz1 => ?_)
              have hP : va_P D zC (MW cZ mo b0 b1 b2 b3 b4 b5 0 (zr v) (zr n) f2 f3 g4 (zs (zfl g5 0 k (bt (oN 4 (v a) (v b) (n a) (n b) (v d) (n d)))) (k) ((bt (oN 4 (v a) (v b) (n a) (n b) (v d) (n d))) k))) H := hP
              have hz : H.size = s.heap.size := hz1.trans hz
              clear hz1
              rw [zfl_s0] at hP
              refine lv_iinc (k := 2) (v := (nI (k + 1))) hx hb d_M14_378 hl rfl (zi_inc _) (by decide) rfl (fun ls hl => ?_)
              have hl : lv_has ls 11 [(8, .int (nI (k + 1))), (10, .int (zb false)), (9, .int (zb false)), (7, .int (nI (min (zlo (n a)) (zlo (n b))))), (6, .int (v b)), (5, .int (v a)), (0, .ref mo), (1, .int (nI 4)), (2, .int (nI d)), (3, .int (nI a)), (4, .int (nI b))] := hl
              refine lv_goto (tgt := 242) hx hb d_M14_381 (by decide) ?_
              exact ih _ _ _ ⟨by omega, hz, hS, hP, lv_sub hl [0, 3, 4, 5, 6, 7, 8, 9, 10] rfl⟩
            refine lv_if_ne (tgt := 362) hx hb d_M14_348 (by decide) (fun t1 => ?_) (fun t1 => ?_)
            · refine lv_iload hx hb d_M14_362 (lv_at hl 1 rfl) ?_
              refine lv_if_ne (tgt := 376) hx hb d_M14_364 (by decide) (fun t3 => ?_) (fun t3 => ?_)
              · refine lv_iconst (v := 0) hx hb d_M14_376 (by decide) ?_
                exact J9 _ (by rw [oN_4, b_or]; have t4 := mt (zb_0 _).mpr t3; revert t4; cases bt (n a) k <;> cases bt (n b) k <;> cases bt (v a) k <;> cases bt (v b) k <;> decide)
              · refine lv_iload hx hb d_M14_367 (lv_at hl 0 rfl) ?_
                refine lv_if_ne (tgt := 376) hx hb d_M14_369 (by decide) (fun t4 => ?_) (fun t4 => ?_)
                · refine lv_iconst (v := 0) hx hb d_M14_376 (by decide) ?_
                  exact J9 _ (by rw [oN_4, b_or]; have t5 := mt (zb_0 _).mpr t4; revert t5; cases bt (n a) k <;> cases bt (n b) k <;> cases bt (v a) k <;> cases bt (v b) k <;> decide)
                · refine lv_iconst (v := 1) hx hb d_M14_372 (by decide) ?_
                  refine lv_goto (tgt := 377) hx hb d_M14_373 (by decide) ?_
                  exact J9 _ (by rw [oN_4, b_or]; have t5 := (zb_0 _).mp t3; have t6 := (zb_0 _).mp t4; have t7 := mt (zb_0 _).mpr t1; revert t5 t6 t7; cases bt (n a) k <;> cases bt (n b) k <;> cases bt (v a) k <;> cases bt (v b) k <;> decide)
            · refine lv_aload_n hx hb d_M14_351 rfl (lv_at hl 6 rfl) ?_
              refine lv_iload hx hb d_M14_352 (lv_at hl 10 rfl) ?_
              refine lv_iload hx hb d_M14_354 (lv_at hl 2 rfl) ?_
              refine zc_Vi (C := zc_M) S k_M47 (c_M10 l D cZ mo b0 b1 b2 b3 b4 b5 hnd 0 (zr v) (zr n) f2 f3 g4 (zfl g5 0 k (bt (oN 4 (v a) (v b) (n a) (n b) (v d) (n d)))) b k hb9 (hk2)) rfl (mw_pre hK hP) ⟨Nat.le_of_ble_eq_true rfl, Nat.le_of_ble_eq_true rfl⟩ ⟨rfl, rfl⟩ rfl hl.1 rfl (Nat.le_of_ble_eq_true rfl) d_M14_356 ⟨Nat.zero_le _, Nat.zero_le _⟩ ?_
              rw [zr_at n b k (hk2)]
              refine lv_if_eq (tgt := 376) hx hb d_M14_359 (by decide) (fun t2 => ?_) (fun t2 => ?_)
              · refine lv_iconst (v := 0) hx hb d_M14_376 (by decide) ?_
                exact J9 _ (by rw [oN_4, b_or, (zb_0 _).mp t1, (zb_0 _).mp t2]; rfl)
              · refine lv_iload hx hb d_M14_362 (lv_at hl 1 rfl) ?_
                refine lv_if_ne (tgt := 376) hx hb d_M14_364 (by decide) (fun t3 => ?_) (fun t3 => ?_)
                · refine lv_iconst (v := 0) hx hb d_M14_376 (by decide) ?_
                  exact J9 _ (by rw [oN_4, b_or]; have t4 := mt (zb_0 _).mpr t3; revert t4; cases bt (n a) k <;> cases bt (n b) k <;> cases bt (v a) k <;> cases bt (v b) k <;> decide)
                · refine lv_iload hx hb d_M14_367 (lv_at hl 0 rfl) ?_
                  refine lv_if_ne (tgt := 376) hx hb d_M14_369 (by decide) (fun t4 => ?_) (fun t4 => ?_)
                  · refine lv_iconst (v := 0) hx hb d_M14_376 (by decide) ?_
                    exact J9 _ (by rw [oN_4, b_or]; have t5 := mt (zb_0 _).mpr t4; revert t5; cases bt (n a) k <;> cases bt (n b) k <;> cases bt (v a) k <;> cases bt (v b) k <;> decide)
                  · refine lv_iconst (v := 1) hx hb d_M14_372 (by decide) ?_
                    refine lv_goto (tgt := 377) hx hb d_M14_373 (by decide) ?_
                    exact J9 _ (by rw [oN_4, b_or]; have t5 := (zb_0 _).mp t3; have t6 := (zb_0 _).mp t4; have t7 := mt (zb_0 _).mpr t2; revert t5 t6 t7; cases bt (n a) k <;> cases bt (n b) k <;> cases bt (v a) k <;> cases bt (v b) k <;> decide)
          refine lv_iload_n hx hb d_M14_291 rfl (lv_at hl 6 rfl) ?_
          refine lv_iconst (v := 4) hx hb d_M14_292 (by decide) ?_
          refine lv_icmp_ge (tgt := 332) hx hb d_M14_293 (by decide) (fun hq => ?_) (fun hq => absurd (by decide) hq)
          refine lv_iconst (v := 0) hx hb d_M14_332 (by decide) ?_
          exact J9 _ rfl
        refine lv_iload_n hx hb d_M14_249 rfl (lv_at hl 5 rfl) ?_
        refine lv_iconst (v := 4) hx hb d_M14_250 (by decide) ?_
        refine lv_icmp_ge (tgt := 288) hx hb d_M14_251 (by decide) (fun hq => ?_) (fun hq => absurd (by decide) hq)
        refine lv_iconst (v := 0) hx hb d_M14_288 (by decide) ?_
        exact J9 _ rfl
    · refine lv_tableIn (tgt := 387) hx hb d_M14_106 (by decide) (by decide) rfl (by decide) ?_
      refine lv_aload_n hx hb d_M14_387 rfl (lv_at hl 3 rfl) ?_
      refine lv_iload_n hx hb d_M14_388 rfl (lv_at hl 4 rfl) ?_
      refine lv_iload_n hx hb d_M14_389 rfl (lv_at hl 6 rfl) ?_
      refine lv_iload hx hb d_M14_390 (lv_at hl 7 rfl) ?_
      refine lv_iload hx hb d_M14_392 (lv_at hl 1 rfl) ?_
      refine lv_bipush (v := 31) hx hb d_M14_394 (by decide) ?_
      refine lv_iand hx hb d_M14_396 ?_
      obtain ⟨q, hq9, eq9⟩ := pk_andE (v b) (m := 31) 5 (by decide)
      refine lv_topi (fun zz ez => ?_)
      obtain rfl : zz = (nI q) := ez.trans (eq9)
      refine zc_Vw (C := zc_M) S k_M64 (c_M15 l D cZ mo b0 b1 b2 b3 b4 b5 hnd 0 (zr v) (zr n) f2 f3 f4 f5 5 a b q (by decide) ha hb9 hq9 (v a) (n a) (n b) (fun i hi => zr_at v a i hi) (fun i hi => zr_at n a i hi) (fun i hi => zr_at n b i hi)) rfl (mw_pre hK hP) ⟨Nat.le_of_ble_eq_true rfl, Nat.le_of_ble_eq_true rfl⟩ ⟨rfl, rfl⟩ rfl hl.1 rfl (Nat.le_of_ble_eq_true rfl) d_M14_397 ⟨Nat.zero_le _, Nat.zero_le _⟩ hS (fun rv H locs hq hz1 hS => ?_)
      obtain ⟨rfl, g4, g5, h4, h5, hP⟩ := hq
      have hz : H.size = s.heap.size := hz1.trans hz
      clear hz1
      refine lv_goto (tgt := 778) hx hb d_M14_400 (by decide) ?_
      exact J _ _ _ ⟨hz, hS, g4, g5, fun i hi => by rw [h4 i hi, oV_5, eq9]; rfl, fun i hi => by rw [h5 i hi, oN_5, eq9]; by_cases h : n b &&& 31 = 0; rw [if_pos h, if_pos h]; rfl; rw [if_neg h, if_neg h, b_m1 i hi], hP, lv_sub hl [3, 5] rfl⟩
    · refine lv_tableIn (tgt := 387) hx hb d_M14_106 (by decide) (by decide) rfl (by decide) ?_
      refine lv_aload_n hx hb d_M14_387 rfl (lv_at hl 3 rfl) ?_
      refine lv_iload_n hx hb d_M14_388 rfl (lv_at hl 4 rfl) ?_
      refine lv_iload_n hx hb d_M14_389 rfl (lv_at hl 6 rfl) ?_
      refine lv_iload hx hb d_M14_390 (lv_at hl 7 rfl) ?_
      refine lv_iload hx hb d_M14_392 (lv_at hl 1 rfl) ?_
      refine lv_bipush (v := 31) hx hb d_M14_394 (by decide) ?_
      refine lv_iand hx hb d_M14_396 ?_
      obtain ⟨q, hq9, eq9⟩ := pk_andE (v b) (m := 31) 5 (by decide)
      refine lv_topi (fun zz ez => ?_)
      obtain rfl : zz = (nI q) := ez.trans (eq9)
      refine zc_Vw (C := zc_M) S k_M64 (c_M15 l D cZ mo b0 b1 b2 b3 b4 b5 hnd 0 (zr v) (zr n) f2 f3 f4 f5 6 a b q (by decide) ha hb9 hq9 (v a) (n a) (n b) (fun i hi => zr_at v a i hi) (fun i hi => zr_at n a i hi) (fun i hi => zr_at n b i hi)) rfl (mw_pre hK hP) ⟨Nat.le_of_ble_eq_true rfl, Nat.le_of_ble_eq_true rfl⟩ ⟨rfl, rfl⟩ rfl hl.1 rfl (Nat.le_of_ble_eq_true rfl) d_M14_397 ⟨Nat.zero_le _, Nat.zero_le _⟩ hS (fun rv H locs hq hz1 hS => ?_)
      obtain ⟨rfl, g4, g5, h4, h5, hP⟩ := hq
      have hz : H.size = s.heap.size := hz1.trans hz
      clear hz1
      refine lv_goto (tgt := 778) hx hb d_M14_400 (by decide) ?_
      exact J _ _ _ ⟨hz, hS, g4, g5, fun i hi => by rw [h4 i hi, oV_6, eq9]; rfl, fun i hi => by rw [h5 i hi, oN_6, eq9]; by_cases h : n b &&& 31 = 0; rw [if_pos h, if_pos h]; rfl; rw [if_neg h, if_neg h, b_m1 i hi], hP, lv_sub hl [3, 5] rfl⟩
    · refine lv_tableIn (tgt := 387) hx hb d_M14_106 (by decide) (by decide) rfl (by decide) ?_
      refine lv_aload_n hx hb d_M14_387 rfl (lv_at hl 3 rfl) ?_
      refine lv_iload_n hx hb d_M14_388 rfl (lv_at hl 4 rfl) ?_
      refine lv_iload_n hx hb d_M14_389 rfl (lv_at hl 6 rfl) ?_
      refine lv_iload hx hb d_M14_390 (lv_at hl 7 rfl) ?_
      refine lv_iload hx hb d_M14_392 (lv_at hl 1 rfl) ?_
      refine lv_bipush (v := 31) hx hb d_M14_394 (by decide) ?_
      refine lv_iand hx hb d_M14_396 ?_
      obtain ⟨q, hq9, eq9⟩ := pk_andE (v b) (m := 31) 5 (by decide)
      refine lv_topi (fun zz ez => ?_)
      obtain rfl : zz = (nI q) := ez.trans (eq9)
      refine zc_Vw (C := zc_M) S k_M64 (c_M15 l D cZ mo b0 b1 b2 b3 b4 b5 hnd 0 (zr v) (zr n) f2 f3 f4 f5 7 a b q (by decide) ha hb9 hq9 (v a) (n a) (n b) (fun i hi => zr_at v a i hi) (fun i hi => zr_at n a i hi) (fun i hi => zr_at n b i hi)) rfl (mw_pre hK hP) ⟨Nat.le_of_ble_eq_true rfl, Nat.le_of_ble_eq_true rfl⟩ ⟨rfl, rfl⟩ rfl hl.1 rfl (Nat.le_of_ble_eq_true rfl) d_M14_397 ⟨Nat.zero_le _, Nat.zero_le _⟩ hS (fun rv H locs hq hz1 hS => ?_)
      obtain ⟨rfl, g4, g5, h4, h5, hP⟩ := hq
      have hz : H.size = s.heap.size := hz1.trans hz
      clear hz1
      refine lv_goto (tgt := 778) hx hb d_M14_400 (by decide) ?_
      exact J _ _ _ ⟨hz, hS, g4, g5, fun i hi => by rw [h4 i hi, oV_7, eq9]; rfl, fun i hi => by rw [h5 i hi, oN_7, eq9]; by_cases h : n b &&& 31 = 0; rw [if_pos h, if_pos h]; rfl; rw [if_neg h, if_neg h, b_m1 i hi], hP, lv_sub hl [3, 5] rfl⟩
    · refine lv_tableIn (tgt := 403) hx hb d_M14_106 (by decide) (by decide) rfl (by decide) ?_
      refine lv_aload_n hx hb d_M14_403 rfl (lv_at hl 3 rfl) ?_
      refine lv_iload hx hb d_M14_404 (lv_at hl 2 rfl) ?_
      refine lv_iload hx hb d_M14_406 (lv_at hl 1 rfl) ?_
      refine lv_imul hx hb d_M14_408 ?_
      refine zc_Vw (C := zc_M) S k_M40 (c_M7 l D cZ mo b0 b1 b2 b3 b4 b5 hnd 0 (zr v) (zr n) f2 f3 f4 f5 (v a * v b)) rfl (mw_pre hK hP) ⟨Nat.le_of_ble_eq_true rfl, Nat.le_of_ble_eq_true rfl⟩ ⟨rfl, rfl⟩ rfl hl.1 rfl (Nat.le_of_ble_eq_true rfl) d_M14_409 ⟨Nat.zero_le _, Nat.zero_le _⟩ hS (fun rv H locs hq hz1 hS => ?_)
      obtain ⟨rfl, g4, g5, h4, h5, hP⟩ := hq
      have hz : H.size = s.heap.size := hz1.trans hz
      clear hz1
      refine zj_i (x := (nI (zpp (zlo (n a)) (zlo (v b ||| n b))))) (pc := 450) (ls := ls) (rest := []) ?_ (fun J9 => ?_)
      · intro z hz9
        subst hz9
        refine lv_istore hx hb d_M14_450 hl (by decide) rfl (fun ls hl => ?_)
        have hl : lv_has ls 11 [(8, .int (nI (zpp (zlo (n a)) (zlo (v b ||| n b))))), (7, .int (nI (min (zlo (n a)) (zlo (n b))))), (6, .int (v b)), (5, .int (v a)), (0, .ref mo), (1, .int (nI 8)), (2, .int (nI d)), (3, .int (nI a)), (4, .int (nI b))] := hl
        refine zj_i (x := (nI (zpp (zlo (n b)) (zlo (v a ||| n a))))) (pc := 490) (ls := ls) (rest := []) ?_ (fun J9 => ?_)
        · intro z hz9
          subst hz9
          refine lv_istore hx hb d_M14_490 hl (by decide) rfl (fun ls hl => ?_)
          have hl : lv_has ls 11 [(9, .int (nI (zpp (zlo (n b)) (zlo (v a ||| n a))))), (8, .int (nI (zpp (zlo (n a)) (zlo (v b ||| n b))))), (7, .int (nI (min (zlo (n a)) (zlo (n b))))), (6, .int (v b)), (5, .int (v a)), (0, .ref mo), (1, .int (nI 8)), (2, .int (nI d)), (3, .int (nI a)), (4, .int (nI b))] := hl
          refine lv_aload_n hx hb d_M14_492 rfl (lv_at hl 5 rfl) ?_
          have hb1 : (zpp (zlo (n a)) (zlo (v b ||| n b))) ≤ 64 := by have h1 := zlo_le (n a); have h2 := zlo_le (v b ||| n b); unfold zpp; split <;> omega
          have hb2 : (zpp (zlo (n b)) (zlo (v a ||| n a))) ≤ 64 := by have h1 := zlo_le (n b); have h2 := zlo_le (v a ||| n a); unfold zpp; split <;> omega
          refine zj_i (x := (nI (min (zpp (zlo (n a)) (zlo (v b ||| n b))) (zpp (zlo (n b)) (zlo (v a ||| n a)))))) (pc := 507) (ls := ls) (rest := [.ref mo]) ?_ (fun J8 => ?_)
          · intro z hz9
            subst hz9
            refine zc_Vw (C := zc_M) S k_M61 (c_M13 l D cZ mo b0 b1 b2 b3 b4 b5 hnd 0 (zr v) (zr n) f2 f3 g4 g5 (min (zpp (zlo (n a)) (zlo (v b ||| n b))) (zpp (zlo (n b)) (zlo (v a ||| n a)))) (by omega)) rfl (mw_pre hK hP) ⟨Nat.le_of_ble_eq_true rfl, Nat.le_of_ble_eq_true rfl⟩ ⟨rfl, rfl⟩ rfl hl.1 rfl (Nat.le_of_ble_eq_true rfl) d_M14_507 ⟨Nat.zero_le _, Nat.zero_le _⟩ hS (fun rv H locs hq hz1 hS => ?_)
            obtain ⟨rfl, g6, h6, hP⟩ := hq
            have hz : H.size = s.heap.size := hz1.trans hz
            clear hz1
            refine lv_goto (tgt := 778) hx hb d_M14_510 (by decide) ?_
            exact J _ _ _ ⟨hz, hS, g4, g6, h4, fun i hi => by rw [h6 i hi, oN_8, on_8 _ _ _ _ hi], hP, lv_sub hl [5, 7] rfl⟩
          refine lv_iload hx hb d_M14_493 (lv_at hl 1 rfl) ?_
          refine lv_iload hx hb d_M14_495 (lv_at hl 0 rfl) ?_
          refine lv_icmp_ge (tgt := 505) hx hb d_M14_497 (by decide) (fun g1 => ?_) (fun g1 => ?_)
          · refine lv_iload hx hb d_M14_505 (lv_at hl 0 rfl) ?_
            exact J8 _ (by rw [Nat.min_eq_right ((nI_leI (by omega) (by omega)).mp g1)])
          · refine lv_iload hx hb d_M14_500 (lv_at hl 1 rfl) ?_
            refine lv_goto (tgt := 507) hx hb d_M14_502 (by decide) ?_
            exact J8 _ (by rw [Nat.min_eq_left (by have := mt (nI_leI (a := (zpp (zlo (n b)) (zlo (v a ||| n a)))) (b := (zpp (zlo (n a)) (zlo (v b ||| n b)))) (by omega) (by omega)).mpr g1; omega)])
        refine lv_aload_n hx hb d_M14_452 rfl (lv_at hl 4 rfl) ?_
        refine lv_iload hx hb d_M14_453 (lv_at hl 8 rfl) ?_
        refine zc_Vi (C := zc_M) S k_M58 (c_M11 l D cZ mo b0 b1 b2 b3 b4 b5 hnd 0 (zr v) (zr n) f2 f3 g4 g5 b hb9 (n b) (fun i hi => zr_at n b i hi)) rfl (mw_pre hK hP) ⟨Nat.le_of_ble_eq_true rfl, Nat.le_of_ble_eq_true rfl⟩ ⟨rfl, rfl⟩ rfl hl.1 rfl (Nat.le_of_ble_eq_true rfl) d_M14_455 ⟨Nat.zero_le _, Nat.zero_le _⟩ ?_
        refine lv_bipush (v := 32) hx hb d_M14_458 (by decide) ?_
        have hl9 := zlo_le (n b)
        have hl8 := zlo_le (v a ||| n a)
        refine lv_icmp_eq (tgt := 473) hx hb d_M14_460 (by decide) (fun g1 => ?_) (fun g1 => ?_)
        · refine lv_bipush (v := 32) hx hb d_M14_473 (by decide) ?_
          refine lv_goto (tgt := 490) hx hb d_M14_475 (by decide) ?_
          exact J9 _ (by rw [show (zpp (zlo (n b)) (zlo (v a ||| n a))) = 32 from if_pos (Or.inl ((nI_eq (b := 32) (by omega) (by decide)).mp g1))]; rfl)
        · refine lv_aload_n hx hb d_M14_463 rfl (lv_at hl 4 rfl) ?_
          refine lv_iload_n hx hb d_M14_464 rfl (lv_at hl 7 rfl) ?_
          refine zc_Vi (C := zc_M) S k_M68 (c_M12 l D cZ mo b0 b1 b2 b3 b4 b5 hnd 0 (zr v) (zr n) f2 f3 g4 g5 a ha (v a) (n a) (fun i hi => zr_at v a i hi) (fun i hi => zr_at n a i hi)) rfl (mw_pre hK hP) ⟨Nat.le_of_ble_eq_true rfl, Nat.le_of_ble_eq_true rfl⟩ ⟨rfl, rfl⟩ rfl hl.1 rfl (Nat.le_of_ble_eq_true rfl) d_M14_465 ⟨Nat.zero_le _, Nat.zero_le _⟩ ?_
          refine lv_bipush (v := 32) hx hb d_M14_468 (by decide) ?_
          refine lv_icmp_ne (tgt := 478) hx hb d_M14_470 (by decide) (fun g2 => ?_) (fun g2 => ?_)
          · refine lv_aload_n hx hb d_M14_478 rfl (lv_at hl 4 rfl) ?_
            refine lv_iload hx hb d_M14_479 (lv_at hl 8 rfl) ?_
            refine zc_Vi (C := zc_M) S k_M58 (c_M11 l D cZ mo b0 b1 b2 b3 b4 b5 hnd 0 (zr v) (zr n) f2 f3 g4 g5 b hb9 (n b) (fun i hi => zr_at n b i hi)) rfl (mw_pre hK hP) ⟨Nat.le_of_ble_eq_true rfl, Nat.le_of_ble_eq_true rfl⟩ ⟨rfl, rfl⟩ rfl hl.1 rfl (Nat.le_of_ble_eq_true rfl) d_M14_481 ⟨Nat.zero_le _, Nat.zero_le _⟩ ?_
            refine lv_aload_n hx hb d_M14_484 rfl (lv_at hl 4 rfl) ?_
            refine lv_iload_n hx hb d_M14_485 rfl (lv_at hl 7 rfl) ?_
            refine zc_Vi (C := zc_M) S k_M68 (c_M12 l D cZ mo b0 b1 b2 b3 b4 b5 hnd 0 (zr v) (zr n) f2 f3 g4 g5 a ha (v a) (n a) (fun i hi => zr_at v a i hi) (fun i hi => zr_at n a i hi)) rfl (mw_pre hK hP) ⟨Nat.le_of_ble_eq_true rfl, Nat.le_of_ble_eq_true rfl⟩ ⟨rfl, rfl⟩ rfl hl.1 rfl (Nat.le_of_ble_eq_true rfl) d_M14_486 ⟨Nat.zero_le _, Nat.zero_le _⟩ ?_
            refine lv_iadd hx hb d_M14_489 ?_
            exact J9 _ (by rw [show (zpp (zlo (n b)) (zlo (v a ||| n a))) = (zlo (n b)) + (zlo (v a ||| n a)) from if_neg (fun h => h.elim (fun h => g1 ((nI_eq (b := 32) (by omega) (by decide)).mpr h)) (fun h => g2 ((nI_eq (b := 32) (by omega) (by decide)).mpr h))), nI_add])
          · refine lv_bipush (v := 32) hx hb d_M14_473 (by decide) ?_
            refine lv_goto (tgt := 490) hx hb d_M14_475 (by decide) ?_
            exact J9 _ (by rw [show (zpp (zlo (n b)) (zlo (v a ||| n a))) = 32 from if_pos (Or.inr ((nI_eq (b := 32) (by omega) (by decide)).mp g2))]; rfl)
      refine lv_aload_n hx hb d_M14_412 rfl (lv_at hl 3 rfl) ?_
      refine lv_iload_n hx hb d_M14_413 rfl (lv_at hl 6 rfl) ?_
      refine zc_Vi (C := zc_M) S k_M58 (c_M11 l D cZ mo b0 b1 b2 b3 b4 b5 hnd 0 (zr v) (zr n) f2 f3 g4 g5 a ha (n a) (fun i hi => zr_at n a i hi)) rfl (mw_pre hK hP) ⟨Nat.le_of_ble_eq_true rfl, Nat.le_of_ble_eq_true rfl⟩ ⟨rfl, rfl⟩ rfl hl.1 rfl (Nat.le_of_ble_eq_true rfl) d_M14_414 ⟨Nat.zero_le _, Nat.zero_le _⟩ ?_
      refine lv_bipush (v := 32) hx hb d_M14_417 (by decide) ?_
      have hl9 := zlo_le (n a)
      have hl8 := zlo_le (v b ||| n b)
      refine lv_icmp_eq (tgt := 433) hx hb d_M14_419 (by decide) (fun g1 => ?_) (fun g1 => ?_)
      · refine lv_bipush (v := 32) hx hb d_M14_433 (by decide) ?_
        refine lv_goto (tgt := 450) hx hb d_M14_435 (by decide) ?_
        exact J9 _ (by rw [show (zpp (zlo (n a)) (zlo (v b ||| n b))) = 32 from if_pos (Or.inl ((nI_eq (b := 32) (by omega) (by decide)).mp g1))]; rfl)
      · refine lv_aload_n hx hb d_M14_422 rfl (lv_at hl 3 rfl) ?_
        refine lv_iload hx hb d_M14_423 (lv_at hl 7 rfl) ?_
        refine zc_Vi (C := zc_M) S k_M68 (c_M12 l D cZ mo b0 b1 b2 b3 b4 b5 hnd 0 (zr v) (zr n) f2 f3 g4 g5 b hb9 (v b) (n b) (fun i hi => zr_at v b i hi) (fun i hi => zr_at n b i hi)) rfl (mw_pre hK hP) ⟨Nat.le_of_ble_eq_true rfl, Nat.le_of_ble_eq_true rfl⟩ ⟨rfl, rfl⟩ rfl hl.1 rfl (Nat.le_of_ble_eq_true rfl) d_M14_425 ⟨Nat.zero_le _, Nat.zero_le _⟩ ?_
        refine lv_bipush (v := 32) hx hb d_M14_428 (by decide) ?_
        refine lv_icmp_ne (tgt := 438) hx hb d_M14_430 (by decide) (fun g2 => ?_) (fun g2 => ?_)
        · refine lv_aload_n hx hb d_M14_438 rfl (lv_at hl 3 rfl) ?_
          refine lv_iload_n hx hb d_M14_439 rfl (lv_at hl 6 rfl) ?_
          refine zc_Vi (C := zc_M) S k_M58 (c_M11 l D cZ mo b0 b1 b2 b3 b4 b5 hnd 0 (zr v) (zr n) f2 f3 g4 g5 a ha (n a) (fun i hi => zr_at n a i hi)) rfl (mw_pre hK hP) ⟨Nat.le_of_ble_eq_true rfl, Nat.le_of_ble_eq_true rfl⟩ ⟨rfl, rfl⟩ rfl hl.1 rfl (Nat.le_of_ble_eq_true rfl) d_M14_440 ⟨Nat.zero_le _, Nat.zero_le _⟩ ?_
          refine lv_aload_n hx hb d_M14_443 rfl (lv_at hl 3 rfl) ?_
          refine lv_iload hx hb d_M14_444 (lv_at hl 7 rfl) ?_
          refine zc_Vi (C := zc_M) S k_M68 (c_M12 l D cZ mo b0 b1 b2 b3 b4 b5 hnd 0 (zr v) (zr n) f2 f3 g4 g5 b hb9 (v b) (n b) (fun i hi => zr_at v b i hi) (fun i hi => zr_at n b i hi)) rfl (mw_pre hK hP) ⟨Nat.le_of_ble_eq_true rfl, Nat.le_of_ble_eq_true rfl⟩ ⟨rfl, rfl⟩ rfl hl.1 rfl (Nat.le_of_ble_eq_true rfl) d_M14_446 ⟨Nat.zero_le _, Nat.zero_le _⟩ ?_
          refine lv_iadd hx hb d_M14_449 ?_
          exact J9 _ (by rw [show (zpp (zlo (n a)) (zlo (v b ||| n b))) = (zlo (n a)) + (zlo (v b ||| n b)) from if_neg (fun h => h.elim (fun h => g1 ((nI_eq (b := 32) (by omega) (by decide)).mpr h)) (fun h => g2 ((nI_eq (b := 32) (by omega) (by decide)).mpr h))), nI_add])
        · refine lv_bipush (v := 32) hx hb d_M14_433 (by decide) ?_
          refine lv_goto (tgt := 450) hx hb d_M14_435 (by decide) ?_
          exact J9 _ (by rw [show (zpp (zlo (n a)) (zlo (v b ||| n b))) = 32 from if_pos (Or.inr ((nI_eq (b := 32) (by omega) (by decide)).mp g2))]; rfl)
    · refine lv_tableIn (tgt := 513) hx hb d_M14_106 (by decide) (by decide) rfl (by decide) ?_
      refine lv_aload_n hx hb d_M14_513 rfl (lv_at hl 3 rfl) ?_
      refine lv_iload hx hb d_M14_514 (lv_at hl 2 rfl) ?_
      refine lv_iload hx hb d_M14_516 (lv_at hl 1 rfl) ?_
      refine zd_icmp_ge hx hb d_M14_518 d_M14_521 d_M14_522 d_M14_525 ?_
      refine zc_Vw (C := zc_M) S k_M40 (c_M7 l D cZ mo b0 b1 b2 b3 b4 b5 hnd 0 (zr v) (zr n) f2 f3 f4 f5 (zb (decide (v a < v b)))) rfl (mw_pre hK hP) ⟨Nat.le_of_ble_eq_true rfl, Nat.le_of_ble_eq_true rfl⟩ ⟨rfl, rfl⟩ rfl hl.1 rfl (Nat.le_of_ble_eq_true rfl) d_M14_526 ⟨Nat.zero_le _, Nat.zero_le _⟩ hS (fun rv H locs hq hz1 hS => ?_)
      obtain ⟨rfl, g4, g5, h4, h5, hP⟩ := hq
      have hz : H.size = s.heap.size := hz1.trans hz
      clear hz1
      refine lv_aload_n hx hb d_M14_529 rfl (lv_at hl 3 rfl) ?_
      refine zg_M S hK hP rfl 6 (by decide) zl_M6 rfl d_M14_530 ?_
      refine lv_iconst (v := 0) hx hb d_M14_533 (by decide) ?_
      refine lv_topi (fun zz ez => ?_)
      obtain rfl : zz = (nI 0) := ez.trans (rfl)
      refine zj_i (x := (zb (!decide (zhi (v a) (n a) < zlw (v b) (n b)) && decide (zlw (v a) (n a) < zhi (v b) (n b))))) (pc := 577) (ls := ls) (rest := [.int (nI 0), .ref b5]) ?_ (fun J9 => ?_)
      · intro z hz9
        subst hz9
        refine zz_st hx hb hK hP (zd_of rfl hnd) hS 6 0 rfl rfl (j := 0) (by omega) (by decide) d_M14_577 (fun H locs hP hS hz1 => ?_)
        have hP : va_P D zC (MW cZ mo b0 b1 b2 b3 b4 b5 0 (zr v) (zr n) f2 f3 g4 (zs g5 (0) (!decide (zhi (v a) (n a) < zlw (v b) (n b)) && decide (zlw (v a) (n a) < zhi (v b) (n b))))) H := hP
        have hz : H.size = s.heap.size := hz1.trans hz
        clear hz1
        refine lv_goto (tgt := 778) hx hb d_M14_578 (by decide) ?_
        exact J _ _ _ ⟨hz, hS, g4, _, h4, fun i hi => by rw [oN_9, zb_bit _ hi]; by_cases h : i = 0; rw [h, zs_at, decide_eq_true rfl, Bool.true_and]; rw [zs_ne _ _ h, h5 i hi, decide_eq_false h, Bool.false_and], hP, lv_sub hl [3, 5] rfl⟩
      refine lv_aload_n hx hb d_M14_534 rfl (lv_at hl 3 rfl) ?_
      refine lv_iload_n hx hb d_M14_535 rfl (lv_at hl 6 rfl) ?_
      refine lv_iconst (v := 1) hx hb d_M14_536 (by decide) ?_
      refine lv_iconst (v := 1) hx hb d_M14_537 (by decide) ?_
      refine zc_Vl (C := zc_M) S k_M71 (c_M16 l D cZ mo b0 b1 b2 b3 b4 b5 hnd 0 (zr v) (zr n) f2 f3 g4 g5 a true true ha (v a) (n a) (fun i hi => zr_at v a i hi) (fun i hi => zr_at n a i hi)) rfl (mw_pre hK hP) ⟨Nat.le_of_ble_eq_true rfl, Nat.le_of_ble_eq_true rfl⟩ ⟨rfl, rfl⟩ rfl hl.1 rfl (Nat.le_of_ble_eq_true rfl) d_M14_538 ⟨Nat.zero_le _, Nat.zero_le _⟩ ?_
      refine lv_aload_n hx hb d_M14_541 rfl (lv_at hl 3 rfl) ?_
      refine lv_iload hx hb d_M14_542 (lv_at hl 7 rfl) ?_
      refine lv_iconst (v := 0) hx hb d_M14_544 (by decide) ?_
      refine lv_iconst (v := 1) hx hb d_M14_545 (by decide) ?_
      refine zc_Vl (C := zc_M) S k_M71 (c_M16 l D cZ mo b0 b1 b2 b3 b4 b5 hnd 0 (zr v) (zr n) f2 f3 g4 g5 b false true hb9 (v b) (n b) (fun i hi => zr_at v b i hi) (fun i hi => zr_at n b i hi)) rfl (mw_pre hK hP) ⟨Nat.le_of_ble_eq_true rfl, Nat.le_of_ble_eq_true rfl⟩ ⟨rfl, rfl⟩ rfl hl.1 rfl (Nat.le_of_ble_eq_true rfl) d_M14_546 ⟨Nat.zero_le _, Nat.zero_le _⟩ ?_
      refine W.lcmp hx hb d_M14_549 ?_
      refine lv_if_lt (tgt := 576) hx hb d_M14_550 (by decide) (fun g1 => ?_) (fun g1 => ?_)
      · refine lv_iconst (v := 0) hx hb d_M14_576 (by decide) ?_
        exact J9 _ (by rw [decide_eq_true (show zhi (v a) (n a) < zlw (v b) (n b) from (zel_s (v a) (n a) (v b) (n b) true false).mp ((lg_cmp_lt _ _).mp g1))]; rfl)
      · refine lv_aload_n hx hb d_M14_553 rfl (lv_at hl 3 rfl) ?_
        refine lv_iload_n hx hb d_M14_554 rfl (lv_at hl 6 rfl) ?_
        refine lv_iconst (v := 0) hx hb d_M14_555 (by decide) ?_
        refine lv_iconst (v := 1) hx hb d_M14_556 (by decide) ?_
        refine zc_Vl (C := zc_M) S k_M71 (c_M16 l D cZ mo b0 b1 b2 b3 b4 b5 hnd 0 (zr v) (zr n) f2 f3 g4 g5 a false true ha (v a) (n a) (fun i hi => zr_at v a i hi) (fun i hi => zr_at n a i hi)) rfl (mw_pre hK hP) ⟨Nat.le_of_ble_eq_true rfl, Nat.le_of_ble_eq_true rfl⟩ ⟨rfl, rfl⟩ rfl hl.1 rfl (Nat.le_of_ble_eq_true rfl) d_M14_557 ⟨Nat.zero_le _, Nat.zero_le _⟩ ?_
        refine lv_aload_n hx hb d_M14_560 rfl (lv_at hl 3 rfl) ?_
        refine lv_iload hx hb d_M14_561 (lv_at hl 7 rfl) ?_
        refine lv_iconst (v := 1) hx hb d_M14_563 (by decide) ?_
        refine lv_iconst (v := 1) hx hb d_M14_564 (by decide) ?_
        refine zc_Vl (C := zc_M) S k_M71 (c_M16 l D cZ mo b0 b1 b2 b3 b4 b5 hnd 0 (zr v) (zr n) f2 f3 g4 g5 b true true hb9 (v b) (n b) (fun i hi => zr_at v b i hi) (fun i hi => zr_at n b i hi)) rfl (mw_pre hK hP) ⟨Nat.le_of_ble_eq_true rfl, Nat.le_of_ble_eq_true rfl⟩ ⟨rfl, rfl⟩ rfl hl.1 rfl (Nat.le_of_ble_eq_true rfl) d_M14_565 ⟨Nat.zero_le _, Nat.zero_le _⟩ ?_
        refine W.lcmp hx hb d_M14_568 ?_
        have ng1 : ¬ lg_cmp (zel (v a) (n a) true true) (zel (v b) (n b) false true) < 0 := g1
        refine lv_if_ge (tgt := 576) hx hb d_M14_569 (by decide) (fun g2 => ?_) (fun g2 => ?_)
        · have ng2 : ¬ lg_cmp (zel (v a) (n a) false true) (zel (v b) (n b) true true) < 0 := Int32.not_lt.mpr g2
          refine lv_iconst (v := 0) hx hb d_M14_576 (by decide) ?_
          exact J9 _ (by rw [decide_eq_false (show ¬ zlw (v a) (n a) < zhi (v b) (n b) from fun h => ng2 ((lg_cmp_lt _ _).mpr ((zel_s (v a) (n a) (v b) (n b) false true).mpr h))), Bool.and_false]; rfl)
        · have ng2 : lg_cmp (zel (v a) (n a) false true) (zel (v b) (n b) true true) < 0 := Int32.not_le.mp g2
          refine lv_iconst (v := 1) hx hb d_M14_572 (by decide) ?_
          refine lv_goto (tgt := 577) hx hb d_M14_573 (by decide) ?_
          exact J9 _ (by rw [decide_eq_false (show ¬ zhi (v a) (n a) < zlw (v b) (n b) from fun h => ng1 ((lg_cmp_lt _ _).mpr ((zel_s (v a) (n a) (v b) (n b) true false).mpr h))), decide_eq_true (show zlw (v a) (n a) < zhi (v b) (n b) from (zel_s (v a) (n a) (v b) (n b) false true).mp ((lg_cmp_lt _ _).mp ng2))]; rfl)
    · refine lv_tableIn (tgt := 581) hx hb d_M14_106 (by decide) (by decide) rfl (by decide) ?_
      refine lv_aload_n hx hb d_M14_581 rfl (lv_at hl 3 rfl) ?_
      refine lv_iload hx hb d_M14_582 (lv_at hl 2 rfl) ?_
      refine lv_i2l hx hb d_M14_584 rfl ?_
      refine lv_ldc2 hx hb hown (zw_at hts gx_ffff) d_M14_585 ?_
      refine lv_land hx hb d_M14_588 ?_
      refine lv_iload hx hb d_M14_589 (lv_at hl 1 rfl) ?_
      refine lv_i2l hx hb d_M14_591 rfl ?_
      refine lv_ldc2 hx hb hown (zw_at hts gx_ffff) d_M14_592 ?_
      refine lv_land hx hb d_M14_595 ?_
      refine W.lcmp hx hb d_M14_596 ?_
      refine zd_if_ge hx hb d_M14_597 d_M14_600 d_M14_601 d_M14_604 ?_
      refine lv_topi (fun zz ez => ?_)
      obtain rfl : zz = (zb (zult (v a) (v b))) := ez.trans (by rw [zmsk, zmsk]; congr 1; rw [Bool.eq_iff_iff, decide_eq_true_iff, lg_cmp_lt]; exact zul_lt _ _)
      refine zc_Vw (C := zc_M) S k_M40 (c_M7 l D cZ mo b0 b1 b2 b3 b4 b5 hnd 0 (zr v) (zr n) f2 f3 f4 f5 (zb (zult (v a) (v b)))) rfl (mw_pre hK hP) ⟨Nat.le_of_ble_eq_true rfl, Nat.le_of_ble_eq_true rfl⟩ ⟨rfl, rfl⟩ rfl hl.1 rfl (Nat.le_of_ble_eq_true rfl) d_M14_605 ⟨Nat.zero_le _, Nat.zero_le _⟩ hS (fun rv H locs hq hz1 hS => ?_)
      obtain ⟨rfl, g4, g5, h4, h5, hP⟩ := hq
      have hz : H.size = s.heap.size := hz1.trans hz
      clear hz1
      refine lv_aload_n hx hb d_M14_608 rfl (lv_at hl 3 rfl) ?_
      refine zg_M S hK hP rfl 6 (by decide) zl_M6 rfl d_M14_609 ?_
      refine lv_iconst (v := 0) hx hb d_M14_612 (by decide) ?_
      refine lv_topi (fun zz ez => ?_)
      obtain rfl : zz = (nI 0) := ez.trans (rfl)
      refine zj_i (x := (zb (!zult (v a ||| n a) (v b &&& (n b ^^^ (-1))) && zult (v a &&& (n a ^^^ (-1))) (v b ||| n b)))) (pc := 656) (ls := ls) (rest := [.int (nI 0), .ref b5]) ?_ (fun J9 => ?_)
      · intro z hz9
        subst hz9
        refine zz_st hx hb hK hP (zd_of rfl hnd) hS 6 0 rfl rfl (j := 0) (by omega) (by decide) d_M14_656 (fun H locs hP hS hz1 => ?_)
        have hP : va_P D zC (MW cZ mo b0 b1 b2 b3 b4 b5 0 (zr v) (zr n) f2 f3 g4 (zs g5 (0) (!zult (v a ||| n a) (v b &&& (n b ^^^ (-1))) && zult (v a &&& (n a ^^^ (-1))) (v b ||| n b)))) H := hP
        have hz : H.size = s.heap.size := hz1.trans hz
        clear hz1
        refine lv_goto (tgt := 778) hx hb d_M14_657 (by decide) ?_
        exact J _ _ _ ⟨hz, hS, g4, _, h4, fun i hi => by rw [oN_10, zb_bit _ hi]; by_cases h : i = 0; rw [h, zs_at, decide_eq_true rfl, Bool.true_and]; rw [zs_ne _ _ h, h5 i hi, decide_eq_false h, Bool.false_and], hP, lv_sub hl [3, 5] rfl⟩
      refine lv_aload_n hx hb d_M14_613 rfl (lv_at hl 3 rfl) ?_
      refine lv_iload_n hx hb d_M14_614 rfl (lv_at hl 6 rfl) ?_
      refine lv_iconst (v := 1) hx hb d_M14_615 (by decide) ?_
      refine lv_iconst (v := 0) hx hb d_M14_616 (by decide) ?_
      refine zc_Vl (C := zc_M) S k_M71 (c_M16 l D cZ mo b0 b1 b2 b3 b4 b5 hnd 0 (zr v) (zr n) f2 f3 g4 g5 a true false ha (v a) (n a) (fun i hi => zr_at v a i hi) (fun i hi => zr_at n a i hi)) rfl (mw_pre hK hP) ⟨Nat.le_of_ble_eq_true rfl, Nat.le_of_ble_eq_true rfl⟩ ⟨rfl, rfl⟩ rfl hl.1 rfl (Nat.le_of_ble_eq_true rfl) d_M14_617 ⟨Nat.zero_le _, Nat.zero_le _⟩ ?_
      refine lv_aload_n hx hb d_M14_620 rfl (lv_at hl 3 rfl) ?_
      refine lv_iload hx hb d_M14_621 (lv_at hl 7 rfl) ?_
      refine lv_iconst (v := 0) hx hb d_M14_623 (by decide) ?_
      refine lv_iconst (v := 0) hx hb d_M14_624 (by decide) ?_
      refine zc_Vl (C := zc_M) S k_M71 (c_M16 l D cZ mo b0 b1 b2 b3 b4 b5 hnd 0 (zr v) (zr n) f2 f3 g4 g5 b false false hb9 (v b) (n b) (fun i hi => zr_at v b i hi) (fun i hi => zr_at n b i hi)) rfl (mw_pre hK hP) ⟨Nat.le_of_ble_eq_true rfl, Nat.le_of_ble_eq_true rfl⟩ ⟨rfl, rfl⟩ rfl hl.1 rfl (Nat.le_of_ble_eq_true rfl) d_M14_625 ⟨Nat.zero_le _, Nat.zero_le _⟩ ?_
      refine W.lcmp hx hb d_M14_628 ?_
      refine lv_if_lt (tgt := 655) hx hb d_M14_629 (by decide) (fun g1 => ?_) (fun g1 => ?_)
      · refine lv_iconst (v := 0) hx hb d_M14_655 (by decide) ?_
        exact J9 _ (by rw [show zult (v a ||| n a) (v b &&& (n b ^^^ (-1))) = true from (zel_u (v a) (n a) (v b) (n b) true false).mp ((lg_cmp_lt _ _).mp g1)]; rfl)
      · refine lv_aload_n hx hb d_M14_632 rfl (lv_at hl 3 rfl) ?_
        refine lv_iload_n hx hb d_M14_633 rfl (lv_at hl 6 rfl) ?_
        refine lv_iconst (v := 0) hx hb d_M14_634 (by decide) ?_
        refine lv_iconst (v := 0) hx hb d_M14_635 (by decide) ?_
        refine zc_Vl (C := zc_M) S k_M71 (c_M16 l D cZ mo b0 b1 b2 b3 b4 b5 hnd 0 (zr v) (zr n) f2 f3 g4 g5 a false false ha (v a) (n a) (fun i hi => zr_at v a i hi) (fun i hi => zr_at n a i hi)) rfl (mw_pre hK hP) ⟨Nat.le_of_ble_eq_true rfl, Nat.le_of_ble_eq_true rfl⟩ ⟨rfl, rfl⟩ rfl hl.1 rfl (Nat.le_of_ble_eq_true rfl) d_M14_636 ⟨Nat.zero_le _, Nat.zero_le _⟩ ?_
        refine lv_aload_n hx hb d_M14_639 rfl (lv_at hl 3 rfl) ?_
        refine lv_iload hx hb d_M14_640 (lv_at hl 7 rfl) ?_
        refine lv_iconst (v := 1) hx hb d_M14_642 (by decide) ?_
        refine lv_iconst (v := 0) hx hb d_M14_643 (by decide) ?_
        refine zc_Vl (C := zc_M) S k_M71 (c_M16 l D cZ mo b0 b1 b2 b3 b4 b5 hnd 0 (zr v) (zr n) f2 f3 g4 g5 b true false hb9 (v b) (n b) (fun i hi => zr_at v b i hi) (fun i hi => zr_at n b i hi)) rfl (mw_pre hK hP) ⟨Nat.le_of_ble_eq_true rfl, Nat.le_of_ble_eq_true rfl⟩ ⟨rfl, rfl⟩ rfl hl.1 rfl (Nat.le_of_ble_eq_true rfl) d_M14_644 ⟨Nat.zero_le _, Nat.zero_le _⟩ ?_
        refine W.lcmp hx hb d_M14_647 ?_
        have ng1 : ¬ lg_cmp (zel (v a) (n a) true false) (zel (v b) (n b) false false) < 0 := g1
        refine lv_if_ge (tgt := 655) hx hb d_M14_648 (by decide) (fun g2 => ?_) (fun g2 => ?_)
        · have ng2 : ¬ lg_cmp (zel (v a) (n a) false false) (zel (v b) (n b) true false) < 0 := Int32.not_lt.mpr g2
          refine lv_iconst (v := 0) hx hb d_M14_655 (by decide) ?_
          exact J9 _ (by rw [show zult (v a &&& (n a ^^^ (-1))) (v b ||| n b) = false from Bool.eq_false_iff.mpr (fun h => ng2 ((lg_cmp_lt _ _).mpr ((zel_u (v a) (n a) (v b) (n b) false true).mpr h))), Bool.and_false]; rfl)
        · have ng2 : lg_cmp (zel (v a) (n a) false false) (zel (v b) (n b) true false) < 0 := Int32.not_le.mp g2
          refine lv_iconst (v := 1) hx hb d_M14_651 (by decide) ?_
          refine lv_goto (tgt := 656) hx hb d_M14_652 (by decide) ?_
          exact J9 _ (by rw [show zult (v a ||| n a) (v b &&& (n b ^^^ (-1))) = false from Bool.eq_false_iff.mpr (fun h => ng1 ((lg_cmp_lt _ _).mpr ((zel_u (v a) (n a) (v b) (n b) true false).mpr h))), show zult (v a &&& (n a ^^^ (-1))) (v b ||| n b) = true from (zel_u (v a) (n a) (v b) (n b) false true).mp ((lg_cmp_lt _ _).mp ng2)]; rfl)
    · refine lv_tableIn (tgt := 660) hx hb d_M14_106 (by decide) (by decide) rfl (by decide) ?_
      refine lv_aload_n hx hb d_M14_660 rfl (lv_at hl 3 rfl) ?_
      refine lv_iload hx hb d_M14_661 (lv_at hl 2 rfl) ?_
      refine lv_iload hx hb d_M14_663 (lv_at hl 1 rfl) ?_
      refine zd_icmp_ne hx hb d_M14_665 d_M14_668 d_M14_669 d_M14_672 ?_
      refine zc_Vw (C := zc_M) S k_M40 (c_M7 l D cZ mo b0 b1 b2 b3 b4 b5 hnd 0 (zr v) (zr n) f2 f3 f4 f5 (zb (decide (v a = v b)))) rfl (mw_pre hK hP) ⟨Nat.le_of_ble_eq_true rfl, Nat.le_of_ble_eq_true rfl⟩ ⟨rfl, rfl⟩ rfl hl.1 rfl (Nat.le_of_ble_eq_true rfl) d_M14_673 ⟨Nat.zero_le _, Nat.zero_le _⟩ hS (fun rv H locs hq hz1 hS => ?_)
      obtain ⟨rfl, g4, g5, h4, h5, hP⟩ := hq
      have hz : H.size = s.heap.size := hz1.trans hz
      clear hz1
      refine lv_iconst (v := 0) hx hb d_M14_676 (by decide) ?_
      refine lv_istore hx hb d_M14_677 hl (by decide) rfl (fun ls hl => ?_)
      have hl : lv_has ls 11 [(8, .int 0), (7, .int (nI (min (zlo (n a)) (zlo (n b))))), (6, .int (v b)), (5, .int (v a)), (0, .ref mo), (1, .int (nI 11)), (2, .int (nI d)), (3, .int (nI a)), (4, .int (nI b))] := hl
      refine lv_iconst (v := 1) hx hb d_M14_679 (by decide) ?_
      refine lv_istore hx hb d_M14_680 hl (by decide) rfl (fun ls hl => ?_)
      have hl : lv_has ls 11 [(9, .int 1), (8, .int 0), (7, .int (nI (min (zlo (n a)) (zlo (n b))))), (6, .int (v b)), (5, .int (v a)), (0, .ref mo), (1, .int (nI 11)), (2, .int (nI d)), (3, .int (nI a)), (4, .int (nI b))] := hl
      refine lv_iconst (v := 0) hx hb d_M14_682 (by decide) ?_
      refine lv_istore hx hb d_M14_683 hl (by decide) rfl (fun ls hl => ?_)
      have hl : lv_has ls 11 [(10, .int 0), (9, .int 1), (8, .int 0), (7, .int (nI (min (zlo (n a)) (zlo (n b))))), (6, .int (v b)), (5, .int (v a)), (0, .ref mo), (1, .int (nI 11)), (2, .int (nI d)), (3, .int (nI a)), (4, .int (nI b))] := hl
      refine zl_loop (fun k H9 locs9 ls => H9 = H ∧ locs9 = locs ∧ k ≤ 32 ∧ lv_has ls 11 [(10, .int (nI k)), (9, .int (zb (!zany (fun i => bt (n a) i || bt (n b) i) k))), (8, .int (zb (zany (fun i => !(bt (n a) i || bt (n b) i) && (bt (v a) i != bt (v b) i)) k))), (7, .int (nI (min (zlo (n a)) (zlo (n b))))), (6, .int (v b)), (5, .int (v a)), (0, .ref mo), (1, .int (nI 11)), (2, .int (nI d)), (3, .int (nI a)), (4, .int (nI b))]) 685 32 (fun k H locs ls h => h.2.2.1) ?_ 0 _ _ _ ⟨rfl, rfl, by omega, hl⟩
      intro k H9 locs9 ls hI ih
      obtain ⟨rfl, rfl, hk, hl⟩ := hI
      refine lv_iload hx hb d_M14_685 (lv_at hl 0 rfl) ?_
      refine lv_bipush (v := 32) hx hb d_M14_687 (by decide) ?_
      refine lv_icmp_ge (tgt := 746) hx hb d_M14_689 (by decide) (fun hc => ?_) (fun hc => ?_)
      · have hk2 := zi_ge 32 rfl hc hk (by decide)
        rw [hk2] at hl
        refine lv_aload_n hx hb d_M14_746 rfl (lv_at hl 6 rfl) ?_
        refine zg_M S hK hP rfl 6 (by decide) zl_M6 rfl d_M14_747 ?_
        refine lv_iconst (v := 0) hx hb d_M14_750 (by decide) ?_
        refine lv_topi (fun zz ez => ?_)
        obtain rfl : zz = (nI 0) := ez.trans (rfl)
        refine zj_i (x := (zb (!zany (fun i => !(bt (n a) i || bt (n b) i) && (bt (v a) i != bt (v b) i)) 32 && zany (fun i => bt (n a) i || bt (n b) i) 32))) (pc := 766) (ls := ls) (rest := [.int (nI 0), .ref b5]) ?_ (fun J9 => ?_)
        · intro z hz9
          subst hz9
          refine zz_st hx hb hK hP (zd_of rfl hnd) hS 6 0 rfl rfl (j := 0) (by omega) (by decide) d_M14_766 (fun H locs hP hS hz1 => ?_)
          have hP : va_P D zC (MW cZ mo b0 b1 b2 b3 b4 b5 0 (zr v) (zr n) f2 f3 g4 (zs g5 (0) (!zany (fun i => !(bt (n a) i || bt (n b) i) && (bt (v a) i != bt (v b) i)) 32 && zany (fun i => bt (n a) i || bt (n b) i) 32))) H := hP
          have hz : H.size = s.heap.size := hz1.trans hz
          clear hz1
          refine lv_goto (tgt := 778) hx hb d_M14_767 (by decide) ?_
          exact J _ _ _ ⟨hz, hS, g4, _, h4, fun i hi => by rw [oN_11, on_11, zb_bit _ hi]; by_cases h : i = 0; rw [h, zs_at, decide_eq_true rfl, Bool.true_and]; rw [zs_ne _ _ h, h5 i hi, decide_eq_false h, Bool.false_and], hP, lv_sub hl [6, 8] rfl⟩
        refine lv_iload hx hb d_M14_751 (lv_at hl 2 rfl) ?_
        refine lv_if_ne (tgt := 765) hx hb d_M14_753 (by decide) (fun g1 => ?_) (fun g1 => ?_)
        · refine lv_iconst (v := 0) hx hb d_M14_765 (by decide) ?_
          exact J9 _ (by rw [show zany (fun i => !(bt (n a) i || bt (n b) i) && (bt (v a) i != bt (v b) i)) 32 = true by simpa using mt (zb_0 _).mpr g1]; rfl)
        · refine lv_iload hx hb d_M14_756 (lv_at hl 1 rfl) ?_
          refine lv_if_ne (tgt := 765) hx hb d_M14_758 (by decide) (fun g2 => ?_) (fun g2 => ?_)
          · refine lv_iconst (v := 0) hx hb d_M14_765 (by decide) ?_
            exact J9 _ (by rw [show zany (fun i => bt (n a) i || bt (n b) i) 32 = false by simpa using mt (zb_0 _).mpr g2, Bool.and_false]; rfl)
          · refine lv_iconst (v := 1) hx hb d_M14_761 (by decide) ?_
            refine lv_goto (tgt := 766) hx hb d_M14_762 (by decide) ?_
            exact J9 _ (by rw [(zb_0 _).mp g1, show zany (fun i => bt (n a) i || bt (n b) i) 32 = true by simpa using (zb_0 _).mp g2]; rfl)
      · have hk2 := zi_lt 32 rfl hc hk (by decide)
        refine lv_aload_n hx hb d_M14_692 rfl (lv_at hl 6 rfl) ?_
        refine lv_iload_n hx hb d_M14_693 rfl (lv_at hl 9 rfl) ?_
        refine lv_iload hx hb d_M14_694 (lv_at hl 0 rfl) ?_
        refine zc_Vi (C := zc_M) S k_M47 (c_M10 l D cZ mo b0 b1 b2 b3 b4 b5 hnd 0 (zr v) (zr n) f2 f3 g4 g5 a k ha (hk2)) rfl (mw_pre hK hP) ⟨Nat.le_of_ble_eq_true rfl, Nat.le_of_ble_eq_true rfl⟩ ⟨rfl, rfl⟩ rfl hl.1 rfl (Nat.le_of_ble_eq_true rfl) d_M14_696 ⟨Nat.zero_le _, Nat.zero_le _⟩ ?_
        rw [zr_at n a k (hk2)]
        refine lv_if_ne (tgt := 713) hx hb d_M14_699 (by decide) (fun g1 => ?_) (fun g1 => ?_)
        · refine lv_iconst (v := 0) hx hb d_M14_713 (by decide) ?_
          refine lv_istore hx hb d_M14_714 hl (by decide) rfl (fun ls hl => ?_)
          have hl : lv_has ls 11 [(9, .int 0), (10, .int (nI k)), (8, .int (zb (zany (fun i => !(bt (n a) i || bt (n b) i) && (bt (v a) i != bt (v b) i)) k))), (7, .int (nI (min (zlo (n a)) (zlo (n b))))), (6, .int (v b)), (5, .int (v a)), (0, .ref mo), (1, .int (nI 11)), (2, .int (nI d)), (3, .int (nI a)), (4, .int (nI b))] := hl
          refine lv_goto (tgt := 740) hx hb d_M14_716 (by decide) ?_
          refine lv_iinc (k := 1) (v := (nI (k + 1))) hx hb d_M14_740 hl rfl (zi_inc _) (by decide) rfl (fun ls hl => ?_)
          have hl : lv_has ls 11 [(10, .int (nI (k + 1))), (9, .int 0), (8, .int (zb (zany (fun i => !(bt (n a) i || bt (n b) i) && (bt (v a) i != bt (v b) i)) k))), (7, .int (nI (min (zlo (n a)) (zlo (n b))))), (6, .int (v b)), (5, .int (v a)), (0, .ref mo), (1, .int (nI 11)), (2, .int (nI d)), (3, .int (nI a)), (4, .int (nI b))] := hl
          refine lv_goto (tgt := 685) hx hb d_M14_743 (by decide) ?_
          exact ih _ _ _ ⟨rfl, rfl, by omega, by rw [zany, zany, show bt (n a) k = true by simpa using mt (zb_0 _).mpr g1, Bool.true_or, Bool.not_true, Bool.false_and, Bool.or_false, Bool.or_true]; exact lv_sub hl [0, 1, 2, 3, 4, 5, 6, 7, 8, 9, 10] rfl⟩
        · refine lv_aload_n hx hb d_M14_702 rfl (lv_at hl 6 rfl) ?_
          refine lv_iload hx hb d_M14_703 (lv_at hl 10 rfl) ?_
          refine lv_iload hx hb d_M14_705 (lv_at hl 0 rfl) ?_
          refine zc_Vi (C := zc_M) S k_M47 (c_M10 l D cZ mo b0 b1 b2 b3 b4 b5 hnd 0 (zr v) (zr n) f2 f3 g4 g5 b k hb9 (hk2)) rfl (mw_pre hK hP) ⟨Nat.le_of_ble_eq_true rfl, Nat.le_of_ble_eq_true rfl⟩ ⟨rfl, rfl⟩ rfl hl.1 rfl (Nat.le_of_ble_eq_true rfl) d_M14_707 ⟨Nat.zero_le _, Nat.zero_le _⟩ ?_
          rw [zr_at n b k (hk2)]
          refine lv_if_eq (tgt := 719) hx hb d_M14_710 (by decide) (fun g2 => ?_) (fun g2 => ?_)
          · refine lv_aload_n hx hb d_M14_719 rfl (lv_at hl 6 rfl) ?_
            refine lv_iload_n hx hb d_M14_720 rfl (lv_at hl 9 rfl) ?_
            refine lv_iload hx hb d_M14_721 (lv_at hl 0 rfl) ?_
            refine zc_Vi (C := zc_M) S k_M51 (c_M9 l D cZ mo b0 b1 b2 b3 b4 b5 hnd 0 (zr v) (zr n) f2 f3 g4 g5 a k ha (hk2)) rfl (mw_pre hK hP) ⟨Nat.le_of_ble_eq_true rfl, Nat.le_of_ble_eq_true rfl⟩ ⟨rfl, rfl⟩ rfl hl.1 rfl (Nat.le_of_ble_eq_true rfl) d_M14_723 ⟨Nat.zero_le _, Nat.zero_le _⟩ ?_
            rw [zr_at v a k (hk2)]
            refine lv_aload_n hx hb d_M14_726 rfl (lv_at hl 6 rfl) ?_
            refine lv_iload hx hb d_M14_727 (lv_at hl 10 rfl) ?_
            refine lv_iload hx hb d_M14_729 (lv_at hl 0 rfl) ?_
            refine zc_Vi (C := zc_M) S k_M51 (c_M9 l D cZ mo b0 b1 b2 b3 b4 b5 hnd 0 (zr v) (zr n) f2 f3 g4 g5 b k hb9 (hk2)) rfl (mw_pre hK hP) ⟨Nat.le_of_ble_eq_true rfl, Nat.le_of_ble_eq_true rfl⟩ ⟨rfl, rfl⟩ rfl hl.1 rfl (Nat.le_of_ble_eq_true rfl) d_M14_731 ⟨Nat.zero_le _, Nat.zero_le _⟩ ?_
            rw [zr_at v b k (hk2)]
            refine lv_icmp_eq (tgt := 740) hx hb d_M14_734 (by decide) (fun g3 => ?_) (fun g3 => ?_)
            · refine lv_iinc (k := 0) (v := (nI (k + 1))) hx hb d_M14_740 hl rfl (zi_inc _) (by decide) rfl (fun ls hl => ?_)
              have hl : lv_has ls 11 [(10, .int (nI (k + 1))), (9, .int (zb (!zany (fun i => bt (n a) i || bt (n b) i) k))), (8, .int (zb (zany (fun i => !(bt (n a) i || bt (n b) i) && (bt (v a) i != bt (v b) i)) k))), (7, .int (nI (min (zlo (n a)) (zlo (n b))))), (6, .int (v b)), (5, .int (v a)), (0, .ref mo), (1, .int (nI 11)), (2, .int (nI d)), (3, .int (nI a)), (4, .int (nI b))] := hl
              refine lv_goto (tgt := 685) hx hb d_M14_743 (by decide) ?_
              exact ih _ _ _ ⟨rfl, rfl, by omega, by simp only [zany]; rw [(zb_0 _).mp g1, (zb_0 _).mp g2, Bool.or_false, Bool.or_false, Bool.not_false, Bool.true_and, zb_inj.mp g3, bne_self_eq_false, Bool.or_false]; exact lv_sub hl [0, 1, 2, 3, 4, 5, 6, 7, 8, 9, 10] rfl⟩
            · refine lv_iconst (v := 1) hx hb d_M14_737 (by decide) ?_
              refine lv_istore hx hb d_M14_738 hl (by decide) rfl (fun ls hl => ?_)
              have hl : lv_has ls 11 [(8, .int 1), (10, .int (nI k)), (9, .int (zb (!zany (fun i => bt (n a) i || bt (n b) i) k))), (7, .int (nI (min (zlo (n a)) (zlo (n b))))), (6, .int (v b)), (5, .int (v a)), (0, .ref mo), (1, .int (nI 11)), (2, .int (nI d)), (3, .int (nI a)), (4, .int (nI b))] := hl
              refine lv_iinc (k := 1) (v := (nI (k + 1))) hx hb d_M14_740 hl rfl (zi_inc _) (by decide) rfl (fun ls hl => ?_)
              have hl : lv_has ls 11 [(10, .int (nI (k + 1))), (8, .int 1), (9, .int (zb (!zany (fun i => bt (n a) i || bt (n b) i) k))), (7, .int (nI (min (zlo (n a)) (zlo (n b))))), (6, .int (v b)), (5, .int (v a)), (0, .ref mo), (1, .int (nI 11)), (2, .int (nI d)), (3, .int (nI a)), (4, .int (nI b))] := hl
              refine lv_goto (tgt := 685) hx hb d_M14_743 (by decide) ?_
              exact ih _ _ _ ⟨rfl, rfl, by omega, by simp only [zany]; rw [(zb_0 _).mp g1, (zb_0 _).mp g2, Bool.or_false, Bool.or_false, Bool.not_false, Bool.true_and, show (bt (v a) k != bt (v b) k) = true from bne_iff_ne.mpr (mt zb_inj.mpr g3), Bool.or_true]; exact lv_sub hl [0, 2, 1, 3, 4, 5, 6, 7, 8, 9, 10] rfl⟩
          · refine lv_iconst (v := 0) hx hb d_M14_713 (by decide) ?_
            refine lv_istore hx hb d_M14_714 hl (by decide) rfl (fun ls hl => ?_)
            have hl : lv_has ls 11 [(9, .int 0), (10, .int (nI k)), (8, .int (zb (zany (fun i => !(bt (n a) i || bt (n b) i) && (bt (v a) i != bt (v b) i)) k))), (7, .int (nI (min (zlo (n a)) (zlo (n b))))), (6, .int (v b)), (5, .int (v a)), (0, .ref mo), (1, .int (nI 11)), (2, .int (nI d)), (3, .int (nI a)), (4, .int (nI b))] := hl
            refine lv_goto (tgt := 740) hx hb d_M14_716 (by decide) ?_
            refine lv_iinc (k := 1) (v := (nI (k + 1))) hx hb d_M14_740 hl rfl (zi_inc _) (by decide) rfl (fun ls hl => ?_)
            have hl : lv_has ls 11 [(10, .int (nI (k + 1))), (9, .int 0), (8, .int (zb (zany (fun i => !(bt (n a) i || bt (n b) i) && (bt (v a) i != bt (v b) i)) k))), (7, .int (nI (min (zlo (n a)) (zlo (n b))))), (6, .int (v b)), (5, .int (v a)), (0, .ref mo), (1, .int (nI 11)), (2, .int (nI d)), (3, .int (nI a)), (4, .int (nI b))] := hl
            refine lv_goto (tgt := 685) hx hb d_M14_743 (by decide) ?_
            exact ih _ _ _ ⟨rfl, rfl, by omega, by rw [zany, zany, show bt (n b) k = true by simpa using mt (zb_0 _).mpr g2, Bool.or_true, Bool.not_true, Bool.false_and, Bool.or_false, Bool.or_true]; exact lv_sub hl [0, 1, 2, 3, 4, 5, 6, 7, 8, 9, 10] rfl⟩
    · refine lv_tableOut (tgt := 770) hx hb d_M14_106 (by decide) (by decide) ?_
      refine lv_aload_n hx hb d_M14_770 rfl (lv_at hl 3 rfl) ?_
      refine lv_iload_n hx hb d_M14_771 rfl (lv_at hl 5 rfl) ?_
      refine lv_iload_n hx hb d_M14_772 rfl (lv_at hl 6 rfl) ?_
      refine lv_iload hx hb d_M14_773 (lv_at hl 7 rfl) ?_
      refine zc_Vw (C := zc_M) S k_M77 (c_M17 l D cZ mo b0 b1 b2 b3 b4 b5 hnd 0 (zr v) (zr n) f2 f3 f4 f5 d a b hd ha hb9 (v a) (n a) (v b) (n b) (v d) (n d) (fun i hi => zr_at v a i hi) (fun i hi => zr_at n a i hi) (fun i hi => zr_at v b i hi) (fun i hi => zr_at n b i hi) (fun i hi => zr_at v d i hi) (fun i hi => zr_at n d i hi)) rfl (mw_pre hK hP) ⟨Nat.le_of_ble_eq_true rfl, Nat.le_of_ble_eq_true rfl⟩ ⟨rfl, rfl⟩ rfl hl.1 rfl (Nat.le_of_ble_eq_true rfl) d_M14_775 ⟨Nat.zero_le _, Nat.zero_le _⟩ hS (fun rv H locs hq hz1 hS => ?_)
      obtain ⟨rfl, g4, g5, h4, h5, hP⟩ := hq
      have hz : H.size = s.heap.size := hz1.trans hz
      clear hz1
      exact J _ _ _ ⟨hz, hS, g4, g5, h4, h5, hP, lv_sub hl [3, 5] rfl⟩
  refine lv_icmp_ge (tgt := 97) hx hb d_M14_86 (by decide) (fun hc => ?_) (fun hc => ?_)
  · refine lv_aload_n hx hb d_M14_97 rfl (lv_at hl 2 rfl) ?_
    refine lv_iload hx hb d_M14_98 (lv_at hl 6 rfl) ?_
    refine zc_Vi (C := zc_M) S k_M58 (c_M11 l D cZ mo b0 b1 b2 b3 b4 b5 hnd 0 (zr v) (zr n) f2 f3 f4 f5 b hb9 (n b) (fun i hi => zr_at n b i hi)) rfl (mw_pre hK hP) ⟨Nat.le_of_ble_eq_true rfl, Nat.le_of_ble_eq_true rfl⟩ ⟨rfl, rfl⟩ rfl hl.1 rfl (Nat.le_of_ble_eq_true rfl) d_M14_100 ⟨Nat.zero_le _, Nat.zero_le _⟩ ?_
    exact J _ (by rw [Nat.min_eq_right ((nI_leI (by omega) (by omega)).mp hc)])
  · refine lv_aload_n hx hb d_M14_89 rfl (lv_at hl 2 rfl) ?_
    refine lv_iload_n hx hb d_M14_90 rfl (lv_at hl 5 rfl) ?_
    refine zc_Vi (C := zc_M) S k_M58 (c_M11 l D cZ mo b0 b1 b2 b3 b4 b5 hnd 0 (zr v) (zr n) f2 f3 f4 f5 a ha (n a) (fun i hi => zr_at n a i hi)) rfl (mw_pre hK hP) ⟨Nat.le_of_ble_eq_true rfl, Nat.le_of_ble_eq_true rfl⟩ ⟨rfl, rfl⟩ rfl hl.1 rfl (Nat.le_of_ble_eq_true rfl) d_M14_91 ⟨Nat.zero_le _, Nat.zero_le _⟩ ?_
    refine lv_goto (tgt := 103) hx hb d_M14_94 (by decide) ?_
    exact J _ (by rw [Nat.min_eq_left (by have := mt (nI_leI (a := zlo (n b)) (b := zlo (n a)) (by omega) (by omega)).mpr hc; omega)])
end
section
/-! bytes and bits -/
theorem z8_bit (x : Int32) {j : Nat} (hj : j < 8) : x.toInt8.toBitVec.getLsbD j = bt x j := by
  rw [Int32.toBitVec_toInt8, BitVec.getLsbD_signExtend]
  simp [hj, bt]
  omega
theorem z32_bit (b : Int8) {j : Nat} (hj : j < 32) : bt b.toInt32 j = if j < 8 then b.toBitVec.getLsbD j else b.toBitVec.getLsbD 7 := by
  unfold bt
  rw [Int8.toBitVec_toInt32, BitVec.getLsbD_signExtend, BitVec.msb_eq_getLsbD_last]
  simp [hj]
theorem zby_bit (V : Int32) {k j : Nat} (hk : k < 4) (hj : j < 8) : (zby V k).toBitVec.getLsbD j = bt V (8 * k + j) := by
  unfold zby
  rw [z8_bit _ hj, show (8 : Int32) * nI k = nI (8 * k) from pk_mul 8 k, b_sshr (8 * k) (by omega) V (by omega), if_pos (by omega)]
theorem zo_put (mm : Nat → Int8) (u : Nat) {nn : Nat} (hn : nn ≤ 4) (V : Int32) : zfl (zo mm) (8 * u) (8 * nn) (bt V) = zo (zst mm u nn V) := by
  funext j
  unfold zfl zo zst
  by_cases h : 8 * u ≤ j ∧ j < 8 * u + 8 * nn
  · rw [if_pos h, if_pos (by omega), zby_bit V (by omega) (by omega)]
    congr 1
    omega
  · rw [if_neg h, if_neg (by omega)]
theorem z255 (b : Int8) {j : Nat} (hj : j < 32) : bt (b.toInt32 &&& 255) j = (decide (j < 8) && b.toBitVec.getLsbD j) := by
  rw [b_and, z32_bit b hj, b_255]
  by_cases h : j < 8
  · rw [if_pos h, decide_eq_true h, Bool.and_true, Bool.true_and]
  · rw [decide_eq_false h, Bool.and_false, Bool.false_and]
theorem zjl_bit (f : Nat → Int8) (u : Nat) : ∀ (k : Nat) (x : Int32) {i : Nat}, i < 32 → bt (zjl f u k x) i = if i < 8 * k then zo f (8 * u + i) else bt x (i - 8 * k)
  | 0, x, i, hi => by rw [zjl, if_neg (by omega)]; rfl
  | k + 1, x, i, hi => by
    rw [zjl, zjl_bit f u k _ hi]
    by_cases h : i < 8 * k
    · rw [if_pos h, if_pos (by omega)]
    · rw [if_neg h, b_or, b_shl8 x (by omega), z255 _ (by omega)]
      by_cases h2 : i < 8 * (k + 1)
      · rw [if_pos h2, decide_eq_false (p := 8 ≤ i - 8 * k) (by omega), decide_eq_true (p := i - 8 * k < 8) (by omega), Bool.false_and, Bool.false_or, Bool.true_and]
        rw [show 8 * u + i = 8 * (u + k) + (i - 8 * k) by omega, zo_at f (u + k) _ (by omega)]
      · rw [if_neg h2, decide_eq_true (p := 8 ≤ i - 8 * k) (by omega), decide_eq_false (p := i - 8 * k < 8) (by omega), Bool.true_and, Bool.false_and, Bool.or_false]
        congr 1
theorem zjo_bit (f : Nat → Int8) (u : Nat) {nn : Nat} (h0 : 1 ≤ nn) (h4 : nn ≤ 4) (sg : Bool) {i : Nat} (hi : i < 32) : bt (zjo f u nn sg) i = if i < 8 * nn then zo f (8 * u + i) else (sg && zo f (8 * u + (8 * nn - 1))) := by
  unfold zjo
  rw [zjl_bit f u (nn - 1) _ hi]
  by_cases h : i < 8 * (nn - 1)
  · rw [if_pos h, if_pos (by omega)]
  · rw [if_neg h]
    by_cases h2 : i < 8 * nn
    · rw [if_pos h2, show 8 * u + i = 8 * (u + nn - 1) + (i - 8 * (nn - 1)) by omega, zo_at f _ _ (by omega)]
      cases sg
      · rw [if_neg (by decide), z255 _ (by omega), decide_eq_true (by omega), Bool.true_and]
      · rw [if_pos rfl, z32_bit _ (by omega), if_pos (by omega)]
    · rw [if_neg h2, show 8 * u + (8 * nn - 1) = 8 * (u + nn - 1) + 7 by omega, zo_at f _ _ (by omega)]
      cases sg
      · rw [if_neg (by decide), z255 _ (by omega), decide_eq_false (by omega), Bool.false_and, Bool.false_and]
      · rw [if_pos rfl, z32_bit _ (by omega), if_neg (by omega), Bool.true_and]
/-! two bytes as one number -/
def zoc (a b : Int8) : Int32 := (a.toInt32 &&& 255) ||| ((b.toInt32 &&& 255) <<< ((8 : Int32) &&& 31))
theorem zbit_n (a i : Nat) {j : Nat} (hj : j < 32) (h : a < 2 ^ 32) : bt (nI a) j = a.testBit j := by
  show (nI a).toBitVec.toNat.testBit j = _
  rw [pk_tn h]
theorem zoc_n (a b : Int8) : zoc a b = nI (a.toBitVec.toNat + 256 * b.toBitVec.toNat) := by
  have h1 := a.toBitVec.isLt
  have h2 := b.toBitVec.isLt
  refine b_ext (fun i hi => ?_)
  unfold zoc
  rw [zbit_n _ 0 hi (by omega), b_or, z255 a hi, b_shl8 _ hi, z255 b (by omega), show a.toBitVec.toNat + 256 * b.toBitVec.toNat = 2 ^ 8 * b.toBitVec.toNat + a.toBitVec.toNat by omega, Nat.testBit_two_pow_mul_add _ (by omega)]
  by_cases h : i < 8
  · rw [if_pos h, decide_eq_true h, decide_eq_false (p := 8 ≤ i) (by omega), Bool.true_and, Bool.false_and, Bool.or_false]
    rfl
  · rw [if_neg h, decide_eq_false h, decide_eq_true (p := 8 ≤ i) (by omega), Bool.false_and, Bool.true_and, Bool.false_or]
    by_cases h3 : i - 8 < 8
    · rw [decide_eq_true h3, Bool.true_and]; rfl
    · rw [decide_eq_false h3, Bool.false_and]
      symm
      exact BitVec.getLsbD_of_ge b.toBitVec (i - 8) (by omega)
theorem zone_k : ∀ k, k < 8 → (1 : Int32) <<< (nI k &&& 31) = nI (2 ^ k) := by decide +kernel
theorem z256_k : ∀ k, k < 8 → (256 : Int32) <<< (nI k &&& 31) = nI (256 * 2 ^ k) := by decide +kernel
theorem zoc_s (a b : Int8) {k : Nat} (hk : k < 8) : nI (a.toBitVec.toNat % 2 ^ k + 256 * (b.toBitVec.toNat % 2 ^ k)) + ((if a.toBitVec.getLsbD k then (1 : Int32) <<< (nI k &&& 31) else 0) + (if b.toBitVec.getLsbD k then (256 : Int32) <<< (nI k &&& 31) else 0)) = nI (a.toBitVec.toNat % 2 ^ (k + 1) + 256 * (b.toBitVec.toNat % 2 ^ (k + 1))) := by
  rw [zmod_s, zmod_s, zone_k k hk, z256_k k hk]
  have e1 : (if a.toBitVec.getLsbD k then nI (2 ^ k) else 0) = nI (if a.toBitVec.toNat.testBit k then 2 ^ k else 0) := by
    show (if a.toBitVec.toNat.testBit k = true then _ else _) = _
    split <;> rfl
  have e2 : (if b.toBitVec.getLsbD k then nI (256 * 2 ^ k) else 0) = nI (256 * if b.toBitVec.toNat.testBit k then 2 ^ k else 0) := by
    show (if b.toBitVec.toNat.testBit k = true then _ else _) = _
    split <;> rfl
  rw [e1, e2, nI_add, nI_add]
  congr 1
  omega
/-! bits counted by rows -/
theorem zcnt (f : Nat → Bool) : ∀ k, (List.range k).countP f = zsum (fun i => if f i then 1 else 0) k
  | 0 => rfl
  | k + 1 => by
    rw [List.range_succ, List.countP_append, zcnt f k, List.countP_singleton, zsum]
theorem zsum_add (f : Nat → Nat) (a : Nat) : ∀ b, zsum f (a + b) = zsum f a + zsum (fun i => f (a + i)) b
  | 0 => rfl
  | b + 1 => by
    rw [← Nat.add_assoc, zsum, zsum_add f a b, zsum]
    omega
theorem zsum_congr {f g : Nat → Nat} : ∀ {k : Nat}, (∀ i, i < k → f i = g i) → zsum f k = zsum g k
  | 0, _ => rfl
  | k + 1, h => by rw [zsum, zsum, zsum_congr (fun i hi => h i (by omega)), h k (by omega)]
theorem zcount (n : Nat → Int32) : ∀ r, zsum (fun j => if zr n j then 1 else 0) (32 * r) = zsum (fun i => zpc (n i)) r
  | 0 => rfl
  | r + 1 => by
    have e1 : zpc (n r) = zsum (fun i => if zr n (32 * r + i) then 1 else 0) 32 := by
      unfold zpc
      rw [zcnt]
      exact zsum_congr (fun i hi => by rw [zr_at n r i hi])
    rw [show 32 * (r + 1) = 32 * r + 32 by omega, zsum_add, zcount n r, ← e1]
    rfl
theorem zcle (f : Nat → Bool) (k : Nat) : zsum (fun j => if f j then 1 else 0) k ≤ k := by
  have := zsum_le (f := fun j => if f j then 1 else 0) (b := 1) (fun i => by show (if f i then 1 else 0) ≤ 1; split <;> omega) k
  omega
end
section
set_option maxHeartbeats 4000000 in
set_option maxRecDepth 100000 in
theorem c_M8 (l : Launch) (D : va_G) (cZ : ClassId) (mo b0 b1 b2 b3 b4 b5 : Nat) (hnd : [mo, b0, b1, b2, b3, b4, b5].Nodup) (er : Int32) (v n : Nat → Int32) (mm hh : Nat → Int8) (f4 f5 : Nat → Bool) (r : Nat) (hr9 : r < 16) (V N : Int32) : Met l y_M8 (zw (.code y_M8 b_M8 5 none)) (rmv 1 0 0) (va_Pc [.ref mo, .int (nI r), .int V, .int N] (zp_W D (mT cZ) (MW cZ mo b0 b1 b2 b3 b4 b5 er (zr v) (zr n) (zo mm) (zo hh) f4 f5))) (zq_w (fun rv H => rv = none ∧ ∃ g4 g5 : Nat → Bool, va_P D zC (MW cZ mo b0 b1 b2 b3 b4 b5 0 (zr (zs v r V)) (zr (zs n r N)) (zo mm) (zo hh) g4 g5) H) (fun q => q ∈ [mo, b0, b1, b2, b3, b4, b5])) 0 0 (fun q => q ∈ [mo, b0, b1, b2, b3, b4, b5]) := by
  refine zm_met (b := b_M8) [.ref mo, .int (nI r), .int V, .int N] zy_M (Nat.le_of_ble_eq_true rfl) ?_
  intro p e s m below meth c ls S hr hlk hnm hl hB
  obtain ⟨hx, hb, hml, hown, hts⟩ := id S
  have hl : lv_has ls 5 [(0, .ref mo), (1, .int (nI r)), (2, .int V), (3, .int N)] := hl
  obtain ⟨hP, hK⟩ := hB
  have hS : va_S (fun q => q ∈ [mo, b0, b1, b2, b3, b4, b5]) s.heap s.heap [] := va_S.rf
  have hz : s.heap.size = s.heap.size := rfl
  refine lv_aload_n hx hb d_M8_0 rfl (lv_at hl 0 rfl) ?_
  refine lv_iload_n hx hb d_M8_1 rfl (lv_at hl 1 rfl) ?_
  refine zc_Si S k_M32 (c_M4 l (nI r)) zp_S ⟨Nat.le_of_ble_eq_true rfl, Nat.le_of_ble_eq_true rfl⟩ ⟨rfl, rfl⟩ rfl hl.1 rfl (Nat.le_of_ble_eq_true rfl) d_M8_2 ⟨Nat.zero_le _, Nat.zero_le _⟩ ?_
  rw [zk_in hr9]
  refine lv_iconst (v := 1) hx hb d_M8_5 (by decide) ?_
  refine zc_Vw (C := zc_M) S k_M36 (c_M3 l D cZ mo b0 b1 b2 b3 b4 b5 hnd er (zr v) (zr n) (zo mm) (zo hh) f4 f5 false 1) rfl (mw_pre hK hP) ⟨Nat.le_of_ble_eq_true rfl, Nat.le_of_ble_eq_true rfl⟩ ⟨rfl, rfl⟩ rfl hl.1 rfl (Nat.le_of_ble_eq_true rfl) d_M8_6 ⟨Nat.zero_le _, Nat.zero_le _⟩ hS (fun rv H locs hq hz1 hS => ?_)
  obtain ⟨rfl, hP⟩ := hq
  have hP : va_P D zC (MW cZ mo b0 b1 b2 b3 b4 b5 0 (zr v) (zr n) (zo mm) (zo hh) f4 f5) H := hP
  have hz : H.size = s.heap.size := hz1.trans hz
  clear hz1
  refine lv_if_eq (tgt := 13) hx hb d_M8_9 (by decide) (fun hq => ?_) (fun hq => absurd rfl hq)
  refine lv_aload_n hx hb d_M8_13 rfl (lv_at hl 0 rfl) ?_
  refine lv_iload_n hx hb d_M8_14 rfl (lv_at hl 2 rfl) ?_
  refine zc_Vw (C := zc_M) S k_M40 (c_M7 l D cZ mo b0 b1 b2 b3 b4 b5 hnd 0 (zr v) (zr n) (zo mm) (zo hh) f4 f5 V) rfl (mw_pre hK hP) ⟨Nat.le_of_ble_eq_true rfl, Nat.le_of_ble_eq_true rfl⟩ ⟨rfl, rfl⟩ rfl hl.1 rfl (Nat.le_of_ble_eq_true rfl) d_M8_15 ⟨Nat.zero_le _, Nat.zero_le _⟩ hS (fun rv H locs hq hz1 hS => ?_)
  obtain ⟨rfl, g4, g5, h4, h5, hP⟩ := hq
  have hz : H.size = s.heap.size := hz1.trans hz
  clear hz1
  refine lv_iconst (v := 0) hx hb d_M8_18 (by decide) ?_
  refine lv_istore hx hb d_M8_19 hl (by decide) rfl (fun ls hl => ?_)
  have hl : lv_has ls 5 [(4, .int 0), (0, .ref mo), (1, .int (nI r)), (2, .int V), (3, .int N)] := hl
  refine zl_loop (fun k H locs ls => k ≤ 32 ∧ H.size = s.heap.size ∧ va_S (fun q => q ∈ [mo, b0, b1, b2, b3, b4, b5]) s.heap H locs ∧ va_P D zC (MW cZ mo b0 b1 b2 b3 b4 b5 0 (zr v) (zr n) (zo mm) (zo hh) g4 (zfl g5 0 k (bt N))) H ∧ lv_has ls 5 [(4, .int (nI k)), (0, .ref mo), (1, .int (nI r)), (2, .int V), (3, .int N)]) 21 32 (fun k H locs ls h => h.1) ?_ 0 _ _ _ ⟨by omega, hz, hS, by rw [zfl_0]; exact hP, hl⟩
  intro k H locs ls hI ih
  obtain ⟨hk, hz, hS, hP, hl⟩ := hI
  refine lv_iload hx hb d_M8_21 (lv_at hl 0 rfl) ?_
  refine lv_bipush (v := 32) hx hb d_M8_23 (by decide) ?_
  refine lv_icmp_ge (tgt := 56) hx hb d_M8_25 (by decide) (fun hc => ?_) (fun hc => ?_)
  · have hk2 := zi_ge 32 rfl hc hk (by decide)
    rw [hk2] at hP
    refine lv_aload_n hx hb d_M8_56 rfl (lv_at hl 1 rfl) ?_
    refine lv_iload_n hx hb d_M8_57 rfl (lv_at hl 2 rfl) ?_
    refine zc_Vw (C := zc_M) S k_M44 (c_M6 l D cZ mo b0 b1 b2 b3 b4 b5 hnd 0 v n (zo mm) (zo hh) g4 (zfl g5 0 32 (bt N)) r hr9 V N h4 (fun i hi => zfl_at g5 32 (bt N) hi)) rfl (mw_pre hK hP) ⟨Nat.le_of_ble_eq_true rfl, Nat.le_of_ble_eq_true rfl⟩ ⟨rfl, rfl⟩ rfl hl.1 rfl (Nat.le_of_ble_eq_true rfl) d_M8_58 ⟨Nat.zero_le _, Nat.zero_le _⟩ hS (fun rv H locs hq hz1 hS => ?_)
    obtain ⟨rfl, hP⟩ := hq
    have hz : H.size = s.heap.size := hz1.trans hz
    clear hz1
    exact W.vret hx hb hr (fun t ht hW => zq_end hS hz ⟨rfl, _, _, hP⟩ ht) hS.2.2 d_M8_61
  · have hk2 := zi_lt 32 rfl hc hk (by decide)
    refine lv_aload_n hx hb d_M8_28 rfl (lv_at hl 1 rfl) ?_
    refine zg_M S hK hP rfl 6 (by decide) zl_M6 rfl d_M8_29 ?_
    refine lv_iload hx hb d_M8_32 (lv_at hl 0 rfl) ?_
    refine lv_iload_n hx hb d_M8_34 rfl (lv_at hl 4 rfl) ?_
    refine lv_iload hx hb d_M8_35 (lv_at hl 0 rfl) ?_
    refine lv_ishr hx hb d_M8_37 ?_
    refine lv_iconst (v := 1) hx hb d_M8_38 (by decide) ?_
    refine lv_iand hx hb d_M8_39 ?_
    refine lv_iconst (v := 1) hx hb d_M8_40 (by decide) ?_
    refine zd_icmp_ne hx hb d_M8_41 d_M8_44 d_M8_45 d_M8_48 ?_
    refine lv_topi (fun zz ez => ?_)
    obtain rfl : zz = (zb (bt N k)) := ez.trans (by rw [zshr_bit N hk2])
    refine zz_st hx hb hK hP (zd_of rfl hnd) hS 6 0 rfl rfl (j := k) (by omega) (by decide) d_M8_49 (fun H locs hP hS hz1 => ?_)
    have hP : va_P D zC (MW cZ mo b0 b1 b2 b3 b4 b5 0 (zr v) (zr n) (zo mm) (zo hh) g4 (zs (zfl g5 0 k (bt N)) (k) (bt N k))) H := hP
    have hz : H.size = s.heap.size := hz1.trans hz
    clear hz1
    rw [zfl_s0] at hP
    refine lv_iinc (k := 0) (v := (nI (k + 1))) hx hb d_M8_50 hl rfl (zi_inc _) (by decide) rfl (fun ls hl => ?_)
    have hl : lv_has ls 5 [(4, .int (nI (k + 1))), (0, .ref mo), (1, .int (nI r)), (2, .int V), (3, .int N)] := hl
    refine lv_goto (tgt := 21) hx hb d_M8_53 (by decide) ?_
    exact ih _ _ _ ⟨by omega, hz, hS, hP, lv_sub hl [0, 1, 2, 3, 4] rfl⟩
set_option maxHeartbeats 4000000 in
set_option maxRecDepth 100000 in
theorem c_M8a (l : Launch) (D : va_G) (cZ : ClassId) (mo b0 b1 b2 b3 b4 b5 : Nat) (hnd : [mo, b0, b1, b2, b3, b4, b5].Nodup) (er : Int32) (v n : Nat → Int32) (mm hh : Nat → Int8) (f4 f5 : Nat → Bool) (r V N : Int32) (h9 : r < 0 ∨ nI 16 ≤ r) : Met l y_M8 (zw (.code y_M8 b_M8 5 none)) (rmv 1 0 0) (va_Pc [.ref mo, .int r, .int V, .int N] (zp_W D (mT cZ) (MW cZ mo b0 b1 b2 b3 b4 b5 er (zr v) (zr n) (zo mm) (zo hh) f4 f5))) (zq_w (fun rv H => rv = none ∧ ∃ g4 g5 : Nat → Bool, va_P D zC (MW cZ mo b0 b1 b2 b3 b4 b5 1 (zr v) (zr n) (zo mm) (zo hh) g4 g5) H) (fun q => q ∈ [mo, b0, b1, b2, b3, b4, b5])) 0 0 (fun q => q ∈ [mo, b0, b1, b2, b3, b4, b5]) := by
  refine zm_met (b := b_M8) [.ref mo, .int r, .int V, .int N] zy_M (Nat.le_of_ble_eq_true rfl) ?_
  intro p e s m below meth c ls S hr hlk hnm hl hB
  obtain ⟨hx, hb, hml, hown, hts⟩ := id S
  have hl : lv_has ls 5 [(0, .ref mo), (1, .int r), (2, .int V), (3, .int N)] := hl
  obtain ⟨hP, hK⟩ := hB
  have hS : va_S (fun q => q ∈ [mo, b0, b1, b2, b3, b4, b5]) s.heap s.heap [] := va_S.rf
  have hz : s.heap.size = s.heap.size := rfl
  refine lv_aload_n hx hb d_M8_0 rfl (lv_at hl 0 rfl) ?_
  refine lv_iload_n hx hb d_M8_1 rfl (lv_at hl 1 rfl) ?_
  refine zc_Si S k_M32 (c_M4 l r) zp_S ⟨Nat.le_of_ble_eq_true rfl, Nat.le_of_ble_eq_true rfl⟩ ⟨rfl, rfl⟩ rfl hl.1 rfl (Nat.le_of_ble_eq_true rfl) d_M8_2 ⟨Nat.zero_le _, Nat.zero_le _⟩ ?_
  rw [zk_out h9]
  refine lv_iconst (v := 1) hx hb d_M8_5 (by decide) ?_
  refine zc_Vw (C := zc_M) S k_M36 (c_M3 l D cZ mo b0 b1 b2 b3 b4 b5 hnd er (zr v) (zr n) (zo mm) (zo hh) f4 f5 true 1) rfl (mw_pre hK hP) ⟨Nat.le_of_ble_eq_true rfl, Nat.le_of_ble_eq_true rfl⟩ ⟨rfl, rfl⟩ rfl hl.1 rfl (Nat.le_of_ble_eq_true rfl) d_M8_6 ⟨Nat.zero_le _, Nat.zero_le _⟩ hS (fun rv H locs hq hz1 hS => ?_)
  obtain ⟨rfl, hP⟩ := hq
  have hP : va_P D zC (MW cZ mo b0 b1 b2 b3 b4 b5 1 (zr v) (zr n) (zo mm) (zo hh) f4 f5) H := hP
  have hz : H.size = s.heap.size := hz1.trans hz
  clear hz1
  refine lv_if_eq (tgt := 13) hx hb d_M8_9 (by decide) (fun hq => absurd hq (by decide)) (fun hq => ?_)
  exact W.vret hx hb hr (fun t ht hW => zq_end hS hz ⟨rfl, f4, f5, hP⟩ ht) hS.2.2 d_M8_12
set_option maxHeartbeats 4000000 in
set_option maxRecDepth 100000 in
theorem c_M21 (l : Launch) (D : va_G) (cZ : ClassId) (mo b0 b1 b2 b3 b4 b5 : Nat) (hnd : [mo, b0, b1, b2, b3, b4, b5].Nodup) (er : Int32) (v n : Nat → Int32) (mm hh : Nat → Int8) (f4 f5 : Nat → Bool) (r : Nat) (hr9 : r < 16) : Met l y_M21 (zw (.code y_M21 b_M21 2 (some .int))) (rmv 2 0 0) (va_Pc [.ref mo, .int (nI r)] (zp_W D (mT cZ) (MW cZ mo b0 b1 b2 b3 b4 b5 er (zr v) (zr n) (zo mm) (zo hh) f4 f5))) (zq_w (fun rv H => rv = some (.int (v r)) ∧ ∃ g4 g5 : Nat → Bool, va_P D zC (MW cZ mo b0 b1 b2 b3 b4 b5 0 (zr v) (zr n) (zo mm) (zo hh) g4 g5) H) (fun q => q ∈ [mo, b0, b1, b2, b3, b4, b5])) 0 0 (fun q => q ∈ [mo, b0, b1, b2, b3, b4, b5]) := by
  refine zm_met (b := b_M21) [.ref mo, .int (nI r)] zy_M (Nat.le_of_ble_eq_true rfl) ?_
  intro p e s m below meth c ls S hr hlk hnm hl hB
  obtain ⟨hx, hb, hml, hown, hts⟩ := id S
  have hl : lv_has ls 2 [(0, .ref mo), (1, .int (nI r))] := hl
  obtain ⟨hP, hK⟩ := hB
  have hS : va_S (fun q => q ∈ [mo, b0, b1, b2, b3, b4, b5]) s.heap s.heap [] := va_S.rf
  have hz : s.heap.size = s.heap.size := rfl
  refine lv_aload_n hx hb d_M21_0 rfl (lv_at hl 0 rfl) ?_
  refine lv_iload_n hx hb d_M21_1 rfl (lv_at hl 1 rfl) ?_
  refine zc_Si S k_M32 (c_M4 l (nI r)) zp_S ⟨Nat.le_of_ble_eq_true rfl, Nat.le_of_ble_eq_true rfl⟩ ⟨rfl, rfl⟩ rfl hl.1 rfl (Nat.le_of_ble_eq_true rfl) d_M21_2 ⟨Nat.zero_le _, Nat.zero_le _⟩ ?_
  rw [zk_in hr9]
  refine lv_iconst (v := 1) hx hb d_M21_5 (by decide) ?_
  refine zc_Vw (C := zc_M) S k_M36 (c_M3 l D cZ mo b0 b1 b2 b3 b4 b5 hnd er (zr v) (zr n) (zo mm) (zo hh) f4 f5 false 1) rfl (mw_pre hK hP) ⟨Nat.le_of_ble_eq_true rfl, Nat.le_of_ble_eq_true rfl⟩ ⟨rfl, rfl⟩ rfl hl.1 rfl (Nat.le_of_ble_eq_true rfl) d_M21_6 ⟨Nat.zero_le _, Nat.zero_le _⟩ hS (fun rv H locs hq hz1 hS => ?_)
  obtain ⟨rfl, hP⟩ := hq
  have hP : va_P D zC (MW cZ mo b0 b1 b2 b3 b4 b5 0 (zr v) (zr n) (zo mm) (zo hh) f4 f5) H := hP
  have hz : H.size = s.heap.size := hz1.trans hz
  clear hz1
  refine lv_if_eq (tgt := 16) hx hb d_M21_9 (by decide) (fun hq => ?_) (fun hq => absurd rfl hq)
  refine lv_aload_n hx hb d_M21_16 rfl (lv_at hl 0 rfl) ?_
  refine lv_iload_n hx hb d_M21_17 rfl (lv_at hl 1 rfl) ?_
  refine zc_Vi (C := zc_M) S k_M54 (c_M5 l D cZ mo b0 b1 b2 b3 b4 b5 hnd 0 (zr v) (zr n) (zo mm) (zo hh) f4 f5 r hr9 (v r) (fun i hi => zr_at v r i hi)) rfl (mw_pre hK hP) ⟨Nat.le_of_ble_eq_true rfl, Nat.le_of_ble_eq_true rfl⟩ ⟨rfl, rfl⟩ rfl hl.1 rfl (Nat.le_of_ble_eq_true rfl) d_M21_18 ⟨Nat.zero_le _, Nat.zero_le _⟩ ?_
  exact W.iret (v := (v r)) hx hb hr (fun t ht hW => zq_end hS hz ⟨rfl, f4, f5, hP⟩ ht) hS.2.2 d_M21_21
set_option maxHeartbeats 4000000 in
set_option maxRecDepth 100000 in
theorem c_M21a (l : Launch) (D : va_G) (cZ : ClassId) (mo b0 b1 b2 b3 b4 b5 : Nat) (hnd : [mo, b0, b1, b2, b3, b4, b5].Nodup) (er : Int32) (v n : Nat → Int32) (mm hh : Nat → Int8) (f4 f5 : Nat → Bool) (r : Int32) (h9 : r < 0 ∨ nI 16 ≤ r) : Met l y_M21 (zw (.code y_M21 b_M21 2 (some .int))) (rmv 2 0 0) (va_Pc [.ref mo, .int r] (zp_W D (mT cZ) (MW cZ mo b0 b1 b2 b3 b4 b5 er (zr v) (zr n) (zo mm) (zo hh) f4 f5))) (zq_w (fun rv H => rv = some (.int 0) ∧ ∃ g4 g5 : Nat → Bool, va_P D zC (MW cZ mo b0 b1 b2 b3 b4 b5 1 (zr v) (zr n) (zo mm) (zo hh) g4 g5) H) (fun q => q ∈ [mo, b0, b1, b2, b3, b4, b5])) 0 0 (fun q => q ∈ [mo, b0, b1, b2, b3, b4, b5]) := by
  refine zm_met (b := b_M21) [.ref mo, .int r] zy_M (Nat.le_of_ble_eq_true rfl) ?_
  intro p e s m below meth c ls S hr hlk hnm hl hB
  obtain ⟨hx, hb, hml, hown, hts⟩ := id S
  have hl : lv_has ls 2 [(0, .ref mo), (1, .int r)] := hl
  obtain ⟨hP, hK⟩ := hB
  have hS : va_S (fun q => q ∈ [mo, b0, b1, b2, b3, b4, b5]) s.heap s.heap [] := va_S.rf
  have hz : s.heap.size = s.heap.size := rfl
  refine lv_aload_n hx hb d_M21_0 rfl (lv_at hl 0 rfl) ?_
  refine lv_iload_n hx hb d_M21_1 rfl (lv_at hl 1 rfl) ?_
  refine zc_Si S k_M32 (c_M4 l r) zp_S ⟨Nat.le_of_ble_eq_true rfl, Nat.le_of_ble_eq_true rfl⟩ ⟨rfl, rfl⟩ rfl hl.1 rfl (Nat.le_of_ble_eq_true rfl) d_M21_2 ⟨Nat.zero_le _, Nat.zero_le _⟩ ?_
  rw [zk_out h9]
  refine lv_iconst (v := 1) hx hb d_M21_5 (by decide) ?_
  refine zc_Vw (C := zc_M) S k_M36 (c_M3 l D cZ mo b0 b1 b2 b3 b4 b5 hnd er (zr v) (zr n) (zo mm) (zo hh) f4 f5 true 1) rfl (mw_pre hK hP) ⟨Nat.le_of_ble_eq_true rfl, Nat.le_of_ble_eq_true rfl⟩ ⟨rfl, rfl⟩ rfl hl.1 rfl (Nat.le_of_ble_eq_true rfl) d_M21_6 ⟨Nat.zero_le _, Nat.zero_le _⟩ hS (fun rv H locs hq hz1 hS => ?_)
  obtain ⟨rfl, hP⟩ := hq
  have hP : va_P D zC (MW cZ mo b0 b1 b2 b3 b4 b5 1 (zr v) (zr n) (zo mm) (zo hh) f4 f5) H := hP
  have hz : H.size = s.heap.size := hz1.trans hz
  clear hz1
  refine lv_if_eq (tgt := 16) hx hb d_M21_9 (by decide) (fun hq => absurd hq (by decide)) (fun hq => ?_)
  refine lv_iconst (v := 0) hx hb d_M21_12 (by decide) ?_
  refine lv_goto (tgt := 21) hx hb d_M21_13 (by decide) ?_
  exact W.iret (v := 0) hx hb hr (fun t ht hW => zq_end hS hz ⟨rfl, f4, f5, hP⟩ ht) hS.2.2 d_M21_21
set_option maxHeartbeats 4000000 in
set_option maxRecDepth 100000 in
theorem c_M23 (l : Launch) (D : va_G) (cZ : ClassId) (mo b0 b1 b2 b3 b4 b5 : Nat) (hnd : [mo, b0, b1, b2, b3, b4, b5].Nodup) (er : Int32) (v n : Nat → Int32) (mm hh : Nat → Int8) (f4 f5 : Nat → Bool) (r : Nat) (hr9 : r < 16) : Met l y_M23 (zw (.code y_M23 b_M23 2 (some .int))) (rmv 2 0 0) (va_Pc [.ref mo, .int (nI r)] (zp_W D (mT cZ) (MW cZ mo b0 b1 b2 b3 b4 b5 er (zr v) (zr n) (zo mm) (zo hh) f4 f5))) (zq_w (fun rv H => rv = some (.int (zlw (v r) (n r))) ∧ ∃ g4 g5 : Nat → Bool, va_P D zC (MW cZ mo b0 b1 b2 b3 b4 b5 0 (zr v) (zr n) (zo mm) (zo hh) g4 g5) H) (fun q => q ∈ [mo, b0, b1, b2, b3, b4, b5])) 0 0 (fun q => q ∈ [mo, b0, b1, b2, b3, b4, b5]) := by
  refine zm_met (b := b_M23) [.ref mo, .int (nI r)] zy_M (Nat.le_of_ble_eq_true rfl) ?_
  intro p e s m below meth c ls S hr hlk hnm hl hB
  obtain ⟨hx, hb, hml, hown, hts⟩ := id S
  have hl : lv_has ls 2 [(0, .ref mo), (1, .int (nI r))] := hl
  obtain ⟨hP, hK⟩ := hB
  have hS : va_S (fun q => q ∈ [mo, b0, b1, b2, b3, b4, b5]) s.heap s.heap [] := va_S.rf
  have hz : s.heap.size = s.heap.size := rfl
  refine lv_aload_n hx hb d_M23_0 rfl (lv_at hl 0 rfl) ?_
  refine lv_iload_n hx hb d_M23_1 rfl (lv_at hl 1 rfl) ?_
  refine zc_Si S k_M32 (c_M4 l (nI r)) zp_S ⟨Nat.le_of_ble_eq_true rfl, Nat.le_of_ble_eq_true rfl⟩ ⟨rfl, rfl⟩ rfl hl.1 rfl (Nat.le_of_ble_eq_true rfl) d_M23_2 ⟨Nat.zero_le _, Nat.zero_le _⟩ ?_
  rw [zk_in hr9]
  refine lv_iconst (v := 1) hx hb d_M23_5 (by decide) ?_
  refine zc_Vw (C := zc_M) S k_M36 (c_M3 l D cZ mo b0 b1 b2 b3 b4 b5 hnd er (zr v) (zr n) (zo mm) (zo hh) f4 f5 false 1) rfl (mw_pre hK hP) ⟨Nat.le_of_ble_eq_true rfl, Nat.le_of_ble_eq_true rfl⟩ ⟨rfl, rfl⟩ rfl hl.1 rfl (Nat.le_of_ble_eq_true rfl) d_M23_6 ⟨Nat.zero_le _, Nat.zero_le _⟩ hS (fun rv H locs hq hz1 hS => ?_)
  obtain ⟨rfl, hP⟩ := hq
  have hP : va_P D zC (MW cZ mo b0 b1 b2 b3 b4 b5 0 (zr v) (zr n) (zo mm) (zo hh) f4 f5) H := hP
  have hz : H.size = s.heap.size := hz1.trans hz
  clear hz1
  refine lv_if_eq (tgt := 16) hx hb d_M23_9 (by decide) (fun hq => ?_) (fun hq => absurd rfl hq)
  refine lv_aload_n hx hb d_M23_16 rfl (lv_at hl 0 rfl) ?_
  refine lv_iload_n hx hb d_M23_17 rfl (lv_at hl 1 rfl) ?_
  refine lv_iconst (v := 0) hx hb d_M23_18 (by decide) ?_
  refine lv_iconst (v := 1) hx hb d_M23_19 (by decide) ?_
  refine zc_Vl (C := zc_M) S k_M71 (c_M16 l D cZ mo b0 b1 b2 b3 b4 b5 hnd 0 (zr v) (zr n) (zo mm) (zo hh) f4 f5 r false true hr9 (v r) (n r) (fun i hi => zr_at v r i hi) (fun i hi => zr_at n r i hi)) rfl (mw_pre hK hP) ⟨Nat.le_of_ble_eq_true rfl, Nat.le_of_ble_eq_true rfl⟩ ⟨rfl, rfl⟩ rfl hl.1 rfl (Nat.le_of_ble_eq_true rfl) d_M23_20 ⟨Nat.zero_le _, Nat.zero_le _⟩ ?_
  refine lv_l2i hx hb d_M23_23 rfl ?_
  refine lv_topi (fun zz ez => ?_)
  obtain rfl : zz = (zlw (v r) (n r)) := ez.trans (lg_l2i_i2l _)
  exact W.iret (v := (zlw (v r) (n r))) hx hb hr (fun t ht hW => zq_end hS hz ⟨rfl, f4, f5, hP⟩ ht) hS.2.2 d_M23_24
set_option maxHeartbeats 4000000 in
set_option maxRecDepth 100000 in
theorem c_M23a (l : Launch) (D : va_G) (cZ : ClassId) (mo b0 b1 b2 b3 b4 b5 : Nat) (hnd : [mo, b0, b1, b2, b3, b4, b5].Nodup) (er : Int32) (v n : Nat → Int32) (mm hh : Nat → Int8) (f4 f5 : Nat → Bool) (r : Int32) (h9 : r < 0 ∨ nI 16 ≤ r) : Met l y_M23 (zw (.code y_M23 b_M23 2 (some .int))) (rmv 2 0 0) (va_Pc [.ref mo, .int r] (zp_W D (mT cZ) (MW cZ mo b0 b1 b2 b3 b4 b5 er (zr v) (zr n) (zo mm) (zo hh) f4 f5))) (zq_w (fun rv H => rv = some (.int 0) ∧ ∃ g4 g5 : Nat → Bool, va_P D zC (MW cZ mo b0 b1 b2 b3 b4 b5 1 (zr v) (zr n) (zo mm) (zo hh) g4 g5) H) (fun q => q ∈ [mo, b0, b1, b2, b3, b4, b5])) 0 0 (fun q => q ∈ [mo, b0, b1, b2, b3, b4, b5]) := by
  refine zm_met (b := b_M23) [.ref mo, .int r] zy_M (Nat.le_of_ble_eq_true rfl) ?_
  intro p e s m below meth c ls S hr hlk hnm hl hB
  obtain ⟨hx, hb, hml, hown, hts⟩ := id S
  have hl : lv_has ls 2 [(0, .ref mo), (1, .int r)] := hl
  obtain ⟨hP, hK⟩ := hB
  have hS : va_S (fun q => q ∈ [mo, b0, b1, b2, b3, b4, b5]) s.heap s.heap [] := va_S.rf
  have hz : s.heap.size = s.heap.size := rfl
  refine lv_aload_n hx hb d_M23_0 rfl (lv_at hl 0 rfl) ?_
  refine lv_iload_n hx hb d_M23_1 rfl (lv_at hl 1 rfl) ?_
  refine zc_Si S k_M32 (c_M4 l r) zp_S ⟨Nat.le_of_ble_eq_true rfl, Nat.le_of_ble_eq_true rfl⟩ ⟨rfl, rfl⟩ rfl hl.1 rfl (Nat.le_of_ble_eq_true rfl) d_M23_2 ⟨Nat.zero_le _, Nat.zero_le _⟩ ?_
  rw [zk_out h9]
  refine lv_iconst (v := 1) hx hb d_M23_5 (by decide) ?_
  refine zc_Vw (C := zc_M) S k_M36 (c_M3 l D cZ mo b0 b1 b2 b3 b4 b5 hnd er (zr v) (zr n) (zo mm) (zo hh) f4 f5 true 1) rfl (mw_pre hK hP) ⟨Nat.le_of_ble_eq_true rfl, Nat.le_of_ble_eq_true rfl⟩ ⟨rfl, rfl⟩ rfl hl.1 rfl (Nat.le_of_ble_eq_true rfl) d_M23_6 ⟨Nat.zero_le _, Nat.zero_le _⟩ hS (fun rv H locs hq hz1 hS => ?_)
  obtain ⟨rfl, hP⟩ := hq
  have hP : va_P D zC (MW cZ mo b0 b1 b2 b3 b4 b5 1 (zr v) (zr n) (zo mm) (zo hh) f4 f5) H := hP
  have hz : H.size = s.heap.size := hz1.trans hz
  clear hz1
  refine lv_if_eq (tgt := 16) hx hb d_M23_9 (by decide) (fun hq => absurd hq (by decide)) (fun hq => ?_)
  refine lv_iconst (v := 0) hx hb d_M23_12 (by decide) ?_
  refine lv_goto (tgt := 24) hx hb d_M23_13 (by decide) ?_
  exact W.iret (v := 0) hx hb hr (fun t ht hW => zq_end hS hz ⟨rfl, f4, f5, hP⟩ ht) hS.2.2 d_M23_24
set_option maxHeartbeats 4000000 in
set_option maxRecDepth 100000 in
theorem c_M24 (l : Launch) (D : va_G) (cZ : ClassId) (mo b0 b1 b2 b3 b4 b5 : Nat) (hnd : [mo, b0, b1, b2, b3, b4, b5].Nodup) (er : Int32) (v n : Nat → Int32) (mm hh : Nat → Int8) (f4 f5 : Nat → Bool) (r : Nat) (hr9 : r < 16) : Met l y_M24 (zw (.code y_M24 b_M24 2 (some .int))) (rmv 2 0 0) (va_Pc [.ref mo, .int (nI r)] (zp_W D (mT cZ) (MW cZ mo b0 b1 b2 b3 b4 b5 er (zr v) (zr n) (zo mm) (zo hh) f4 f5))) (zq_w (fun rv H => rv = some (.int (zhi (v r) (n r))) ∧ ∃ g4 g5 : Nat → Bool, va_P D zC (MW cZ mo b0 b1 b2 b3 b4 b5 0 (zr v) (zr n) (zo mm) (zo hh) g4 g5) H) (fun q => q ∈ [mo, b0, b1, b2, b3, b4, b5])) 0 0 (fun q => q ∈ [mo, b0, b1, b2, b3, b4, b5]) := by
  refine zm_met (b := b_M24) [.ref mo, .int (nI r)] zy_M (Nat.le_of_ble_eq_true rfl) ?_
  intro p e s m below meth c ls S hr hlk hnm hl hB
  obtain ⟨hx, hb, hml, hown, hts⟩ := id S
  have hl : lv_has ls 2 [(0, .ref mo), (1, .int (nI r))] := hl
  obtain ⟨hP, hK⟩ := hB
  have hS : va_S (fun q => q ∈ [mo, b0, b1, b2, b3, b4, b5]) s.heap s.heap [] := va_S.rf
  have hz : s.heap.size = s.heap.size := rfl
  refine lv_aload_n hx hb d_M24_0 rfl (lv_at hl 0 rfl) ?_
  refine lv_iload_n hx hb d_M24_1 rfl (lv_at hl 1 rfl) ?_
  refine zc_Si S k_M32 (c_M4 l (nI r)) zp_S ⟨Nat.le_of_ble_eq_true rfl, Nat.le_of_ble_eq_true rfl⟩ ⟨rfl, rfl⟩ rfl hl.1 rfl (Nat.le_of_ble_eq_true rfl) d_M24_2 ⟨Nat.zero_le _, Nat.zero_le _⟩ ?_
  rw [zk_in hr9]
  refine lv_iconst (v := 1) hx hb d_M24_5 (by decide) ?_
  refine zc_Vw (C := zc_M) S k_M36 (c_M3 l D cZ mo b0 b1 b2 b3 b4 b5 hnd er (zr v) (zr n) (zo mm) (zo hh) f4 f5 false 1) rfl (mw_pre hK hP) ⟨Nat.le_of_ble_eq_true rfl, Nat.le_of_ble_eq_true rfl⟩ ⟨rfl, rfl⟩ rfl hl.1 rfl (Nat.le_of_ble_eq_true rfl) d_M24_6 ⟨Nat.zero_le _, Nat.zero_le _⟩ hS (fun rv H locs hq hz1 hS => ?_)
  obtain ⟨rfl, hP⟩ := hq
  have hP : va_P D zC (MW cZ mo b0 b1 b2 b3 b4 b5 0 (zr v) (zr n) (zo mm) (zo hh) f4 f5) H := hP
  have hz : H.size = s.heap.size := hz1.trans hz
  clear hz1
  refine lv_if_eq (tgt := 16) hx hb d_M24_9 (by decide) (fun hq => ?_) (fun hq => absurd rfl hq)
  refine lv_aload_n hx hb d_M24_16 rfl (lv_at hl 0 rfl) ?_
  refine lv_iload_n hx hb d_M24_17 rfl (lv_at hl 1 rfl) ?_
  refine lv_iconst (v := 1) hx hb d_M24_18 (by decide) ?_
  refine lv_iconst (v := 1) hx hb d_M24_19 (by decide) ?_
  refine zc_Vl (C := zc_M) S k_M71 (c_M16 l D cZ mo b0 b1 b2 b3 b4 b5 hnd 0 (zr v) (zr n) (zo mm) (zo hh) f4 f5 r true true hr9 (v r) (n r) (fun i hi => zr_at v r i hi) (fun i hi => zr_at n r i hi)) rfl (mw_pre hK hP) ⟨Nat.le_of_ble_eq_true rfl, Nat.le_of_ble_eq_true rfl⟩ ⟨rfl, rfl⟩ rfl hl.1 rfl (Nat.le_of_ble_eq_true rfl) d_M24_20 ⟨Nat.zero_le _, Nat.zero_le _⟩ ?_
  refine lv_l2i hx hb d_M24_23 rfl ?_
  refine lv_topi (fun zz ez => ?_)
  obtain rfl : zz = (zhi (v r) (n r)) := ez.trans (lg_l2i_i2l _)
  exact W.iret (v := (zhi (v r) (n r))) hx hb hr (fun t ht hW => zq_end hS hz ⟨rfl, f4, f5, hP⟩ ht) hS.2.2 d_M24_24
set_option maxHeartbeats 4000000 in
set_option maxRecDepth 100000 in
theorem c_M24a (l : Launch) (D : va_G) (cZ : ClassId) (mo b0 b1 b2 b3 b4 b5 : Nat) (hnd : [mo, b0, b1, b2, b3, b4, b5].Nodup) (er : Int32) (v n : Nat → Int32) (mm hh : Nat → Int8) (f4 f5 : Nat → Bool) (r : Int32) (h9 : r < 0 ∨ nI 16 ≤ r) : Met l y_M24 (zw (.code y_M24 b_M24 2 (some .int))) (rmv 2 0 0) (va_Pc [.ref mo, .int r] (zp_W D (mT cZ) (MW cZ mo b0 b1 b2 b3 b4 b5 er (zr v) (zr n) (zo mm) (zo hh) f4 f5))) (zq_w (fun rv H => rv = some (.int 0) ∧ ∃ g4 g5 : Nat → Bool, va_P D zC (MW cZ mo b0 b1 b2 b3 b4 b5 1 (zr v) (zr n) (zo mm) (zo hh) g4 g5) H) (fun q => q ∈ [mo, b0, b1, b2, b3, b4, b5])) 0 0 (fun q => q ∈ [mo, b0, b1, b2, b3, b4, b5]) := by
  refine zm_met (b := b_M24) [.ref mo, .int r] zy_M (Nat.le_of_ble_eq_true rfl) ?_
  intro p e s m below meth c ls S hr hlk hnm hl hB
  obtain ⟨hx, hb, hml, hown, hts⟩ := id S
  have hl : lv_has ls 2 [(0, .ref mo), (1, .int r)] := hl
  obtain ⟨hP, hK⟩ := hB
  have hS : va_S (fun q => q ∈ [mo, b0, b1, b2, b3, b4, b5]) s.heap s.heap [] := va_S.rf
  have hz : s.heap.size = s.heap.size := rfl
  refine lv_aload_n hx hb d_M24_0 rfl (lv_at hl 0 rfl) ?_
  refine lv_iload_n hx hb d_M24_1 rfl (lv_at hl 1 rfl) ?_
  refine zc_Si S k_M32 (c_M4 l r) zp_S ⟨Nat.le_of_ble_eq_true rfl, Nat.le_of_ble_eq_true rfl⟩ ⟨rfl, rfl⟩ rfl hl.1 rfl (Nat.le_of_ble_eq_true rfl) d_M24_2 ⟨Nat.zero_le _, Nat.zero_le _⟩ ?_
  rw [zk_out h9]
  refine lv_iconst (v := 1) hx hb d_M24_5 (by decide) ?_
  refine zc_Vw (C := zc_M) S k_M36 (c_M3 l D cZ mo b0 b1 b2 b3 b4 b5 hnd er (zr v) (zr n) (zo mm) (zo hh) f4 f5 true 1) rfl (mw_pre hK hP) ⟨Nat.le_of_ble_eq_true rfl, Nat.le_of_ble_eq_true rfl⟩ ⟨rfl, rfl⟩ rfl hl.1 rfl (Nat.le_of_ble_eq_true rfl) d_M24_6 ⟨Nat.zero_le _, Nat.zero_le _⟩ hS (fun rv H locs hq hz1 hS => ?_)
  obtain ⟨rfl, hP⟩ := hq
  have hP : va_P D zC (MW cZ mo b0 b1 b2 b3 b4 b5 1 (zr v) (zr n) (zo mm) (zo hh) f4 f5) H := hP
  have hz : H.size = s.heap.size := hz1.trans hz
  clear hz1
  refine lv_if_eq (tgt := 16) hx hb d_M24_9 (by decide) (fun hq => absurd hq (by decide)) (fun hq => ?_)
  refine lv_iconst (v := 0) hx hb d_M24_12 (by decide) ?_
  refine lv_goto (tgt := 24) hx hb d_M24_13 (by decide) ?_
  exact W.iret (v := 0) hx hb hr (fun t ht hW => zq_end hS hz ⟨rfl, f4, f5, hP⟩ ht) hS.2.2 d_M24_24
set_option maxHeartbeats 4000000 in
set_option maxRecDepth 100000 in
theorem c_M22 (l : Launch) (D : va_G) (cZ : ClassId) (mo b0 b1 b2 b3 b4 b5 : Nat) (hnd : [mo, b0, b1, b2, b3, b4, b5].Nodup) (er : Int32) (v n : Nat → Int32) (mm hh : Nat → Int8) (f4 f5 : Nat → Bool) (r : Nat) (hr9 : r < 16) : Met l y_M22 (zw (.code y_M22 b_M22 4 (some .int))) (rmv 2 0 0) (va_Pc [.ref mo, .int (nI r)] (zp_W D (mT cZ) (MW cZ mo b0 b1 b2 b3 b4 b5 er (zr v) (zr n) (zo mm) (zo hh) f4 f5))) (zq_w (fun rv H => rv = some (.int (n r)) ∧ ∃ g4 g5 : Nat → Bool, va_P D zC (MW cZ mo b0 b1 b2 b3 b4 b5 0 (zr v) (zr n) (zo mm) (zo hh) g4 g5) H) (fun q => q ∈ [mo, b0, b1, b2, b3, b4, b5])) 0 0 (fun q => q ∈ [mo, b0, b1, b2, b3, b4, b5]) := by
  refine zm_met (b := b_M22) [.ref mo, .int (nI r)] zy_M (Nat.le_of_ble_eq_true rfl) ?_
  intro p e s m below meth c ls S hr hlk hnm hl hB
  obtain ⟨hx, hb, hml, hown, hts⟩ := id S
  have hl : lv_has ls 4 [(0, .ref mo), (1, .int (nI r))] := hl
  obtain ⟨hP, hK⟩ := hB
  have hS : va_S (fun q => q ∈ [mo, b0, b1, b2, b3, b4, b5]) s.heap s.heap [] := va_S.rf
  have hz : s.heap.size = s.heap.size := rfl
  refine lv_aload_n hx hb d_M22_0 rfl (lv_at hl 0 rfl) ?_
  refine lv_iload_n hx hb d_M22_1 rfl (lv_at hl 1 rfl) ?_
  refine zc_Si S k_M32 (c_M4 l (nI r)) zp_S ⟨Nat.le_of_ble_eq_true rfl, Nat.le_of_ble_eq_true rfl⟩ ⟨rfl, rfl⟩ rfl hl.1 rfl (Nat.le_of_ble_eq_true rfl) d_M22_2 ⟨Nat.zero_le _, Nat.zero_le _⟩ ?_
  rw [zk_in hr9]
  refine lv_iconst (v := 1) hx hb d_M22_5 (by decide) ?_
  refine zc_Vw (C := zc_M) S k_M36 (c_M3 l D cZ mo b0 b1 b2 b3 b4 b5 hnd er (zr v) (zr n) (zo mm) (zo hh) f4 f5 false 1) rfl (mw_pre hK hP) ⟨Nat.le_of_ble_eq_true rfl, Nat.le_of_ble_eq_true rfl⟩ ⟨rfl, rfl⟩ rfl hl.1 rfl (Nat.le_of_ble_eq_true rfl) d_M22_6 ⟨Nat.zero_le _, Nat.zero_le _⟩ hS (fun rv H locs hq hz1 hS => ?_)
  obtain ⟨rfl, hP⟩ := hq
  have hP : va_P D zC (MW cZ mo b0 b1 b2 b3 b4 b5 0 (zr v) (zr n) (zo mm) (zo hh) f4 f5) H := hP
  have hz : H.size = s.heap.size := hz1.trans hz
  clear hz1
  refine lv_if_eq (tgt := 14) hx hb d_M22_9 (by decide) (fun hq => ?_) (fun hq => absurd rfl hq)
  refine lv_iconst (v := 0) hx hb d_M22_14 (by decide) ?_
  refine lv_istore_n hx hb d_M22_15 rfl hl (by decide) rfl (fun ls hl => ?_)
  have hl : lv_has ls 4 [(2, .int 0), (0, .ref mo), (1, .int (nI r))] := hl
  refine lv_iconst (v := 0) hx hb d_M22_16 (by decide) ?_
  refine lv_istore_n hx hb d_M22_17 rfl hl (by decide) rfl (fun ls hl => ?_)
  have hl : lv_has ls 4 [(3, .int 0), (2, .int 0), (0, .ref mo), (1, .int (nI r))] := hl
  refine zl_loop (fun k H9 locs9 ls => H9 = H ∧ locs9 = locs ∧ k ≤ 32 ∧ ∃ y : Int32, (∀ i, i < 32 → bt y i = (decide (i < k) && bt (n r) i)) ∧ lv_has ls 4 [(3, .int (nI k)), (2, .int y), (0, .ref mo), (1, .int (nI r))]) 18 32 (fun k H locs ls h => h.2.2.1) ?_ 0 _ _ _ ⟨rfl, rfl, by omega, 0, fun i hi => by rw [b_0]; simp, hl⟩
  intro k H9 locs9 ls hI ih
  obtain ⟨rfl, rfl, hk, y, hy, hl⟩ := hI
  refine lv_iload_n hx hb d_M22_18 rfl (lv_at hl 0 rfl) ?_
  refine lv_bipush (v := 32) hx hb d_M22_19 (by decide) ?_
  refine lv_icmp_ge (tgt := 45) hx hb d_M22_21 (by decide) (fun hc => ?_) (fun hc => ?_)
  · have hk2 := zi_ge 32 rfl hc hk (by decide)
    obtain rfl : y = n r := b_ext (fun i hi => by rw [hy i hi, decide_eq_true (by omega), Bool.true_and])
    refine lv_iload_n hx hb d_M22_45 rfl (lv_at hl 1 rfl) ?_
    exact W.iret (v := (n r)) hx hb hr (fun t ht hW => zq_end hS hz ⟨rfl, f4, f5, hP⟩ ht) hS.2.2 d_M22_46
  · have hk2 := zi_lt 32 rfl hc hk (by decide)
    refine lv_aload_n hx hb d_M22_24 rfl (lv_at hl 2 rfl) ?_
    refine lv_iload_n hx hb d_M22_25 rfl (lv_at hl 3 rfl) ?_
    refine lv_iload_n hx hb d_M22_26 rfl (lv_at hl 0 rfl) ?_
    refine zc_Vi (C := zc_M) S k_M47 (c_M10 l D cZ mo b0 b1 b2 b3 b4 b5 hnd 0 (zr v) (zr n) (zo mm) (zo hh) f4 f5 r k hr9 (hk2)) rfl (mw_pre hK hP) ⟨Nat.le_of_ble_eq_true rfl, Nat.le_of_ble_eq_true rfl⟩ ⟨rfl, rfl⟩ rfl hl.1 rfl (Nat.le_of_ble_eq_true rfl) d_M22_27 ⟨Nat.zero_le _, Nat.zero_le _⟩ ?_
    rw [zr_at n r k (hk2)]
    refine lv_if_eq (tgt := 39) hx hb d_M22_30 (by decide) (fun hd => ?_) (fun hd => ?_)
    · refine lv_iinc (k := 0) (v := (nI (k + 1))) hx hb d_M22_39 hl rfl (zi_inc _) (by decide) rfl (fun ls hl => ?_)
      have hl : lv_has ls 4 [(3, .int (nI (k + 1))), (2, .int y), (0, .ref mo), (1, .int (nI r))] := hl
      refine lv_goto (tgt := 18) hx hb d_M22_42 (by decide) ?_
      refine ih _ _ _ ⟨rfl, rfl, by omega, y, fun i hi => ?_, lv_sub hl [0, 1, 2, 3] rfl⟩
      rw [hy i hi]
      by_cases h : i = k
      · subst h; rw [(zb_0 _).mp hd, Bool.and_false, Bool.and_false]
      · rw [zd_lt h]
    · refine lv_iload_n hx hb d_M22_33 rfl (lv_at hl 1 rfl) ?_
      refine lv_iconst (v := 1) hx hb d_M22_34 (by decide) ?_
      refine lv_iload_n hx hb d_M22_35 rfl (lv_at hl 0 rfl) ?_
      refine lv_ishl hx hb d_M22_36 ?_
      refine lv_ior hx hb d_M22_37 ?_
      refine lv_istore_n hx hb d_M22_38 rfl hl (by decide) rfl (fun ls hl => ?_)
      have hl : lv_has ls 4 [(2, .int (y ||| (1 <<< (((nI k) : Int32) &&& 31)))), (3, .int (nI k)), (0, .ref mo), (1, .int (nI r))] := hl
      refine lv_iinc (k := 1) (v := (nI (k + 1))) hx hb d_M22_39 hl rfl (zi_inc _) (by decide) rfl (fun ls hl => ?_)
      have hl : lv_has ls 4 [(3, .int (nI (k + 1))), (2, .int (y ||| (1 <<< (((nI k) : Int32) &&& 31)))), (0, .ref mo), (1, .int (nI r))] := hl
      refine lv_goto (tgt := 18) hx hb d_M22_42 (by decide) ?_
      refine ih _ _ _ ⟨rfl, rfl, by omega, _, fun i hi => ?_, lv_sub hl [0, 1, 2, 3] rfl⟩
      have hd2 : bt (n r) k = true := by simpa using mt (zb_0 _).mpr hd
      rw [b_or, hy i hi, zone_bit hk2 hi]
      by_cases h : i = k
      · subst h; rw [hd2]; simp
      · rw [zd_lt h, decide_eq_false h, Bool.or_false]
set_option maxHeartbeats 4000000 in
set_option maxRecDepth 100000 in
theorem c_M22a (l : Launch) (D : va_G) (cZ : ClassId) (mo b0 b1 b2 b3 b4 b5 : Nat) (hnd : [mo, b0, b1, b2, b3, b4, b5].Nodup) (er : Int32) (v n : Nat → Int32) (mm hh : Nat → Int8) (f4 f5 : Nat → Bool) (r : Int32) (h9 : r < 0 ∨ nI 16 ≤ r) : Met l y_M22 (zw (.code y_M22 b_M22 4 (some .int))) (rmv 2 0 0) (va_Pc [.ref mo, .int r] (zp_W D (mT cZ) (MW cZ mo b0 b1 b2 b3 b4 b5 er (zr v) (zr n) (zo mm) (zo hh) f4 f5))) (zq_w (fun rv H => rv = some (.int 0) ∧ ∃ g4 g5 : Nat → Bool, va_P D zC (MW cZ mo b0 b1 b2 b3 b4 b5 1 (zr v) (zr n) (zo mm) (zo hh) g4 g5) H) (fun q => q ∈ [mo, b0, b1, b2, b3, b4, b5])) 0 0 (fun q => q ∈ [mo, b0, b1, b2, b3, b4, b5]) := by
  refine zm_met (b := b_M22) [.ref mo, .int r] zy_M (Nat.le_of_ble_eq_true rfl) ?_
  intro p e s m below meth c ls S hr hlk hnm hl hB
  obtain ⟨hx, hb, hml, hown, hts⟩ := id S
  have hl : lv_has ls 4 [(0, .ref mo), (1, .int r)] := hl
  obtain ⟨hP, hK⟩ := hB
  have hS : va_S (fun q => q ∈ [mo, b0, b1, b2, b3, b4, b5]) s.heap s.heap [] := va_S.rf
  have hz : s.heap.size = s.heap.size := rfl
  refine lv_aload_n hx hb d_M22_0 rfl (lv_at hl 0 rfl) ?_
  refine lv_iload_n hx hb d_M22_1 rfl (lv_at hl 1 rfl) ?_
  refine zc_Si S k_M32 (c_M4 l r) zp_S ⟨Nat.le_of_ble_eq_true rfl, Nat.le_of_ble_eq_true rfl⟩ ⟨rfl, rfl⟩ rfl hl.1 rfl (Nat.le_of_ble_eq_true rfl) d_M22_2 ⟨Nat.zero_le _, Nat.zero_le _⟩ ?_
  rw [zk_out h9]
  refine lv_iconst (v := 1) hx hb d_M22_5 (by decide) ?_
  refine zc_Vw (C := zc_M) S k_M36 (c_M3 l D cZ mo b0 b1 b2 b3 b4 b5 hnd er (zr v) (zr n) (zo mm) (zo hh) f4 f5 true 1) rfl (mw_pre hK hP) ⟨Nat.le_of_ble_eq_true rfl, Nat.le_of_ble_eq_true rfl⟩ ⟨rfl, rfl⟩ rfl hl.1 rfl (Nat.le_of_ble_eq_true rfl) d_M22_6 ⟨Nat.zero_le _, Nat.zero_le _⟩ hS (fun rv H locs hq hz1 hS => ?_)
  obtain ⟨rfl, hP⟩ := hq
  have hP : va_P D zC (MW cZ mo b0 b1 b2 b3 b4 b5 1 (zr v) (zr n) (zo mm) (zo hh) f4 f5) H := hP
  have hz : H.size = s.heap.size := hz1.trans hz
  clear hz1
  refine lv_if_eq (tgt := 14) hx hb d_M22_9 (by decide) (fun hq => absurd hq (by decide)) (fun hq => ?_)
  refine lv_iconst (v := 0) hx hb d_M22_12 (by decide) ?_
  exact W.iret (v := 0) hx hb hr (fun t ht hW => zq_end hS hz ⟨rfl, f4, f5, hP⟩ ht) hS.2.2 d_M22_13
set_option maxHeartbeats 4000000 in
set_option maxRecDepth 100000 in
theorem c_M25 (l : Launch) (D : va_G) (cZ : ClassId) (mo b0 b1 b2 b3 b4 b5 : Nat) (hnd : [mo, b0, b1, b2, b3, b4, b5].Nodup) (er : Int32) (v n : Nat → Int32) (mm hh : Nat → Int8) (f4 f5 : Nat → Bool) (u : Nat) (hu : u < 256) : Met l y_M25 (zw (.code y_M25 b_M25 4 (some .int))) (rmv 1 0 0) (va_Pc [.ref mo, .int (nI u)] (zp_W D (mT cZ) (MW cZ mo b0 b1 b2 b3 b4 b5 er (zr v) (zr n) (zo mm) (zo hh) f4 f5))) (zq_w (fun rv H => rv = some (.int (zoc (mm u) (hh u))) ∧ ∃ g4 g5 : Nat → Bool, va_P D zC (MW cZ mo b0 b1 b2 b3 b4 b5 0 (zr v) (zr n) (zo mm) (zo hh) g4 g5) H) (fun q => q ∈ [mo, b0, b1, b2, b3, b4, b5])) 0 0 (fun q => q ∈ [mo, b0, b1, b2, b3, b4, b5]) := by
  refine zm_met (b := b_M25) [.ref mo, .int (nI u)] zy_M (Nat.le_of_ble_eq_true rfl) ?_
  intro p e s m below meth c ls S hr hlk hnm hl hB
  obtain ⟨hx, hb, hml, hown, hts⟩ := id S
  have hl : lv_has ls 4 [(0, .ref mo), (1, .int (nI u))] := hl
  obtain ⟨hP, hK⟩ := hB
  have hS : va_S (fun q => q ∈ [mo, b0, b1, b2, b3, b4, b5]) s.heap s.heap [] := va_S.rf
  have hz : s.heap.size = s.heap.size := rfl
  refine lv_aload_n hx hb d_M25_0 rfl (lv_at hl 0 rfl) ?_
  refine lv_iload_n hx hb d_M25_1 rfl (lv_at hl 1 rfl) ?_
  refine lv_if_lt (tgt := 12) hx hb d_M25_2 (by decide) (fun hq => absurd hq (nI_pos (by omega))) (fun hq => ?_)
  refine lv_iload_n hx hb d_M25_5 rfl (lv_at hl 1 rfl) ?_
  refine lv_sipush (v := 256) hx hb d_M25_6 (by decide) ?_
  refine lv_icmp_lt (tgt := 16) hx hb d_M25_9 (by decide) (fun hq => ?_) (fun hq => absurd (nI_lt (b := 256) hu (by decide)) hq)
  refine lv_iconst (v := 0) hx hb d_M25_16 (by decide) ?_
  refine lv_iconst (v := 1) hx hb d_M25_17 (by decide) ?_
  refine zc_Vw (C := zc_M) S k_M36 (c_M3 l D cZ mo b0 b1 b2 b3 b4 b5 hnd er (zr v) (zr n) (zo mm) (zo hh) f4 f5 false 1) rfl (mw_pre hK hP) ⟨Nat.le_of_ble_eq_true rfl, Nat.le_of_ble_eq_true rfl⟩ ⟨rfl, rfl⟩ rfl hl.1 rfl (Nat.le_of_ble_eq_true rfl) d_M25_18 ⟨Nat.zero_le _, Nat.zero_le _⟩ hS (fun rv H locs hq hz1 hS => ?_)
  obtain ⟨rfl, hP⟩ := hq
  have hP : va_P D zC (MW cZ mo b0 b1 b2 b3 b4 b5 0 (zr v) (zr n) (zo mm) (zo hh) f4 f5) H := hP
  have hz : H.size = s.heap.size := hz1.trans hz
  clear hz1
  refine lv_if_eq (tgt := 26) hx hb d_M25_21 (by decide) (fun hq => ?_) (fun hq => absurd rfl hq)
  refine lv_iconst (v := 0) hx hb d_M25_26 (by decide) ?_
  refine lv_istore_n hx hb d_M25_27 rfl hl (by decide) rfl (fun ls hl => ?_)
  have hl : lv_has ls 4 [(2, .int 0), (0, .ref mo), (1, .int (nI u))] := hl
  refine lv_iconst (v := 0) hx hb d_M25_28 (by decide) ?_
  refine lv_istore_n hx hb d_M25_29 rfl hl (by decide) rfl (fun ls hl => ?_)
  have hl : lv_has ls 4 [(3, .int 0), (2, .int 0), (0, .ref mo), (1, .int (nI u))] := hl
  refine zl_loop (fun k H9 locs9 ls => H9 = H ∧ locs9 = locs ∧ k ≤ 8 ∧ lv_has ls 4 [(3, .int (nI k)), (2, .int (nI ((mm u).toBitVec.toNat % 2 ^ k + 256 * ((hh u).toBitVec.toNat % 2 ^ k)))), (0, .ref mo), (1, .int (nI u))]) 30 8 (fun k H locs ls h => h.2.2.1) ?_ 0 _ _ _ ⟨rfl, rfl, by omega, by rw [Nat.pow_zero, Nat.mod_one, Nat.mod_one]; exact hl⟩
  intro k H9 locs9 ls hI ih
  obtain ⟨rfl, rfl, hk, hl⟩ := hI
  refine lv_iload_n hx hb d_M25_30 rfl (lv_at hl 0 rfl) ?_
  refine lv_bipush (v := 8) hx hb d_M25_31 (by decide) ?_
  refine lv_icmp_ge (tgt := 90) hx hb d_M25_33 (by decide) (fun hc => ?_) (fun hc => ?_)
  · have hk2 := zi_ge 8 rfl hc hk (by decide)
    rw [hk2, Nat.mod_eq_of_lt (mm u).toBitVec.isLt, Nat.mod_eq_of_lt (hh u).toBitVec.isLt, ← zoc_n] at hl
    refine lv_iload_n hx hb d_M25_90 rfl (lv_at hl 1 rfl) ?_
    exact W.iret (v := (zoc (mm u) (hh u))) hx hb hr (fun t ht hW => zq_end hS hz ⟨rfl, f4, f5, hP⟩ ht) hS.2.2 d_M25_91
  · have hk2 := zi_lt 8 rfl hc hk (by decide)
    refine lv_iload_n hx hb d_M25_36 rfl (lv_at hl 1 rfl) ?_
    refine lv_aload_n hx hb d_M25_37 rfl (lv_at hl 2 rfl) ?_
    refine zg_M S hK hP rfl 3 (by decide) zl_M3 rfl d_M25_38 ?_
    refine lv_bipush (v := 8) hx hb d_M25_41 (by decide) ?_
    refine lv_iload_n hx hb d_M25_43 rfl (lv_at hl 3 rfl) ?_
    refine lv_imul hx hb d_M25_44 ?_
    refine lv_iload_n hx hb d_M25_45 rfl (lv_at hl 0 rfl) ?_
    refine lv_iadd hx hb d_M25_46 ?_
    refine lv_topi (fun zz ez => ?_)
    obtain rfl : zz = (nI (8 * u + k)) := ez.trans (zi_i8 u k)
    refine zz_ld hx hb hK hP 3 0 rfl rfl (j := (8 * u + k)) (by omega) (by decide) d_M25_47 ?_
    rw [zo_at mm u k hk2]
    refine zj_i (x := (if (mm u).toBitVec.getLsbD k then (1 : Int32) <<< (nI k &&& 31) else 0)) (pc := 58) (ls := ls) (rest := [.int (nI ((mm u).toBitVec.toNat % 2 ^ k + 256 * ((hh u).toBitVec.toNat % 2 ^ k)))]) ?_ (fun J9 => ?_)
    · intro z hz9
      subst hz9
      refine lv_aload_n hx hb d_M25_58 rfl (lv_at hl 2 rfl) ?_
      refine zg_M S hK hP rfl 4 (by decide) zl_M4 rfl d_M25_59 ?_
      refine lv_bipush (v := 8) hx hb d_M25_62 (by decide) ?_
      refine lv_iload_n hx hb d_M25_64 rfl (lv_at hl 3 rfl) ?_
      refine lv_imul hx hb d_M25_65 ?_
      refine lv_iload_n hx hb d_M25_66 rfl (lv_at hl 0 rfl) ?_
      refine lv_iadd hx hb d_M25_67 ?_
      refine lv_topi (fun zz ez => ?_)
      obtain rfl : zz = (nI (8 * u + k)) := ez.trans (zi_i8 u k)
      refine zz_ld hx hb hK hP 4 0 rfl rfl (j := (8 * u + k)) (by omega) (by decide) d_M25_68 ?_
      rw [zo_at hh u k hk2]
      refine zj_i (x := (if (hh u).toBitVec.getLsbD k then (256 : Int32) <<< (nI k &&& 31) else 0)) (pc := 81) (ls := ls) (rest := [.int (if (mm u).toBitVec.getLsbD k then (1 : Int32) <<< (nI k &&& 31) else 0), .int (nI ((mm u).toBitVec.toNat % 2 ^ k + 256 * ((hh u).toBitVec.toNat % 2 ^ k)))]) ?_ (fun J9 => ?_)
      · intro z hz9
        subst hz9
        refine lv_iadd hx hb d_M25_81 ?_
        refine lv_iadd hx hb d_M25_82 ?_
        refine lv_topi (fun zz ez => ?_)
        obtain rfl : zz = (nI ((mm u).toBitVec.toNat % 2 ^ (k + 1) + 256 * ((hh u).toBitVec.toNat % 2 ^ (k + 1)))) := ez.trans (zoc_s (mm u) (hh u) hk2)
        refine lv_istore_n hx hb d_M25_83 rfl hl (by decide) rfl (fun ls hl => ?_)
        have hl : lv_has ls 4 [(2, .int (nI ((mm u).toBitVec.toNat % 2 ^ (k + 1) + 256 * ((hh u).toBitVec.toNat % 2 ^ (k + 1))))), (3, .int (nI k)), (0, .ref mo), (1, .int (nI u))] := hl
        refine lv_iinc (k := 1) (v := (nI (k + 1))) hx hb d_M25_84 hl rfl (zi_inc _) (by decide) rfl (fun ls hl => ?_)
        have hl : lv_has ls 4 [(3, .int (nI (k + 1))), (2, .int (nI ((mm u).toBitVec.toNat % 2 ^ (k + 1) + 256 * ((hh u).toBitVec.toNat % 2 ^ (k + 1))))), (0, .ref mo), (1, .int (nI u))] := hl
        refine lv_goto (tgt := 30) hx hb d_M25_87 (by decide) ?_
        exact ih _ _ _ ⟨rfl, rfl, by omega, lv_sub hl [0, 1, 2, 3] rfl⟩
      refine lv_if_eq (tgt := 80) hx hb d_M25_69 (by decide) (fun g2 => ?_) (fun g2 => ?_)
      · refine lv_iconst (v := 0) hx hb d_M25_80 (by decide) ?_
        exact J9 _ (by rw [(zb_0 _).mp g2]; rfl)
      · refine lv_sipush (v := 256) hx hb d_M25_72 (by decide) ?_
        refine lv_iload_n hx hb d_M25_75 rfl (lv_at hl 0 rfl) ?_
        refine lv_ishl hx hb d_M25_76 ?_
        refine lv_goto (tgt := 81) hx hb d_M25_77 (by decide) ?_
        exact J9 _ (by rw [show (hh u).toBitVec.getLsbD k = true by simpa using mt (zb_0 _).mpr g2]; rfl)
    refine lv_if_eq (tgt := 57) hx hb d_M25_48 (by decide) (fun g1 => ?_) (fun g1 => ?_)
    · refine lv_iconst (v := 0) hx hb d_M25_57 (by decide) ?_
      exact J9 _ (by rw [(zb_0 _).mp g1]; rfl)
    · refine lv_iconst (v := 1) hx hb d_M25_51 (by decide) ?_
      refine lv_iload_n hx hb d_M25_52 rfl (lv_at hl 0 rfl) ?_
      refine lv_ishl hx hb d_M25_53 ?_
      refine lv_goto (tgt := 58) hx hb d_M25_54 (by decide) ?_
      exact J9 _ (by rw [show (mm u).toBitVec.getLsbD k = true by simpa using mt (zb_0 _).mpr g1]; rfl)
set_option maxHeartbeats 4000000 in
set_option maxRecDepth 100000 in
theorem c_M25a (l : Launch) (D : va_G) (cZ : ClassId) (mo b0 b1 b2 b3 b4 b5 : Nat) (hnd : [mo, b0, b1, b2, b3, b4, b5].Nodup) (er : Int32) (v n : Nat → Int32) (mm hh : Nat → Int8) (f4 f5 : Nat → Bool) (u : Int32) (h9 : u < 0 ∨ nI 256 ≤ u) : Met l y_M25 (zw (.code y_M25 b_M25 4 (some .int))) (rmv 1 0 0) (va_Pc [.ref mo, .int u] (zp_W D (mT cZ) (MW cZ mo b0 b1 b2 b3 b4 b5 er (zr v) (zr n) (zo mm) (zo hh) f4 f5))) (zq_w (fun rv H => rv = some (.int 0) ∧ ∃ g4 g5 : Nat → Bool, va_P D zC (MW cZ mo b0 b1 b2 b3 b4 b5 1 (zr v) (zr n) (zo mm) (zo hh) g4 g5) H) (fun q => q ∈ [mo, b0, b1, b2, b3, b4, b5])) 0 0 (fun q => q ∈ [mo, b0, b1, b2, b3, b4, b5]) := by
  refine zm_met (b := b_M25) [.ref mo, .int u] zy_M (Nat.le_of_ble_eq_true rfl) ?_
  intro p e s m below meth c ls S hr hlk hnm hl hB
  obtain ⟨hx, hb, hml, hown, hts⟩ := id S
  have hl : lv_has ls 4 [(0, .ref mo), (1, .int u)] := hl
  obtain ⟨hP, hK⟩ := hB
  have hS : va_S (fun q => q ∈ [mo, b0, b1, b2, b3, b4, b5]) s.heap s.heap [] := va_S.rf
  have hz : s.heap.size = s.heap.size := rfl
  refine lv_aload_n hx hb d_M25_0 rfl (lv_at hl 0 rfl) ?_
  refine lv_iload_n hx hb d_M25_1 rfl (lv_at hl 1 rfl) ?_
  refine lv_if_lt (tgt := 12) hx hb d_M25_2 (by decide) (fun g1 => ?_) (fun g1 => ?_)
  · refine lv_iconst (v := 1) hx hb d_M25_12 (by decide) ?_
    refine lv_goto (tgt := 17) hx hb d_M25_13 (by decide) ?_
    refine lv_iconst (v := 1) hx hb d_M25_17 (by decide) ?_
    refine zc_Vw (C := zc_M) S k_M36 (c_M3 l D cZ mo b0 b1 b2 b3 b4 b5 hnd er (zr v) (zr n) (zo mm) (zo hh) f4 f5 true 1) rfl (mw_pre hK hP) ⟨Nat.le_of_ble_eq_true rfl, Nat.le_of_ble_eq_true rfl⟩ ⟨rfl, rfl⟩ rfl hl.1 rfl (Nat.le_of_ble_eq_true rfl) d_M25_18 ⟨Nat.zero_le _, Nat.zero_le _⟩ hS (fun rv H locs hq hz1 hS => ?_)
    obtain ⟨rfl, hP⟩ := hq
    have hP : va_P D zC (MW cZ mo b0 b1 b2 b3 b4 b5 1 (zr v) (zr n) (zo mm) (zo hh) f4 f5) H := hP
    have hz : H.size = s.heap.size := hz1.trans hz
    clear hz1
    refine lv_if_eq (tgt := 26) hx hb d_M25_21 (by decide) (fun hq => absurd hq (by decide)) (fun hq => ?_)
    refine lv_iconst (v := 0) hx hb d_M25_24 (by decide) ?_
    exact W.iret (v := 0) hx hb hr (fun t ht hW => zq_end hS hz ⟨rfl, f4, f5, hP⟩ ht) hS.2.2 d_M25_25
  · refine lv_iload_n hx hb d_M25_5 rfl (lv_at hl 1 rfl) ?_
    refine lv_sipush (v := 256) hx hb d_M25_6 (by decide) ?_
    refine lv_icmp_lt (tgt := 16) hx hb d_M25_9 (by decide) (fun g2 => ?_) (fun g2 => ?_)
    · exact absurd g2 (Int32.not_lt.mpr (h9.resolve_left g1))
    · refine lv_iconst (v := 1) hx hb d_M25_12 (by decide) ?_
      refine lv_goto (tgt := 17) hx hb d_M25_13 (by decide) ?_
      refine lv_iconst (v := 1) hx hb d_M25_17 (by decide) ?_
      refine zc_Vw (C := zc_M) S k_M36 (c_M3 l D cZ mo b0 b1 b2 b3 b4 b5 hnd er (zr v) (zr n) (zo mm) (zo hh) f4 f5 true 1) rfl (mw_pre hK hP) ⟨Nat.le_of_ble_eq_true rfl, Nat.le_of_ble_eq_true rfl⟩ ⟨rfl, rfl⟩ rfl hl.1 rfl (Nat.le_of_ble_eq_true rfl) d_M25_18 ⟨Nat.zero_le _, Nat.zero_le _⟩ hS (fun rv H locs hq hz1 hS => ?_)
      obtain ⟨rfl, hP⟩ := hq
      have hP : va_P D zC (MW cZ mo b0 b1 b2 b3 b4 b5 1 (zr v) (zr n) (zo mm) (zo hh) f4 f5) H := hP
      have hz : H.size = s.heap.size := hz1.trans hz
      clear hz1
      refine lv_if_eq (tgt := 26) hx hb d_M25_21 (by decide) (fun hq => absurd hq (by decide)) (fun hq => ?_)
      refine lv_iconst (v := 0) hx hb d_M25_24 (by decide) ?_
      exact W.iret (v := 0) hx hb hr (fun t ht hW => zq_end hS hz ⟨rfl, f4, f5, hP⟩ ht) hS.2.2 d_M25_25
set_option maxHeartbeats 4000000 in
set_option maxRecDepth 100000 in
theorem c_M26 (l : Launch) (D : va_G) (cZ : ClassId) (mo b0 b1 b2 b3 b4 b5 : Nat) (hnd : [mo, b0, b1, b2, b3, b4, b5].Nodup) (er : Int32) (v n : Nat → Int32) (mm hh : Nat → Int8) (f4 f5 : Nat → Bool) : Met l y_M26 (zw (.code y_M26 b_M26 3 (some .int))) (rmv 0 0 0) (va_Pc [.ref mo] (zp_W D (mT cZ) (MW cZ mo b0 b1 b2 b3 b4 b5 er (zr v) (zr n) (zo mm) (zo hh) f4 f5))) (zq_w (fun rv H => rv = some (.int (nI (zsum (fun i => zpc (n i)) 16))) ∧ ∃ g4 g5 : Nat → Bool, va_P D zC (MW cZ mo b0 b1 b2 b3 b4 b5 0 (zr v) (zr n) (zo mm) (zo hh) g4 g5) H) (fun q => q ∈ [mo, b0, b1, b2, b3, b4, b5])) 0 0 (fun q => q ∈ [mo, b0, b1, b2, b3, b4, b5]) := by
  refine zm_met (b := b_M26) [.ref mo] zy_M (Nat.le_of_ble_eq_true rfl) ?_
  intro p e s m below meth c ls S hr hlk hnm hl hB
  obtain ⟨hx, hb, hml, hown, hts⟩ := id S
  have hl : lv_has ls 3 [(0, .ref mo)] := hl
  obtain ⟨hP, hK⟩ := hB
  have hS : va_S (fun q => q ∈ [mo, b0, b1, b2, b3, b4, b5]) s.heap s.heap [] := va_S.rf
  have hz : s.heap.size = s.heap.size := rfl
  refine lv_aload_n hx hb d_M26_0 rfl (lv_at hl 0 rfl) ?_
  refine lv_iconst (v := 0) hx hb d_M26_1 (by decide) ?_
  refine zput_M S hK hP (zd_of rfl hnd) hS rfl (Nat.le_of_ble_eq_true rfl) d_M26_2 (fun H locs hP hS hz1 => ?_)
  have hP : va_P D zC (MW cZ mo b0 b1 b2 b3 b4 b5 0 (zr v) (zr n) (zo mm) (zo hh) f4 f5) H := hP
  have hz : H.size = s.heap.size := hz1.trans hz
  refine lv_iconst (v := 0) hx hb d_M26_5 (by decide) ?_
  refine lv_istore_n hx hb d_M26_6 rfl hl (by decide) rfl (fun ls hl => ?_)
  have hl : lv_has ls 3 [(1, .int 0), (0, .ref mo)] := hl
  refine lv_iconst (v := 0) hx hb d_M26_7 (by decide) ?_
  refine lv_istore_n hx hb d_M26_8 rfl hl (by decide) rfl (fun ls hl => ?_)
  have hl : lv_has ls 3 [(2, .int 0), (1, .int 0), (0, .ref mo)] := hl
  refine zl_loop (fun k H9 locs9 ls => H9 = H ∧ locs9 = locs ∧ k ≤ 512 ∧ lv_has ls 3 [(2, .int (nI k)), (1, .int (nI (zsum (fun j => if zr n j then 1 else 0) k))), (0, .ref mo)]) 9 512 (fun k H locs ls h => h.2.2.1) ?_ 0 _ _ _ ⟨rfl, rfl, by omega, hl⟩
  intro k H9 locs9 ls hI ih
  obtain ⟨rfl, rfl, hk, hl⟩ := hI
  refine lv_iload_n hx hb d_M26_9 rfl (lv_at hl 0 rfl) ?_
  refine lv_sipush (v := 512) hx hb d_M26_10 (by decide) ?_
  refine lv_icmp_ge (tgt := 34) hx hb d_M26_13 (by decide) (fun hc => ?_) (fun hc => ?_)
  · have hk2 := zi_ge 512 rfl hc hk (by decide)
    rw [hk2, zcount n 16] at hl
    refine lv_iload_n hx hb d_M26_34 rfl (lv_at hl 1 rfl) ?_
    exact W.iret (v := (nI (zsum (fun i => zpc (n i)) 16))) hx hb hr (fun t ht hW => zq_end hS hz ⟨rfl, f4, f5, hP⟩ ht) hS.2.2 d_M26_35
  · have hk2 := zi_lt 512 rfl hc hk (by decide)
    refine lv_aload_n hx hb d_M26_16 rfl (lv_at hl 2 rfl) ?_
    refine zg_M S hK hP rfl 2 (by decide) zl_M2 rfl d_M26_17 ?_
    refine lv_iload_n hx hb d_M26_20 rfl (lv_at hl 0 rfl) ?_
    refine zz_ld hx hb hK hP 2 0 rfl rfl (j := k) hk2 (by decide) d_M26_21 ?_
    refine lv_if_eq (tgt := 28) hx hb d_M26_22 (by decide) (fun g1 => ?_) (fun g1 => ?_)
    · refine lv_iinc (k := 0) (v := (nI (k + 1))) hx hb d_M26_28 hl rfl (zi_inc _) (by decide) rfl (fun ls hl => ?_)
      have hl : lv_has ls 3 [(2, .int (nI (k + 1))), (1, .int (nI (zsum (fun j => if zr n j then 1 else 0) k))), (0, .ref mo)] := hl
      refine lv_goto (tgt := 9) hx hb d_M26_31 (by decide) ?_
      exact ih _ _ _ ⟨rfl, rfl, by omega, by rw [show (zsum (fun j => if zr n j then 1 else 0) (k + 1)) = (zsum (fun j => if zr n j then 1 else 0) k) by simp only [zsum]; rw [(zb_0 _).mp g1]; rfl]; exact lv_sub hl [0, 1, 2] rfl⟩
    · refine lv_iinc (k := 1) (v := (nI ((zsum (fun j => if zr n j then 1 else 0) k) + 1))) hx hb d_M26_25 hl rfl (zi_inc _) (by decide) rfl (fun ls hl => ?_)
      have hl : lv_has ls 3 [(1, .int (nI ((zsum (fun j => if zr n j then 1 else 0) k) + 1))), (2, .int (nI k)), (0, .ref mo)] := hl
      refine lv_iinc (k := 1) (v := (nI (k + 1))) hx hb d_M26_28 hl rfl (zi_inc _) (by decide) rfl (fun ls hl => ?_)
      have hl : lv_has ls 3 [(2, .int (nI (k + 1))), (1, .int (nI ((zsum (fun j => if zr n j then 1 else 0) k) + 1))), (0, .ref mo)] := hl
      refine lv_goto (tgt := 9) hx hb d_M26_31 (by decide) ?_
      exact ih _ _ _ ⟨rfl, rfl, by omega, by rw [show (zsum (fun j => if zr n j then 1 else 0) (k + 1)) = (zsum (fun j => if zr n j then 1 else 0) k) + 1 by simp only [zsum]; rw [show zr n k = true by simpa using mt (zb_0 _).mpr g1]; rfl]; exact lv_sub hl [0, 1, 2] rfl⟩
end
section
set_option maxHeartbeats 4000000 in
set_option maxRecDepth 100000 in
theorem c_M19 (l : Launch) (D : va_G) (cZ : ClassId) (mo b0 b1 b2 b3 b4 b5 : Nat) (hnd : [mo, b0, b1, b2, b3, b4, b5].Nodup) (er : Int32) (v n : Nat → Int32) (mm hh : Nat → Int8) (f4 f5 : Nat → Bool) (r u nn : Nat) (hr9 : r < 16) (hn9 : nn = 1 ∨ nn = 2 ∨ nn = 4) (hu : u + nn ≤ 256) : Met l y_M19 (zw (.code y_M19 b_M19 5 none)) (rmv 1 0 0) (va_Pc [.ref mo, .int (nI r), .int (nI u), .int (nI nn)] (zp_W D (mT cZ) (MW cZ mo b0 b1 b2 b3 b4 b5 er (zr v) (zr n) (zo mm) (zo hh) f4 f5))) (zq_w (fun rv H => rv = none ∧ ∃ g4 g5 : Nat → Bool, va_P D zC (MW cZ mo b0 b1 b2 b3 b4 b5 0 (zr v) (zr n) (zo (zst mm u nn (v r))) (zo (zst hh u nn (n r))) g4 g5) H) (fun q => q ∈ [mo, b0, b1, b2, b3, b4, b5])) 0 0 (fun q => q ∈ [mo, b0, b1, b2, b3, b4, b5]) := by
  refine zm_met (b := b_M19) [.ref mo, .int (nI r), .int (nI u), .int (nI nn)] zy_M (Nat.le_of_ble_eq_true rfl) ?_
  intro p e s m below meth c ls S hr hlk hnm hl hB
  obtain ⟨hx, hb, hml, hown, hts⟩ := id S
  have hl : lv_has ls 5 [(0, .ref mo), (1, .int (nI r)), (2, .int (nI u)), (3, .int (nI nn))] := hl
  obtain ⟨hP, hK⟩ := hB
  have hS : va_S (fun q => q ∈ [mo, b0, b1, b2, b3, b4, b5]) s.heap s.heap [] := va_S.rf
  have hz : s.heap.size = s.heap.size := rfl
  have hn4 : nn ≤ 4 := by omega
  refine lv_aload_n hx hb d_M19_0 rfl (lv_at hl 0 rfl) ?_
  refine lv_iload_n hx hb d_M19_1 rfl (lv_at hl 3 rfl) ?_
  refine zc_Si S k_M81 (c_M18 l (nI nn)) zp_S ⟨Nat.le_of_ble_eq_true rfl, Nat.le_of_ble_eq_true rfl⟩ ⟨rfl, rfl⟩ rfl hl.1 rfl (Nat.le_of_ble_eq_true rfl) d_M19_2 ⟨Nat.zero_le _, Nat.zero_le _⟩ ?_
  rw [show decide (¬ nI nn = 1 ∧ ¬ nI nn = 2 ∧ ¬ nI nn = 4) = false from decide_eq_false (by rcases hn9 with rfl | rfl | rfl <;> decide)]
  refine lv_iconst (v := 1) hx hb d_M19_5 (by decide) ?_
  refine zc_Vw (C := zc_M) S k_M36 (c_M3 l D cZ mo b0 b1 b2 b3 b4 b5 hnd er (zr v) (zr n) (zo mm) (zo hh) f4 f5 false 1) rfl (mw_pre hK hP) ⟨Nat.le_of_ble_eq_true rfl, Nat.le_of_ble_eq_true rfl⟩ ⟨rfl, rfl⟩ rfl hl.1 rfl (Nat.le_of_ble_eq_true rfl) d_M19_6 ⟨Nat.zero_le _, Nat.zero_le _⟩ hS (fun rv H locs hq hz1 hS => ?_)
  obtain ⟨rfl, hP⟩ := hq
  have hP : va_P D zC (MW cZ mo b0 b1 b2 b3 b4 b5 0 (zr v) (zr n) (zo mm) (zo hh) f4 f5) H := hP
  have hz : H.size = s.heap.size := hz1.trans hz
  clear hz1
  refine lv_if_eq (tgt := 13) hx hb d_M19_9 (by decide) (fun hq => ?_) (fun hq => absurd rfl hq)
  refine lv_aload_n hx hb d_M19_13 rfl (lv_at hl 0 rfl) ?_
  refine lv_iload_n hx hb d_M19_14 rfl (lv_at hl 1 rfl) ?_
  refine zc_Si S k_M32 (c_M4 l (nI r)) zp_S ⟨Nat.le_of_ble_eq_true rfl, Nat.le_of_ble_eq_true rfl⟩ ⟨rfl, rfl⟩ rfl hl.1 rfl (Nat.le_of_ble_eq_true rfl) d_M19_15 ⟨Nat.zero_le _, Nat.zero_le _⟩ ?_
  rw [zk_in hr9]
  refine lv_if_ne (tgt := 34) hx hb d_M19_18 (by decide) (fun hq => absurd rfl hq) (fun hq => ?_)
  refine lv_iload_n hx hb d_M19_21 rfl (lv_at hl 2 rfl) ?_
  refine lv_if_lt (tgt := 34) hx hb d_M19_22 (by decide) (fun hq => absurd hq (nI_pos (by omega))) (fun hq => ?_)
  refine lv_iload_n hx hb d_M19_25 rfl (lv_at hl 2 rfl) ?_
  refine lv_sipush (v := 256) hx hb d_M19_26 (by decide) ?_
  refine lv_iload_n hx hb d_M19_29 rfl (lv_at hl 3 rfl) ?_
  refine lv_isub hx hb d_M19_30 ?_
  refine lv_topi (fun zz ez => ?_)
  obtain rfl : zz = (nI (256 - nn)) := ez.trans (pk_sub (a := 256) (by omega))
  refine lv_icmp_le (tgt := 38) hx hb d_M19_31 (by decide) (fun hq => ?_) (fun hq => absurd (nI_le (by omega) (by omega)) hq)
  refine lv_iconst (v := 0) hx hb d_M19_38 (by decide) ?_
  refine lv_iconst (v := 2) hx hb d_M19_39 (by decide) ?_
  refine zc_Vw (C := zc_M) S k_M36 (c_M3 l D cZ mo b0 b1 b2 b3 b4 b5 hnd 0 (zr v) (zr n) (zo mm) (zo hh) f4 f5 false 2) rfl (mw_pre hK hP) ⟨Nat.le_of_ble_eq_true rfl, Nat.le_of_ble_eq_true rfl⟩ ⟨rfl, rfl⟩ rfl hl.1 rfl (Nat.le_of_ble_eq_true rfl) d_M19_40 ⟨Nat.zero_le _, Nat.zero_le _⟩ hS (fun rv H locs hq hz1 hS => ?_)
  obtain ⟨rfl, hP⟩ := hq
  have hP : va_P D zC (MW cZ mo b0 b1 b2 b3 b4 b5 0 (zr v) (zr n) (zo mm) (zo hh) f4 f5) H := hP
  have hz : H.size = s.heap.size := hz1.trans hz
  clear hz1
  refine lv_if_eq (tgt := 47) hx hb d_M19_43 (by decide) (fun hq => ?_) (fun hq => absurd rfl hq)
  refine lv_iconst (v := 0) hx hb d_M19_47 (by decide) ?_
  refine lv_istore hx hb d_M19_48 hl (by decide) rfl (fun ls hl => ?_)
  have hl : lv_has ls 5 [(4, .int 0), (0, .ref mo), (1, .int (nI r)), (2, .int (nI u)), (3, .int (nI nn))] := hl
  refine zl_loop (fun k H locs ls => k ≤ 8 * nn ∧ H.size = s.heap.size ∧ va_S (fun q => q ∈ [mo, b0, b1, b2, b3, b4, b5]) s.heap H locs ∧ va_P D zC (MW cZ mo b0 b1 b2 b3 b4 b5 0 (zr v) (zr n) (zfl (zo mm) (8 * u) k (bt (v r))) (zfl (zo hh) (8 * u) k (bt (n r))) f4 f5) H ∧ lv_has ls 5 [(4, .int (nI k)), (0, .ref mo), (1, .int (nI r)), (2, .int (nI u)), (3, .int (nI nn))]) 50 (8 * nn) (fun k H locs ls h => h.1) ?_ 0 _ _ _ ⟨by omega, hz, hS, by rw [zfl_0, zfl_0]; exact hP, hl⟩
  intro k H locs ls hI ih
  obtain ⟨hk, hz, hS, hP, hl⟩ := hI
  refine lv_iload hx hb d_M19_50 (lv_at hl 0 rfl) ?_
  refine lv_bipush (v := 8) hx hb d_M19_52 (by decide) ?_
  refine lv_iload_n hx hb d_M19_54 rfl (lv_at hl 4 rfl) ?_
  refine lv_imul hx hb d_M19_55 ?_
  refine lv_topi (fun zz ez => ?_)
  obtain rfl : zz = (nI (8 * nn)) := ez.trans (pk_mul 8 nn)
  refine lv_icmp_ge (tgt := 103) hx hb d_M19_56 (by decide) (fun hc => ?_) (fun hc => ?_)
  · have hk2 := zi_ge (8 * nn) rfl hc hk (by omega)
    rw [hk2, zo_put mm u hn4 (v r), zo_put hh u hn4 (n r)] at hP
    exact W.vret hx hb hr (fun t ht hW => zq_end hS hz ⟨rfl, _, _, hP⟩ ht) hS.2.2 d_M19_103
  · have hk2 := zi_lt (8 * nn) rfl hc hk (by omega)
    refine lv_aload_n hx hb d_M19_59 rfl (lv_at hl 1 rfl) ?_
    refine zg_M S hK hP rfl 3 (by decide) zl_M3 rfl d_M19_60 ?_
    refine lv_bipush (v := 8) hx hb d_M19_63 (by decide) ?_
    refine lv_iload_n hx hb d_M19_65 rfl (lv_at hl 3 rfl) ?_
    refine lv_imul hx hb d_M19_66 ?_
    refine lv_iload hx hb d_M19_67 (lv_at hl 0 rfl) ?_
    refine lv_iadd hx hb d_M19_69 ?_
    refine lv_topi (fun zz ez => ?_)
    obtain rfl : zz = (nI (8 * u + k)) := ez.trans (zi_i8 u k)
    refine lv_aload_n hx hb d_M19_70 rfl (lv_at hl 1 rfl) ?_
    refine lv_iload_n hx hb d_M19_71 rfl (lv_at hl 2 rfl) ?_
    refine lv_iload hx hb d_M19_72 (lv_at hl 0 rfl) ?_
    refine zc_Vi (C := zc_M) S k_M51 (c_M9 l D cZ mo b0 b1 b2 b3 b4 b5 hnd 0 (zr v) (zr n) (zfl (zo mm) (8 * u) k (bt (v r))) (zfl (zo hh) (8 * u) k (bt (n r))) f4 f5 r k hr9 (by omega)) rfl (mw_pre hK hP) ⟨Nat.le_of_ble_eq_true rfl, Nat.le_of_ble_eq_true rfl⟩ ⟨rfl, rfl⟩ rfl hl.1 rfl (Nat.le_of_ble_eq_true rfl) d_M19_74 ⟨Nat.zero_le _, Nat.zero_le _⟩ ?_
    rw [zr_at v r k (by omega)]
    refine zz_st hx hb hK hP (zd_of rfl hnd) hS 3 0 rfl rfl (j := (8 * u + k)) (by omega) (by decide) d_M19_77 (fun H locs hP hS hz1 => ?_)
    have hP : va_P D zC (MW cZ mo b0 b1 b2 b3 b4 b5 0 (zr v) (zr n) (zs (zfl (zo mm) (8 * u) k (bt (v r))) ((8 * u + k)) (bt (v r) k)) (zfl (zo hh) (8 * u) k (bt (n r))) f4 f5) H := hP
    have hz : H.size = s.heap.size := hz1.trans hz
    clear hz1
    rw [zfl_s] at hP
    refine lv_aload_n hx hb d_M19_78 rfl (lv_at hl 1 rfl) ?_
    refine zg_M S hK hP rfl 4 (by decide) zl_M4 rfl d_M19_79 ?_
    refine lv_bipush (v := 8) hx hb d_M19_82 (by decide) ?_
    refine lv_iload_n hx hb d_M19_84 rfl (lv_at hl 3 rfl) ?_
    refine lv_imul hx hb d_M19_85 ?_
    refine lv_iload hx hb d_M19_86 (lv_at hl 0 rfl) ?_
    refine lv_iadd hx hb d_M19_88 ?_
    refine lv_topi (fun zz ez => ?_)
    obtain rfl : zz = (nI (8 * u + k)) := ez.trans (zi_i8 u k)
    refine lv_aload_n hx hb d_M19_89 rfl (lv_at hl 1 rfl) ?_
    refine lv_iload_n hx hb d_M19_90 rfl (lv_at hl 2 rfl) ?_
    refine lv_iload hx hb d_M19_91 (lv_at hl 0 rfl) ?_
    refine zc_Vi (C := zc_M) S k_M47 (c_M10 l D cZ mo b0 b1 b2 b3 b4 b5 hnd 0 (zr v) (zr n) (zfl (zo mm) (8 * u) (k + 1) (bt (v r))) (zfl (zo hh) (8 * u) k (bt (n r))) f4 f5 r k hr9 (by omega)) rfl (mw_pre hK hP) ⟨Nat.le_of_ble_eq_true rfl, Nat.le_of_ble_eq_true rfl⟩ ⟨rfl, rfl⟩ rfl hl.1 rfl (Nat.le_of_ble_eq_true rfl) d_M19_93 ⟨Nat.zero_le _, Nat.zero_le _⟩ ?_
    rw [zr_at n r k (by omega)]
    refine zz_st hx hb hK hP (zd_of rfl hnd) hS 4 0 rfl rfl (j := (8 * u + k)) (by omega) (by decide) d_M19_96 (fun H locs hP hS hz1 => ?_)
    have hP : va_P D zC (MW cZ mo b0 b1 b2 b3 b4 b5 0 (zr v) (zr n) (zfl (zo mm) (8 * u) (k + 1) (bt (v r))) (zs (zfl (zo hh) (8 * u) k (bt (n r))) ((8 * u + k)) (bt (n r) k)) f4 f5) H := hP
    have hz : H.size = s.heap.size := hz1.trans hz
    clear hz1
    rw [zfl_s] at hP
    refine lv_iinc (k := 0) (v := (nI (k + 1))) hx hb d_M19_97 hl rfl (zi_inc _) (by decide) rfl (fun ls hl => ?_)
    have hl : lv_has ls 5 [(4, .int (nI (k + 1))), (0, .ref mo), (1, .int (nI r)), (2, .int (nI u)), (3, .int (nI nn))] := hl
    refine lv_goto (tgt := 50) hx hb d_M19_100 (by decide) ?_
    exact ih _ _ _ ⟨by omega, hz, hS, hP, lv_sub hl [0, 1, 2, 3, 4] rfl⟩
set_option maxHeartbeats 4000000 in
set_option maxRecDepth 100000 in
theorem c_M20 (l : Launch) (D : va_G) (cZ : ClassId) (mo b0 b1 b2 b3 b4 b5 : Nat) (hnd : [mo, b0, b1, b2, b3, b4, b5].Nodup) (er : Int32) (v n : Nat → Int32) (mm hh : Nat → Int8) (f4 f5 : Nat → Bool) (r u nn : Nat) (sg : Bool) (hr9 : r < 16) (hn9 : nn = 1 ∨ nn = 2 ∨ nn = 4) (hu : u + nn ≤ 256) : Met l y_M20 (zw (.code y_M20 b_M20 8 none)) (rmv 1 0 0) (va_Pc [.ref mo, .int (nI r), .int (nI u), .int (nI nn), .int (zb sg)] (zp_W D (mT cZ) (MW cZ mo b0 b1 b2 b3 b4 b5 er (zr v) (zr n) (zo mm) (zo hh) f4 f5))) (zq_w (fun rv H => rv = none ∧ ∃ g4 g5 : Nat → Bool, va_P D zC (MW cZ mo b0 b1 b2 b3 b4 b5 0 (zr (zs v r (zjo mm u nn sg))) (zr (zs n r (zjo hh u nn sg))) (zo mm) (zo hh) g4 g5) H) (fun q => q ∈ [mo, b0, b1, b2, b3, b4, b5])) 0 0 (fun q => q ∈ [mo, b0, b1, b2, b3, b4, b5]) := by
  refine zm_met (b := b_M20) [.ref mo, .int (nI r), .int (nI u), .int (nI nn), .int (zb sg)] zy_M (Nat.le_of_ble_eq_true rfl) ?_
  intro p e s m below meth c ls S hr hlk hnm hl hB
  obtain ⟨hx, hb, hml, hown, hts⟩ := id S
  have hl : lv_has ls 8 [(0, .ref mo), (1, .int (nI r)), (2, .int (nI u)), (3, .int (nI nn)), (4, .int (zb sg))] := hl
  obtain ⟨hP, hK⟩ := hB
  have hS : va_S (fun q => q ∈ [mo, b0, b1, b2, b3, b4, b5]) s.heap s.heap [] := va_S.rf
  have hz : s.heap.size = s.heap.size := rfl
  have hn1 : 1 ≤ nn := by omega
  have hn4 : nn ≤ 4 := by omega
  refine lv_aload_n hx hb d_M20_0 rfl (lv_at hl 0 rfl) ?_
  refine lv_iload_n hx hb d_M20_1 rfl (lv_at hl 3 rfl) ?_
  refine zc_Si S k_M81 (c_M18 l (nI nn)) zp_S ⟨Nat.le_of_ble_eq_true rfl, Nat.le_of_ble_eq_true rfl⟩ ⟨rfl, rfl⟩ rfl hl.1 rfl (Nat.le_of_ble_eq_true rfl) d_M20_2 ⟨Nat.zero_le _, Nat.zero_le _⟩ ?_
  rw [show decide (¬ nI nn = 1 ∧ ¬ nI nn = 2 ∧ ¬ nI nn = 4) = false from decide_eq_false (by rcases hn9 with rfl | rfl | rfl <;> decide)]
  refine lv_iconst (v := 1) hx hb d_M20_5 (by decide) ?_
  refine zc_Vw (C := zc_M) S k_M36 (c_M3 l D cZ mo b0 b1 b2 b3 b4 b5 hnd er (zr v) (zr n) (zo mm) (zo hh) f4 f5 false 1) rfl (mw_pre hK hP) ⟨Nat.le_of_ble_eq_true rfl, Nat.le_of_ble_eq_true rfl⟩ ⟨rfl, rfl⟩ rfl hl.1 rfl (Nat.le_of_ble_eq_true rfl) d_M20_6 ⟨Nat.zero_le _, Nat.zero_le _⟩ hS (fun rv H locs hq hz1 hS => ?_)
  obtain ⟨rfl, hP⟩ := hq
  have hP : va_P D zC (MW cZ mo b0 b1 b2 b3 b4 b5 0 (zr v) (zr n) (zo mm) (zo hh) f4 f5) H := hP
  have hz : H.size = s.heap.size := hz1.trans hz
  clear hz1
  refine lv_if_eq (tgt := 13) hx hb d_M20_9 (by decide) (fun hq => ?_) (fun hq => absurd rfl hq)
  refine lv_aload_n hx hb d_M20_13 rfl (lv_at hl 0 rfl) ?_
  refine lv_iload_n hx hb d_M20_14 rfl (lv_at hl 1 rfl) ?_
  refine zc_Si S k_M32 (c_M4 l (nI r)) zp_S ⟨Nat.le_of_ble_eq_true rfl, Nat.le_of_ble_eq_true rfl⟩ ⟨rfl, rfl⟩ rfl hl.1 rfl (Nat.le_of_ble_eq_true rfl) d_M20_15 ⟨Nat.zero_le _, Nat.zero_le _⟩ ?_
  rw [zk_in hr9]
  refine lv_if_ne (tgt := 34) hx hb d_M20_18 (by decide) (fun hq => absurd rfl hq) (fun hq => ?_)
  refine lv_iload_n hx hb d_M20_21 rfl (lv_at hl 2 rfl) ?_
  refine lv_if_lt (tgt := 34) hx hb d_M20_22 (by decide) (fun hq => absurd hq (nI_pos (by omega))) (fun hq => ?_)
  refine lv_iload_n hx hb d_M20_25 rfl (lv_at hl 2 rfl) ?_
  refine lv_sipush (v := 256) hx hb d_M20_26 (by decide) ?_
  refine lv_iload_n hx hb d_M20_29 rfl (lv_at hl 3 rfl) ?_
  refine lv_isub hx hb d_M20_30 ?_
  refine lv_topi (fun zz ez => ?_)
  obtain rfl : zz = (nI (256 - nn)) := ez.trans (pk_sub (a := 256) (by omega))
  refine lv_icmp_le (tgt := 38) hx hb d_M20_31 (by decide) (fun hq => ?_) (fun hq => absurd (nI_le (by omega) (by omega)) hq)
  refine lv_iconst (v := 0) hx hb d_M20_38 (by decide) ?_
  refine lv_iconst (v := 2) hx hb d_M20_39 (by decide) ?_
  refine zc_Vw (C := zc_M) S k_M36 (c_M3 l D cZ mo b0 b1 b2 b3 b4 b5 hnd 0 (zr v) (zr n) (zo mm) (zo hh) f4 f5 false 2) rfl (mw_pre hK hP) ⟨Nat.le_of_ble_eq_true rfl, Nat.le_of_ble_eq_true rfl⟩ ⟨rfl, rfl⟩ rfl hl.1 rfl (Nat.le_of_ble_eq_true rfl) d_M20_40 ⟨Nat.zero_le _, Nat.zero_le _⟩ hS (fun rv H locs hq hz1 hS => ?_)
  obtain ⟨rfl, hP⟩ := hq
  have hP : va_P D zC (MW cZ mo b0 b1 b2 b3 b4 b5 0 (zr v) (zr n) (zo mm) (zo hh) f4 f5) H := hP
  have hz : H.size = s.heap.size := hz1.trans hz
  clear hz1
  refine lv_if_eq (tgt := 47) hx hb d_M20_43 (by decide) (fun hq => ?_) (fun hq => absurd rfl hq)
  refine lv_iconst (v := 0) hx hb d_M20_47 (by decide) ?_
  refine lv_istore hx hb d_M20_48 hl (by decide) rfl (fun ls hl => ?_)
  have hl : lv_has ls 8 [(5, .int 0), (0, .ref mo), (1, .int (nI r)), (2, .int (nI u)), (3, .int (nI nn)), (4, .int (zb sg))] := hl
  refine zl_loop (fun k H locs ls => k ≤ 32 ∧ H.size = s.heap.size ∧ va_S (fun q => q ∈ [mo, b0, b1, b2, b3, b4, b5]) s.heap H locs ∧ va_P D zC (MW cZ mo b0 b1 b2 b3 b4 b5 0 (zr v) (zr n) (zo mm) (zo hh) (zfl f4 0 k (bt (zjo mm u nn sg))) (zfl f5 0 k (bt (zjo hh u nn sg)))) H ∧ lv_has ls 8 [(5, .int (nI k)), (0, .ref mo), (1, .int (nI r)), (2, .int (nI u)), (3, .int (nI nn)), (4, .int (zb sg))]) 50 32 (fun k H locs ls h => h.1) ?_ 0 _ _ _ ⟨by omega, hz, hS, by rw [zfl_0, zfl_0]; exact hP, hl⟩
  intro k H locs ls hI ih
  obtain ⟨hk, hz, hS, hP, hl⟩ := hI
  refine lv_iload hx hb d_M20_50 (lv_at hl 0 rfl) ?_
  refine lv_bipush (v := 32) hx hb d_M20_52 (by decide) ?_
  refine lv_icmp_ge (tgt := 170) hx hb d_M20_54 (by decide) (fun hc => ?_) (fun hc => ?_)
  · have hk2 := zi_ge 32 rfl hc hk (by decide)
    rw [hk2] at hP
    refine lv_aload_n hx hb d_M20_170 rfl (lv_at hl 1 rfl) ?_
    refine lv_iload_n hx hb d_M20_171 rfl (lv_at hl 2 rfl) ?_
    refine zc_Vw (C := zc_M) S k_M44 (c_M6 l D cZ mo b0 b1 b2 b3 b4 b5 hnd 0 v n (zo mm) (zo hh) (zfl f4 0 32 (bt (zjo mm u nn sg))) (zfl f5 0 32 (bt (zjo hh u nn sg))) r hr9 (zjo mm u nn sg) (zjo hh u nn sg) (fun i hi => zfl_at f4 32 _ hi) (fun i hi => zfl_at f5 32 _ hi)) rfl (mw_pre hK hP) ⟨Nat.le_of_ble_eq_true rfl, Nat.le_of_ble_eq_true rfl⟩ ⟨rfl, rfl⟩ rfl hl.1 rfl (Nat.le_of_ble_eq_true rfl) d_M20_172 ⟨Nat.zero_le _, Nat.zero_le _⟩ hS (fun rv H locs hq hz1 hS => ?_)
    obtain ⟨rfl, hP⟩ := hq
    have hz : H.size = s.heap.size := hz1.trans hz
    clear hz1
    exact W.vret hx hb hr (fun t ht hW => zq_end hS hz ⟨rfl, _, _, hP⟩ ht) hS.2.2 d_M20_175
  · have hk2 := zi_lt 32 rfl hc hk (by decide)
    by_cases hin : k < 8 * nn
    · refine lv_iload hx hb d_M20_57 (lv_at hl 0 rfl) ?_
      refine lv_bipush (v := 8) hx hb d_M20_59 (by decide) ?_
      refine lv_iload_n hx hb d_M20_61 rfl (lv_at hl 4 rfl) ?_
      refine lv_imul hx hb d_M20_62 ?_
      refine lv_topi (fun zz ez => ?_)
      obtain rfl : zz = (nI (8 * nn)) := ez.trans (pk_mul 8 nn)
      refine lv_icmp_ge (tgt := 71) hx hb d_M20_63 (by decide) (fun hq => absurd hq (nI_ge hin (by omega))) (fun hq => ?_)
      refine lv_iload hx hb d_M20_66 (lv_at hl 0 rfl) ?_
      refine lv_goto (tgt := 77) hx hb d_M20_68 (by decide) ?_
      refine lv_istore hx hb d_M20_77 hl (by decide) rfl (fun ls hl => ?_)
      have hl : lv_has ls 8 [(6, .int (nI k)), (5, .int (nI k)), (0, .ref mo), (1, .int (nI r)), (2, .int (nI u)), (3, .int (nI nn)), (4, .int (zb sg))] := hl
      refine lv_iload hx hb d_M20_79 (lv_at hl 1 rfl) ?_
      refine lv_bipush (v := 8) hx hb d_M20_81 (by decide) ?_
      refine lv_iload_n hx hb d_M20_83 rfl (lv_at hl 5 rfl) ?_
      refine lv_imul hx hb d_M20_84 ?_
      refine lv_topi (fun zz ez => ?_)
      obtain rfl : zz = (nI (8 * nn)) := ez.trans (pk_mul 8 nn)
      refine lv_icmp_lt (tgt := 93) hx hb d_M20_85 (by decide) (fun hq => ?_) (fun hq => absurd (nI_lt hin (by omega)) hq)
      refine lv_iconst (v := 1) hx hb d_M20_93 (by decide) ?_
      refine lv_goto (tgt := 98) hx hb d_M20_94 (by decide) ?_
      show W p l e _ s m _ below meth c H locs 0 0 _ (F0 m 98 ls [.int (zb true)])
      refine lv_istore hx hb d_M20_98 hl (by decide) rfl (fun ls hl => ?_)
      have hl : lv_has ls 8 [(7, .int (zb true)), (6, .int (nI k)), (5, .int (nI k)), (0, .ref mo), (1, .int (nI r)), (2, .int (nI u)), (3, .int (nI nn)), (4, .int (zb sg))] := hl
      refine lv_aload_n hx hb d_M20_100 rfl (lv_at hl 3 rfl) ?_
      refine zg_M S hK hP rfl 5 (by decide) zl_M5 rfl d_M20_101 ?_
      refine lv_iload hx hb d_M20_104 (lv_at hl 2 rfl) ?_
      refine lv_iload hx hb d_M20_106 (lv_at hl 0 rfl) ?_
      refine zj_i (x := (zb (bt (zjo mm u nn sg) k))) (pc := 131) (ls := ls) (rest := [.int (nI k), .ref b4]) ?_ (fun J9 => ?_)
      · intro z hz9
        subst hz9
        refine zz_st hx hb hK hP (zd_of rfl hnd) hS 5 0 rfl rfl (j := k) (by omega) (by decide) d_M20_131 (fun H locs hP hS hz1 => ?_)
        have hP : va_P D zC (MW cZ mo b0 b1 b2 b3 b4 b5 0 (zr v) (zr n) (zo mm) (zo hh) (zs (zfl f4 0 k (bt (zjo mm u nn sg))) (k) (bt (zjo mm u nn sg) k)) (zfl f5 0 k (bt (zjo hh u nn sg)))) H := hP
        have hz : H.size = s.heap.size := hz1.trans hz
        clear hz1
        rw [zfl_s0] at hP
        refine lv_aload_n hx hb d_M20_132 rfl (lv_at hl 3 rfl) ?_
        refine zg_M S hK hP rfl 6 (by decide) zl_M6 rfl d_M20_133 ?_
        refine lv_iload hx hb d_M20_136 (lv_at hl 2 rfl) ?_
        refine lv_iload hx hb d_M20_138 (lv_at hl 0 rfl) ?_
        refine zj_i (x := (zb (bt (zjo hh u nn sg) k))) (pc := 163) (ls := ls) (rest := [.int (nI k), .ref b5]) ?_ (fun J9 => ?_)
        · intro z hz9
          subst hz9
          refine zz_st hx hb hK hP (zd_of rfl hnd) hS 6 0 rfl rfl (j := k) (by omega) (by decide) d_M20_163 (fun H locs hP hS hz1 => ?_)
          have hP : va_P D zC (MW cZ mo b0 b1 b2 b3 b4 b5 0 (zr v) (zr n) (zo mm) (zo hh) (zfl f4 0 (k + 1) (bt (zjo mm u nn sg))) (zs (zfl f5 0 k (bt (zjo hh u nn sg))) (k) (bt (zjo hh u nn sg) k))) H := hP
          have hz : H.size = s.heap.size := hz1.trans hz
          clear hz1
          rw [zfl_s0] at hP
          refine lv_iinc (k := 2) (v := (nI (k + 1))) hx hb d_M20_164 hl rfl (zi_inc _) (by decide) rfl (fun ls hl => ?_)
          have hl : lv_has ls 8 [(5, .int (nI (k + 1))), (7, .int (zb true)), (6, .int (nI k)), (0, .ref mo), (1, .int (nI r)), (2, .int (nI u)), (3, .int (nI nn)), (4, .int (zb sg))] := hl
          refine lv_goto (tgt := 50) hx hb d_M20_167 (by decide) ?_
          exact ih _ _ _ ⟨by omega, hz, hS, hP, lv_sub hl [0, 3, 4, 5, 6, 7] rfl⟩
        refine lv_if_eq (tgt := 162) hx hb d_M20_140 (by decide) (fun i1 => ?_) (fun i1 => ?_)
        · exact absurd i1 (by decide)
        · refine lv_aload_n hx hb d_M20_143 rfl (lv_at hl 3 rfl) ?_
          refine zg_M S hK hP rfl 4 (by decide) zl_M4 rfl d_M20_144 ?_
          refine lv_bipush (v := 8) hx hb d_M20_147 (by decide) ?_
          refine lv_iload_n hx hb d_M20_149 rfl (lv_at hl 5 rfl) ?_
          refine lv_imul hx hb d_M20_150 ?_
          refine lv_iload hx hb d_M20_151 (lv_at hl 1 rfl) ?_
          refine lv_iadd hx hb d_M20_153 ?_
          refine lv_topi (fun zz ez => ?_)
          obtain rfl : zz = (nI (8 * u + (k))) := ez.trans (zi_i8 u (k))
          refine zz_ld hx hb hK hP 4 0 rfl rfl (j := (8 * u + (k))) (by omega) (by decide) d_M20_154 ?_
          refine lv_if_eq (tgt := 162) hx hb d_M20_155 (by decide) (fun i2 => ?_) (fun i2 => ?_)
          · refine lv_iconst (v := 0) hx hb d_M20_162 (by decide) ?_
            exact J9 _ (by rw [zjo_bit hh u hn1 hn4 sg hk2, if_pos hin]; rw [(zb_0 _).mp i2]; rfl)
          · refine lv_iconst (v := 1) hx hb d_M20_158 (by decide) ?_
            refine lv_goto (tgt := 163) hx hb d_M20_159 (by decide) ?_
            exact J9 _ (by rw [zjo_bit hh u hn1 hn4 sg hk2, if_pos hin]; rw [show zo hh (8 * u + (k)) = true by simpa using mt (zb_0 _).mpr i2]; rfl)
      refine lv_if_eq (tgt := 130) hx hb d_M20_108 (by decide) (fun i1 => ?_) (fun i1 => ?_)
      · exact absurd i1 (by decide)
      · refine lv_aload_n hx hb d_M20_111 rfl (lv_at hl 3 rfl) ?_
        refine zg_M S hK hP rfl 3 (by decide) zl_M3 rfl d_M20_112 ?_
        refine lv_bipush (v := 8) hx hb d_M20_115 (by decide) ?_
        refine lv_iload_n hx hb d_M20_117 rfl (lv_at hl 5 rfl) ?_
        refine lv_imul hx hb d_M20_118 ?_
        refine lv_iload hx hb d_M20_119 (lv_at hl 1 rfl) ?_
        refine lv_iadd hx hb d_M20_121 ?_
        refine lv_topi (fun zz ez => ?_)
        obtain rfl : zz = (nI (8 * u + (k))) := ez.trans (zi_i8 u (k))
        refine zz_ld hx hb hK hP 3 0 rfl rfl (j := (8 * u + (k))) (by omega) (by decide) d_M20_122 ?_
        refine lv_if_eq (tgt := 130) hx hb d_M20_123 (by decide) (fun i2 => ?_) (fun i2 => ?_)
        · refine lv_iconst (v := 0) hx hb d_M20_130 (by decide) ?_
          exact J9 _ (by rw [zjo_bit mm u hn1 hn4 sg hk2, if_pos hin]; rw [(zb_0 _).mp i2]; rfl)
        · refine lv_iconst (v := 1) hx hb d_M20_126 (by decide) ?_
          refine lv_goto (tgt := 131) hx hb d_M20_127 (by decide) ?_
          exact J9 _ (by rw [zjo_bit mm u hn1 hn4 sg hk2, if_pos hin]; rw [show zo mm (8 * u + (k)) = true by simpa using mt (zb_0 _).mpr i2]; rfl)
    · refine lv_iload hx hb d_M20_57 (lv_at hl 0 rfl) ?_
      refine lv_bipush (v := 8) hx hb d_M20_59 (by decide) ?_
      refine lv_iload_n hx hb d_M20_61 rfl (lv_at hl 4 rfl) ?_
      refine lv_imul hx hb d_M20_62 ?_
      refine lv_topi (fun zz ez => ?_)
      obtain rfl : zz = (nI (8 * nn)) := ez.trans (pk_mul 8 nn)
      refine lv_icmp_ge (tgt := 71) hx hb d_M20_63 (by decide) (fun hq => ?_) (fun hq => absurd (nI_le (by omega) (by omega)) hq)
      refine lv_bipush (v := 8) hx hb d_M20_71 (by decide) ?_
      refine lv_iload_n hx hb d_M20_73 rfl (lv_at hl 4 rfl) ?_
      refine lv_imul hx hb d_M20_74 ?_
      refine lv_topi (fun zz ez => ?_)
      obtain rfl : zz = (nI (8 * nn)) := ez.trans (pk_mul 8 nn)
      refine lv_iconst (v := 1) hx hb d_M20_75 (by decide) ?_
      refine lv_isub hx hb d_M20_76 ?_
      refine lv_topi (fun zz ez => ?_)
      obtain rfl : zz = (nI (8 * nn - 1)) := ez.trans (pk_sub (b := 1) (by omega))
      refine lv_istore hx hb d_M20_77 hl (by decide) rfl (fun ls hl => ?_)
      have hl : lv_has ls 8 [(6, .int (nI (8 * nn - 1))), (5, .int (nI k)), (0, .ref mo), (1, .int (nI r)), (2, .int (nI u)), (3, .int (nI nn)), (4, .int (zb sg))] := hl
      refine lv_iload hx hb d_M20_79 (lv_at hl 1 rfl) ?_
      refine lv_bipush (v := 8) hx hb d_M20_81 (by decide) ?_
      refine lv_iload_n hx hb d_M20_83 rfl (lv_at hl 5 rfl) ?_
      refine lv_imul hx hb d_M20_84 ?_
      refine lv_topi (fun zz ez => ?_)
      obtain rfl : zz = (nI (8 * nn)) := ez.trans (pk_mul 8 nn)
      refine lv_icmp_lt (tgt := 93) hx hb d_M20_85 (by decide) (fun hq => absurd hq (nI_nlt (by omega) (by omega))) (fun hq => ?_)
      refine lv_iload hx hb d_M20_88 (lv_at hl 6 rfl) ?_
      refine zj_i (x := (zb sg)) (pc := 98) (ls := ls) (rest := []) ?_ (fun J7 => ?_)
      · intro z hz9
        subst hz9
        refine lv_istore hx hb d_M20_98 hl (by decide) rfl (fun ls hl => ?_)
        have hl : lv_has ls 8 [(7, .int (zb sg)), (6, .int (nI (8 * nn - 1))), (5, .int (nI k)), (0, .ref mo), (1, .int (nI r)), (2, .int (nI u)), (3, .int (nI nn)), (4, .int (zb sg))] := hl
        refine lv_aload_n hx hb d_M20_100 rfl (lv_at hl 3 rfl) ?_
        refine zg_M S hK hP rfl 5 (by decide) zl_M5 rfl d_M20_101 ?_
        refine lv_iload hx hb d_M20_104 (lv_at hl 2 rfl) ?_
        refine lv_iload hx hb d_M20_106 (lv_at hl 0 rfl) ?_
        refine zj_i (x := (zb (bt (zjo mm u nn sg) k))) (pc := 131) (ls := ls) (rest := [.int (nI k), .ref b4]) ?_ (fun J9 => ?_)
        · intro z hz9
          subst hz9
          refine zz_st hx hb hK hP (zd_of rfl hnd) hS 5 0 rfl rfl (j := k) (by omega) (by decide) d_M20_131 (fun H locs hP hS hz1 => ?_)
          have hP : va_P D zC (MW cZ mo b0 b1 b2 b3 b4 b5 0 (zr v) (zr n) (zo mm) (zo hh) (zs (zfl f4 0 k (bt (zjo mm u nn sg))) (k) (bt (zjo mm u nn sg) k)) (zfl f5 0 k (bt (zjo hh u nn sg)))) H := hP
          have hz : H.size = s.heap.size := hz1.trans hz
          clear hz1
          rw [zfl_s0] at hP
          refine lv_aload_n hx hb d_M20_132 rfl (lv_at hl 3 rfl) ?_
          refine zg_M S hK hP rfl 6 (by decide) zl_M6 rfl d_M20_133 ?_
          refine lv_iload hx hb d_M20_136 (lv_at hl 2 rfl) ?_
          refine lv_iload hx hb d_M20_138 (lv_at hl 0 rfl) ?_
          refine zj_i (x := (zb (bt (zjo hh u nn sg) k))) (pc := 163) (ls := ls) (rest := [.int (nI k), .ref b5]) ?_ (fun J9 => ?_)
          · intro z hz9
            subst hz9
            refine zz_st hx hb hK hP (zd_of rfl hnd) hS 6 0 rfl rfl (j := k) (by omega) (by decide) d_M20_163 (fun H locs hP hS hz1 => ?_)
            have hP : va_P D zC (MW cZ mo b0 b1 b2 b3 b4 b5 0 (zr v) (zr n) (zo mm) (zo hh) (zfl f4 0 (k + 1) (bt (zjo mm u nn sg))) (zs (zfl f5 0 k (bt (zjo hh u nn sg))) (k) (bt (zjo hh u nn sg) k))) H := hP
            have hz : H.size = s.heap.size := hz1.trans hz
            clear hz1
            rw [zfl_s0] at hP
            refine lv_iinc (k := 2) (v := (nI (k + 1))) hx hb d_M20_164 hl rfl (zi_inc _) (by decide) rfl (fun ls hl => ?_)
            have hl : lv_has ls 8 [(5, .int (nI (k + 1))), (7, .int (zb sg)), (6, .int (nI (8 * nn - 1))), (0, .ref mo), (1, .int (nI r)), (2, .int (nI u)), (3, .int (nI nn)), (4, .int (zb sg))] := hl
            refine lv_goto (tgt := 50) hx hb d_M20_167 (by decide) ?_
            exact ih _ _ _ ⟨by omega, hz, hS, hP, lv_sub hl [0, 3, 4, 5, 6, 7] rfl⟩
          refine lv_if_eq (tgt := 162) hx hb d_M20_140 (by decide) (fun i1 => ?_) (fun i1 => ?_)
          · refine lv_iconst (v := 0) hx hb d_M20_162 (by decide) ?_
            exact J9 _ (by rw [zjo_bit hh u hn1 hn4 sg hk2, if_neg hin]; rw [(zb_0 _).mp i1]; rfl)
          · refine lv_aload_n hx hb d_M20_143 rfl (lv_at hl 3 rfl) ?_
            refine zg_M S hK hP rfl 4 (by decide) zl_M4 rfl d_M20_144 ?_
            refine lv_bipush (v := 8) hx hb d_M20_147 (by decide) ?_
            refine lv_iload_n hx hb d_M20_149 rfl (lv_at hl 5 rfl) ?_
            refine lv_imul hx hb d_M20_150 ?_
            refine lv_iload hx hb d_M20_151 (lv_at hl 1 rfl) ?_
            refine lv_iadd hx hb d_M20_153 ?_
            refine lv_topi (fun zz ez => ?_)
            obtain rfl : zz = (nI (8 * u + (8 * nn - 1))) := ez.trans (zi_i8 u (8 * nn - 1))
            refine zz_ld hx hb hK hP 4 0 rfl rfl (j := (8 * u + (8 * nn - 1))) (by omega) (by decide) d_M20_154 ?_
            refine lv_if_eq (tgt := 162) hx hb d_M20_155 (by decide) (fun i2 => ?_) (fun i2 => ?_)
            · refine lv_iconst (v := 0) hx hb d_M20_162 (by decide) ?_
              exact J9 _ (by rw [zjo_bit hh u hn1 hn4 sg hk2, if_neg hin]; rw [show sg = true by simpa using mt (zb_0 _).mpr i1]; rw [(zb_0 _).mp i2]; rfl)
            · refine lv_iconst (v := 1) hx hb d_M20_158 (by decide) ?_
              refine lv_goto (tgt := 163) hx hb d_M20_159 (by decide) ?_
              exact J9 _ (by rw [zjo_bit hh u hn1 hn4 sg hk2, if_neg hin]; rw [show sg = true by simpa using mt (zb_0 _).mpr i1]; rw [show zo hh (8 * u + (8 * nn - 1)) = true by simpa using mt (zb_0 _).mpr i2]; rfl)
        refine lv_if_eq (tgt := 130) hx hb d_M20_108 (by decide) (fun i1 => ?_) (fun i1 => ?_)
        · refine lv_iconst (v := 0) hx hb d_M20_130 (by decide) ?_
          exact J9 _ (by rw [zjo_bit mm u hn1 hn4 sg hk2, if_neg hin]; rw [(zb_0 _).mp i1]; rfl)
        · refine lv_aload_n hx hb d_M20_111 rfl (lv_at hl 3 rfl) ?_
          refine zg_M S hK hP rfl 3 (by decide) zl_M3 rfl d_M20_112 ?_
          refine lv_bipush (v := 8) hx hb d_M20_115 (by decide) ?_
          refine lv_iload_n hx hb d_M20_117 rfl (lv_at hl 5 rfl) ?_
          refine lv_imul hx hb d_M20_118 ?_
          refine lv_iload hx hb d_M20_119 (lv_at hl 1 rfl) ?_
          refine lv_iadd hx hb d_M20_121 ?_
          refine lv_topi (fun zz ez => ?_)
          obtain rfl : zz = (nI (8 * u + (8 * nn - 1))) := ez.trans (zi_i8 u (8 * nn - 1))
          refine zz_ld hx hb hK hP 3 0 rfl rfl (j := (8 * u + (8 * nn - 1))) (by omega) (by decide) d_M20_122 ?_
          refine lv_if_eq (tgt := 130) hx hb d_M20_123 (by decide) (fun i2 => ?_) (fun i2 => ?_)
          · refine lv_iconst (v := 0) hx hb d_M20_130 (by decide) ?_
            exact J9 _ (by rw [zjo_bit mm u hn1 hn4 sg hk2, if_neg hin]; rw [show sg = true by simpa using mt (zb_0 _).mpr i1]; rw [(zb_0 _).mp i2]; rfl)
          · refine lv_iconst (v := 1) hx hb d_M20_126 (by decide) ?_
            refine lv_goto (tgt := 131) hx hb d_M20_127 (by decide) ?_
            exact J9 _ (by rw [zjo_bit mm u hn1 hn4 sg hk2, if_neg hin]; rw [show sg = true by simpa using mt (zb_0 _).mpr i1]; rw [show zo mm (8 * u + (8 * nn - 1)) = true by simpa using mt (zb_0 _).mpr i2]; rfl)
      refine lv_if_eq (tgt := 97) hx hb d_M20_90 (by decide) (fun i0 => ?_) (fun i0 => ?_)
      · refine lv_iconst (v := 0) hx hb d_M20_97 (by decide) ?_
        exact J7 _ (by rw [(zb_0 _).mp i0]; rfl)
      · refine lv_iconst (v := 1) hx hb d_M20_93 (by decide) ?_
        refine lv_goto (tgt := 98) hx hb d_M20_94 (by decide) ?_
        exact J7 _ (by rw [show sg = true by simpa using mt (zb_0 _).mpr i0]; rfl)
set_option maxHeartbeats 4000000 in
set_option maxRecDepth 100000 in
theorem c_M19a (l : Launch) (D : va_G) (cZ : ClassId) (mo b0 b1 b2 b3 b4 b5 : Nat) (hnd : [mo, b0, b1, b2, b3, b4, b5].Nodup) (er : Int32) (v n : Nat → Int32) (mm hh : Nat → Int8) (f4 f5 : Nat → Bool) (r u n9 : Int32) (h9 : ¬ n9 = 1 ∧ ¬ n9 = 2 ∧ ¬ n9 = 4) : Met l y_M19 (zw (.code y_M19 b_M19 5 none)) (rmv 1 0 0) (va_Pc [.ref mo, .int r, .int u, .int n9] (zp_W D (mT cZ) (MW cZ mo b0 b1 b2 b3 b4 b5 er (zr v) (zr n) (zo mm) (zo hh) f4 f5))) (zq_w (fun rv H => rv = none ∧ ∃ g4 g5 : Nat → Bool, va_P D zC (MW cZ mo b0 b1 b2 b3 b4 b5 1 (zr v) (zr n) (zo mm) (zo hh) g4 g5) H) (fun q => q ∈ [mo, b0, b1, b2, b3, b4, b5])) 0 0 (fun q => q ∈ [mo, b0, b1, b2, b3, b4, b5]) := by
  refine zm_met (b := b_M19) [.ref mo, .int r, .int u, .int n9] zy_M (Nat.le_of_ble_eq_true rfl) ?_
  intro p e s m below meth c ls S hr hlk hnm hl hB
  obtain ⟨hx, hb, hml, hown, hts⟩ := id S
  have hl : lv_has ls 5 [(0, .ref mo), (1, .int r), (2, .int u), (3, .int n9)] := hl
  obtain ⟨hP, hK⟩ := hB
  have hS : va_S (fun q => q ∈ [mo, b0, b1, b2, b3, b4, b5]) s.heap s.heap [] := va_S.rf
  have hz : s.heap.size = s.heap.size := rfl
  refine lv_aload_n hx hb d_M19_0 rfl (lv_at hl 0 rfl) ?_
  refine lv_iload_n hx hb d_M19_1 rfl (lv_at hl 3 rfl) ?_
  refine zc_Si S k_M81 (c_M18 l n9) zp_S ⟨Nat.le_of_ble_eq_true rfl, Nat.le_of_ble_eq_true rfl⟩ ⟨rfl, rfl⟩ rfl hl.1 rfl (Nat.le_of_ble_eq_true rfl) d_M19_2 ⟨Nat.zero_le _, Nat.zero_le _⟩ ?_
  rw [decide_eq_true h9]
  refine lv_iconst (v := 1) hx hb d_M19_5 (by decide) ?_
  refine zc_Vw (C := zc_M) S k_M36 (c_M3 l D cZ mo b0 b1 b2 b3 b4 b5 hnd er (zr v) (zr n) (zo mm) (zo hh) f4 f5 true 1) rfl (mw_pre hK hP) ⟨Nat.le_of_ble_eq_true rfl, Nat.le_of_ble_eq_true rfl⟩ ⟨rfl, rfl⟩ rfl hl.1 rfl (Nat.le_of_ble_eq_true rfl) d_M19_6 ⟨Nat.zero_le _, Nat.zero_le _⟩ hS (fun rv H locs hq hz1 hS => ?_)
  obtain ⟨rfl, hP⟩ := hq
  have hP : va_P D zC (MW cZ mo b0 b1 b2 b3 b4 b5 1 (zr v) (zr n) (zo mm) (zo hh) f4 f5) H := hP
  have hz : H.size = s.heap.size := hz1.trans hz
  clear hz1
  refine lv_if_eq (tgt := 13) hx hb d_M19_9 (by decide) (fun hq => absurd hq (by decide)) (fun hq => ?_)
  exact W.vret hx hb hr (fun t ht hW => zq_end hS hz ⟨rfl, f4, f5, hP⟩ ht) hS.2.2 d_M19_12
set_option maxHeartbeats 4000000 in
set_option maxRecDepth 100000 in
theorem c_M19b (l : Launch) (D : va_G) (cZ : ClassId) (mo b0 b1 b2 b3 b4 b5 : Nat) (hnd : [mo, b0, b1, b2, b3, b4, b5].Nodup) (er : Int32) (v n : Nat → Int32) (mm hh : Nat → Int8) (f4 f5 : Nat → Bool) (r u n9 : Int32) (hn9 : n9 = 1 ∨ n9 = 2 ∨ n9 = 4) (h9 : ¬ (zk_16 r = true ∧ ¬ u < 0 ∧ ¬ 256 - n9 < u)) : Met l y_M19 (zw (.code y_M19 b_M19 5 none)) (rmv 1 0 0) (va_Pc [.ref mo, .int r, .int u, .int n9] (zp_W D (mT cZ) (MW cZ mo b0 b1 b2 b3 b4 b5 er (zr v) (zr n) (zo mm) (zo hh) f4 f5))) (zq_w (fun rv H => rv = none ∧ ∃ g4 g5 : Nat → Bool, va_P D zC (MW cZ mo b0 b1 b2 b3 b4 b5 2 (zr v) (zr n) (zo mm) (zo hh) g4 g5) H) (fun q => q ∈ [mo, b0, b1, b2, b3, b4, b5])) 0 0 (fun q => q ∈ [mo, b0, b1, b2, b3, b4, b5]) := by
  refine zm_met (b := b_M19) [.ref mo, .int r, .int u, .int n9] zy_M (Nat.le_of_ble_eq_true rfl) ?_
  intro p e s m below meth c ls S hr hlk hnm hl hB
  obtain ⟨hx, hb, hml, hown, hts⟩ := id S
  have hl : lv_has ls 5 [(0, .ref mo), (1, .int r), (2, .int u), (3, .int n9)] := hl
  obtain ⟨hP, hK⟩ := hB
  have hS : va_S (fun q => q ∈ [mo, b0, b1, b2, b3, b4, b5]) s.heap s.heap [] := va_S.rf
  have hz : s.heap.size = s.heap.size := rfl
  refine lv_aload_n hx hb d_M19_0 rfl (lv_at hl 0 rfl) ?_
  refine lv_iload_n hx hb d_M19_1 rfl (lv_at hl 3 rfl) ?_
  refine zc_Si S k_M81 (c_M18 l n9) zp_S ⟨Nat.le_of_ble_eq_true rfl, Nat.le_of_ble_eq_true rfl⟩ ⟨rfl, rfl⟩ rfl hl.1 rfl (Nat.le_of_ble_eq_true rfl) d_M19_2 ⟨Nat.zero_le _, Nat.zero_le _⟩ ?_
  rw [show decide (¬ n9 = 1 ∧ ¬ n9 = 2 ∧ ¬ n9 = 4) = false from decide_eq_false (fun q => hn9.elim q.1 (fun h => h.elim q.2.1 q.2.2))]
  refine lv_iconst (v := 1) hx hb d_M19_5 (by decide) ?_
  refine zc_Vw (C := zc_M) S k_M36 (c_M3 l D cZ mo b0 b1 b2 b3 b4 b5 hnd er (zr v) (zr n) (zo mm) (zo hh) f4 f5 false 1) rfl (mw_pre hK hP) ⟨Nat.le_of_ble_eq_true rfl, Nat.le_of_ble_eq_true rfl⟩ ⟨rfl, rfl⟩ rfl hl.1 rfl (Nat.le_of_ble_eq_true rfl) d_M19_6 ⟨Nat.zero_le _, Nat.zero_le _⟩ hS (fun rv H locs hq hz1 hS => ?_)
  obtain ⟨rfl, hP⟩ := hq
  have hP : va_P D zC (MW cZ mo b0 b1 b2 b3 b4 b5 0 (zr v) (zr n) (zo mm) (zo hh) f4 f5) H := hP
  have hz : H.size = s.heap.size := hz1.trans hz
  clear hz1
  refine lv_if_eq (tgt := 13) hx hb d_M19_9 (by decide) (fun hq => ?_) (fun hq => absurd rfl hq)
  refine lv_aload_n hx hb d_M19_13 rfl (lv_at hl 0 rfl) ?_
  refine lv_iload_n hx hb d_M19_14 rfl (lv_at hl 1 rfl) ?_
  refine zc_Si S k_M32 (c_M4 l r) zp_S ⟨Nat.le_of_ble_eq_true rfl, Nat.le_of_ble_eq_true rfl⟩ ⟨rfl, rfl⟩ rfl hl.1 rfl (Nat.le_of_ble_eq_true rfl) d_M19_15 ⟨Nat.zero_le _, Nat.zero_le _⟩ ?_
  refine lv_if_ne (tgt := 34) hx hb d_M19_18 (by decide) (fun i1 => ?_) (fun i1 => ?_)
  · refine lv_iconst (v := 1) hx hb d_M19_34 (by decide) ?_
    refine lv_goto (tgt := 39) hx hb d_M19_35 (by decide) ?_
    refine lv_iconst (v := 2) hx hb d_M19_39 (by decide) ?_
    refine zc_Vw (C := zc_M) S k_M36 (c_M3 l D cZ mo b0 b1 b2 b3 b4 b5 hnd 0 (zr v) (zr n) (zo mm) (zo hh) f4 f5 true 2) rfl (mw_pre hK hP) ⟨Nat.le_of_ble_eq_true rfl, Nat.le_of_ble_eq_true rfl⟩ ⟨rfl, rfl⟩ rfl hl.1 rfl (Nat.le_of_ble_eq_true rfl) d_M19_40 ⟨Nat.zero_le _, Nat.zero_le _⟩ hS (fun rv H locs hq hz1 hS => ?_)
    obtain ⟨rfl, hP⟩ := hq
    have hP : va_P D zC (MW cZ mo b0 b1 b2 b3 b4 b5 2 (zr v) (zr n) (zo mm) (zo hh) f4 f5) H := hP
    have hz : H.size = s.heap.size := hz1.trans hz
    clear hz1
    refine lv_if_eq (tgt := 47) hx hb d_M19_43 (by decide) (fun hq => absurd hq (by decide)) (fun hq => ?_)
    exact W.vret hx hb hr (fun t ht hW => zq_end hS hz ⟨rfl, f4, f5, hP⟩ ht) hS.2.2 d_M19_46
  · refine lv_iload_n hx hb d_M19_21 rfl (lv_at hl 2 rfl) ?_
    refine lv_if_lt (tgt := 34) hx hb d_M19_22 (by decide) (fun i2 => ?_) (fun i2 => ?_)
    · refine lv_iconst (v := 1) hx hb d_M19_34 (by decide) ?_
      refine lv_goto (tgt := 39) hx hb d_M19_35 (by decide) ?_
      refine lv_iconst (v := 2) hx hb d_M19_39 (by decide) ?_
      refine zc_Vw (C := zc_M) S k_M36 (c_M3 l D cZ mo b0 b1 b2 b3 b4 b5 hnd 0 (zr v) (zr n) (zo mm) (zo hh) f4 f5 true 2) rfl (mw_pre hK hP) ⟨Nat.le_of_ble_eq_true rfl, Nat.le_of_ble_eq_true rfl⟩ ⟨rfl, rfl⟩ rfl hl.1 rfl (Nat.le_of_ble_eq_true rfl) d_M19_40 ⟨Nat.zero_le _, Nat.zero_le _⟩ hS (fun rv H locs hq hz1 hS => ?_)
      obtain ⟨rfl, hP⟩ := hq
      have hP : va_P D zC (MW cZ mo b0 b1 b2 b3 b4 b5 2 (zr v) (zr n) (zo mm) (zo hh) f4 f5) H := hP
      have hz : H.size = s.heap.size := hz1.trans hz
      clear hz1
      refine lv_if_eq (tgt := 47) hx hb d_M19_43 (by decide) (fun hq => absurd hq (by decide)) (fun hq => ?_)
      exact W.vret hx hb hr (fun t ht hW => zq_end hS hz ⟨rfl, f4, f5, hP⟩ ht) hS.2.2 d_M19_46
    · refine lv_iload_n hx hb d_M19_25 rfl (lv_at hl 2 rfl) ?_
      refine lv_sipush (v := 256) hx hb d_M19_26 (by decide) ?_
      refine lv_iload_n hx hb d_M19_29 rfl (lv_at hl 3 rfl) ?_
      refine lv_isub hx hb d_M19_30 ?_
      refine lv_icmp_le (tgt := 38) hx hb d_M19_31 (by decide) (fun i3 => ?_) (fun i3 => ?_)
      · exact absurd ⟨by simpa using (zb_0 _).mp i1, i2, Int32.not_lt.mpr i3⟩ h9
      · refine lv_iconst (v := 1) hx hb d_M19_34 (by decide) ?_
        refine lv_goto (tgt := 39) hx hb d_M19_35 (by decide) ?_
        refine lv_iconst (v := 2) hx hb d_M19_39 (by decide) ?_
        refine zc_Vw (C := zc_M) S k_M36 (c_M3 l D cZ mo b0 b1 b2 b3 b4 b5 hnd 0 (zr v) (zr n) (zo mm) (zo hh) f4 f5 true 2) rfl (mw_pre hK hP) ⟨Nat.le_of_ble_eq_true rfl, Nat.le_of_ble_eq_true rfl⟩ ⟨rfl, rfl⟩ rfl hl.1 rfl (Nat.le_of_ble_eq_true rfl) d_M19_40 ⟨Nat.zero_le _, Nat.zero_le _⟩ hS (fun rv H locs hq hz1 hS => ?_)
        obtain ⟨rfl, hP⟩ := hq
        have hP : va_P D zC (MW cZ mo b0 b1 b2 b3 b4 b5 2 (zr v) (zr n) (zo mm) (zo hh) f4 f5) H := hP
        have hz : H.size = s.heap.size := hz1.trans hz
        clear hz1
        refine lv_if_eq (tgt := 47) hx hb d_M19_43 (by decide) (fun hq => absurd hq (by decide)) (fun hq => ?_)
        exact W.vret hx hb hr (fun t ht hW => zq_end hS hz ⟨rfl, f4, f5, hP⟩ ht) hS.2.2 d_M19_46
set_option maxHeartbeats 4000000 in
set_option maxRecDepth 100000 in
theorem c_M20a (l : Launch) (D : va_G) (cZ : ClassId) (mo b0 b1 b2 b3 b4 b5 : Nat) (hnd : [mo, b0, b1, b2, b3, b4, b5].Nodup) (er : Int32) (v n : Nat → Int32) (mm hh : Nat → Int8) (f4 f5 : Nat → Bool) (r u n9 : Int32) (sg : Int32) (h9 : ¬ n9 = 1 ∧ ¬ n9 = 2 ∧ ¬ n9 = 4) : Met l y_M20 (zw (.code y_M20 b_M20 8 none)) (rmv 1 0 0) (va_Pc [.ref mo, .int r, .int u, .int n9, .int sg] (zp_W D (mT cZ) (MW cZ mo b0 b1 b2 b3 b4 b5 er (zr v) (zr n) (zo mm) (zo hh) f4 f5))) (zq_w (fun rv H => rv = none ∧ ∃ g4 g5 : Nat → Bool, va_P D zC (MW cZ mo b0 b1 b2 b3 b4 b5 1 (zr v) (zr n) (zo mm) (zo hh) g4 g5) H) (fun q => q ∈ [mo, b0, b1, b2, b3, b4, b5])) 0 0 (fun q => q ∈ [mo, b0, b1, b2, b3, b4, b5]) := by
  refine zm_met (b := b_M20) [.ref mo, .int r, .int u, .int n9, .int sg] zy_M (Nat.le_of_ble_eq_true rfl) ?_
  intro p e s m below meth c ls S hr hlk hnm hl hB
  obtain ⟨hx, hb, hml, hown, hts⟩ := id S
  have hl : lv_has ls 8 [(0, .ref mo), (1, .int r), (2, .int u), (3, .int n9), (4, .int sg)] := hl
  obtain ⟨hP, hK⟩ := hB
  have hS : va_S (fun q => q ∈ [mo, b0, b1, b2, b3, b4, b5]) s.heap s.heap [] := va_S.rf
  have hz : s.heap.size = s.heap.size := rfl
  refine lv_aload_n hx hb d_M20_0 rfl (lv_at hl 0 rfl) ?_
  refine lv_iload_n hx hb d_M20_1 rfl (lv_at hl 3 rfl) ?_
  refine zc_Si S k_M81 (c_M18 l n9) zp_S ⟨Nat.le_of_ble_eq_true rfl, Nat.le_of_ble_eq_true rfl⟩ ⟨rfl, rfl⟩ rfl hl.1 rfl (Nat.le_of_ble_eq_true rfl) d_M20_2 ⟨Nat.zero_le _, Nat.zero_le _⟩ ?_
  rw [decide_eq_true h9]
  refine lv_iconst (v := 1) hx hb d_M20_5 (by decide) ?_
  refine zc_Vw (C := zc_M) S k_M36 (c_M3 l D cZ mo b0 b1 b2 b3 b4 b5 hnd er (zr v) (zr n) (zo mm) (zo hh) f4 f5 true 1) rfl (mw_pre hK hP) ⟨Nat.le_of_ble_eq_true rfl, Nat.le_of_ble_eq_true rfl⟩ ⟨rfl, rfl⟩ rfl hl.1 rfl (Nat.le_of_ble_eq_true rfl) d_M20_6 ⟨Nat.zero_le _, Nat.zero_le _⟩ hS (fun rv H locs hq hz1 hS => ?_)
  obtain ⟨rfl, hP⟩ := hq
  have hP : va_P D zC (MW cZ mo b0 b1 b2 b3 b4 b5 1 (zr v) (zr n) (zo mm) (zo hh) f4 f5) H := hP
  have hz : H.size = s.heap.size := hz1.trans hz
  clear hz1
  refine lv_if_eq (tgt := 13) hx hb d_M20_9 (by decide) (fun hq => absurd hq (by decide)) (fun hq => ?_)
  exact W.vret hx hb hr (fun t ht hW => zq_end hS hz ⟨rfl, f4, f5, hP⟩ ht) hS.2.2 d_M20_12
set_option maxHeartbeats 4000000 in
set_option maxRecDepth 100000 in
theorem c_M20b (l : Launch) (D : va_G) (cZ : ClassId) (mo b0 b1 b2 b3 b4 b5 : Nat) (hnd : [mo, b0, b1, b2, b3, b4, b5].Nodup) (er : Int32) (v n : Nat → Int32) (mm hh : Nat → Int8) (f4 f5 : Nat → Bool) (r u n9 : Int32) (sg : Int32) (hn9 : n9 = 1 ∨ n9 = 2 ∨ n9 = 4) (h9 : ¬ (zk_16 r = true ∧ ¬ u < 0 ∧ ¬ 256 - n9 < u)) : Met l y_M20 (zw (.code y_M20 b_M20 8 none)) (rmv 1 0 0) (va_Pc [.ref mo, .int r, .int u, .int n9, .int sg] (zp_W D (mT cZ) (MW cZ mo b0 b1 b2 b3 b4 b5 er (zr v) (zr n) (zo mm) (zo hh) f4 f5))) (zq_w (fun rv H => rv = none ∧ ∃ g4 g5 : Nat → Bool, va_P D zC (MW cZ mo b0 b1 b2 b3 b4 b5 2 (zr v) (zr n) (zo mm) (zo hh) g4 g5) H) (fun q => q ∈ [mo, b0, b1, b2, b3, b4, b5])) 0 0 (fun q => q ∈ [mo, b0, b1, b2, b3, b4, b5]) := by
  refine zm_met (b := b_M20) [.ref mo, .int r, .int u, .int n9, .int sg] zy_M (Nat.le_of_ble_eq_true rfl) ?_
  intro p e s m below meth c ls S hr hlk hnm hl hB
  obtain ⟨hx, hb, hml, hown, hts⟩ := id S
  have hl : lv_has ls 8 [(0, .ref mo), (1, .int r), (2, .int u), (3, .int n9), (4, .int sg)] := hl
  obtain ⟨hP, hK⟩ := hB
  have hS : va_S (fun q => q ∈ [mo, b0, b1, b2, b3, b4, b5]) s.heap s.heap [] := va_S.rf
  have hz : s.heap.size = s.heap.size := rfl
  refine lv_aload_n hx hb d_M20_0 rfl (lv_at hl 0 rfl) ?_
  refine lv_iload_n hx hb d_M20_1 rfl (lv_at hl 3 rfl) ?_
  refine zc_Si S k_M81 (c_M18 l n9) zp_S ⟨Nat.le_of_ble_eq_true rfl, Nat.le_of_ble_eq_true rfl⟩ ⟨rfl, rfl⟩ rfl hl.1 rfl (Nat.le_of_ble_eq_true rfl) d_M20_2 ⟨Nat.zero_le _, Nat.zero_le _⟩ ?_
  rw [show decide (¬ n9 = 1 ∧ ¬ n9 = 2 ∧ ¬ n9 = 4) = false from decide_eq_false (fun q => hn9.elim q.1 (fun h => h.elim q.2.1 q.2.2))]
  refine lv_iconst (v := 1) hx hb d_M20_5 (by decide) ?_
  refine zc_Vw (C := zc_M) S k_M36 (c_M3 l D cZ mo b0 b1 b2 b3 b4 b5 hnd er (zr v) (zr n) (zo mm) (zo hh) f4 f5 false 1) rfl (mw_pre hK hP) ⟨Nat.le_of_ble_eq_true rfl, Nat.le_of_ble_eq_true rfl⟩ ⟨rfl, rfl⟩ rfl hl.1 rfl (Nat.le_of_ble_eq_true rfl) d_M20_6 ⟨Nat.zero_le _, Nat.zero_le _⟩ hS (fun rv H locs hq hz1 hS => ?_)
  obtain ⟨rfl, hP⟩ := hq
  have hP : va_P D zC (MW cZ mo b0 b1 b2 b3 b4 b5 0 (zr v) (zr n) (zo mm) (zo hh) f4 f5) H := hP
  have hz : H.size = s.heap.size := hz1.trans hz
  clear hz1
  refine lv_if_eq (tgt := 13) hx hb d_M20_9 (by decide) (fun hq => ?_) (fun hq => absurd rfl hq)
  refine lv_aload_n hx hb d_M20_13 rfl (lv_at hl 0 rfl) ?_
  refine lv_iload_n hx hb d_M20_14 rfl (lv_at hl 1 rfl) ?_
  refine zc_Si S k_M32 (c_M4 l r) zp_S ⟨Nat.le_of_ble_eq_true rfl, Nat.le_of_ble_eq_true rfl⟩ ⟨rfl, rfl⟩ rfl hl.1 rfl (Nat.le_of_ble_eq_true rfl) d_M20_15 ⟨Nat.zero_le _, Nat.zero_le _⟩ ?_
  refine lv_if_ne (tgt := 34) hx hb d_M20_18 (by decide) (fun i1 => ?_) (fun i1 => ?_)
  · refine lv_iconst (v := 1) hx hb d_M20_34 (by decide) ?_
    refine lv_goto (tgt := 39) hx hb d_M20_35 (by decide) ?_
    refine lv_iconst (v := 2) hx hb d_M20_39 (by decide) ?_
    refine zc_Vw (C := zc_M) S k_M36 (c_M3 l D cZ mo b0 b1 b2 b3 b4 b5 hnd 0 (zr v) (zr n) (zo mm) (zo hh) f4 f5 true 2) rfl (mw_pre hK hP) ⟨Nat.le_of_ble_eq_true rfl, Nat.le_of_ble_eq_true rfl⟩ ⟨rfl, rfl⟩ rfl hl.1 rfl (Nat.le_of_ble_eq_true rfl) d_M20_40 ⟨Nat.zero_le _, Nat.zero_le _⟩ hS (fun rv H locs hq hz1 hS => ?_)
    obtain ⟨rfl, hP⟩ := hq
    have hP : va_P D zC (MW cZ mo b0 b1 b2 b3 b4 b5 2 (zr v) (zr n) (zo mm) (zo hh) f4 f5) H := hP
    have hz : H.size = s.heap.size := hz1.trans hz
    clear hz1
    refine lv_if_eq (tgt := 47) hx hb d_M20_43 (by decide) (fun hq => absurd hq (by decide)) (fun hq => ?_)
    exact W.vret hx hb hr (fun t ht hW => zq_end hS hz ⟨rfl, f4, f5, hP⟩ ht) hS.2.2 d_M20_46
  · refine lv_iload_n hx hb d_M20_21 rfl (lv_at hl 2 rfl) ?_
    refine lv_if_lt (tgt := 34) hx hb d_M20_22 (by decide) (fun i2 => ?_) (fun i2 => ?_)
    · refine lv_iconst (v := 1) hx hb d_M20_34 (by decide) ?_
      refine lv_goto (tgt := 39) hx hb d_M20_35 (by decide) ?_
      refine lv_iconst (v := 2) hx hb d_M20_39 (by decide) ?_
      refine zc_Vw (C := zc_M) S k_M36 (c_M3 l D cZ mo b0 b1 b2 b3 b4 b5 hnd 0 (zr v) (zr n) (zo mm) (zo hh) f4 f5 true 2) rfl (mw_pre hK hP) ⟨Nat.le_of_ble_eq_true rfl, Nat.le_of_ble_eq_true rfl⟩ ⟨rfl, rfl⟩ rfl hl.1 rfl (Nat.le_of_ble_eq_true rfl) d_M20_40 ⟨Nat.zero_le _, Nat.zero_le _⟩ hS (fun rv H locs hq hz1 hS => ?_)
      obtain ⟨rfl, hP⟩ := hq
      have hP : va_P D zC (MW cZ mo b0 b1 b2 b3 b4 b5 2 (zr v) (zr n) (zo mm) (zo hh) f4 f5) H := hP
      have hz : H.size = s.heap.size := hz1.trans hz
      clear hz1
      refine lv_if_eq (tgt := 47) hx hb d_M20_43 (by decide) (fun hq => absurd hq (by decide)) (fun hq => ?_)
      exact W.vret hx hb hr (fun t ht hW => zq_end hS hz ⟨rfl, f4, f5, hP⟩ ht) hS.2.2 d_M20_46
    · refine lv_iload_n hx hb d_M20_25 rfl (lv_at hl 2 rfl) ?_
      refine lv_sipush (v := 256) hx hb d_M20_26 (by decide) ?_
      refine lv_iload_n hx hb d_M20_29 rfl (lv_at hl 3 rfl) ?_
      refine lv_isub hx hb d_M20_30 ?_
      refine lv_icmp_le (tgt := 38) hx hb d_M20_31 (by decide) (fun i3 => ?_) (fun i3 => ?_)
      · exact absurd ⟨by simpa using (zb_0 _).mp i1, i2, Int32.not_lt.mpr i3⟩ h9
      · refine lv_iconst (v := 1) hx hb d_M20_34 (by decide) ?_
        refine lv_goto (tgt := 39) hx hb d_M20_35 (by decide) ?_
        refine lv_iconst (v := 2) hx hb d_M20_39 (by decide) ?_
        refine zc_Vw (C := zc_M) S k_M36 (c_M3 l D cZ mo b0 b1 b2 b3 b4 b5 hnd 0 (zr v) (zr n) (zo mm) (zo hh) f4 f5 true 2) rfl (mw_pre hK hP) ⟨Nat.le_of_ble_eq_true rfl, Nat.le_of_ble_eq_true rfl⟩ ⟨rfl, rfl⟩ rfl hl.1 rfl (Nat.le_of_ble_eq_true rfl) d_M20_40 ⟨Nat.zero_le _, Nat.zero_le _⟩ hS (fun rv H locs hq hz1 hS => ?_)
        obtain ⟨rfl, hP⟩ := hq
        have hP : va_P D zC (MW cZ mo b0 b1 b2 b3 b4 b5 2 (zr v) (zr n) (zo mm) (zo hh) f4 f5) H := hP
        have hz : H.size = s.heap.size := hz1.trans hz
        clear hz1
        refine lv_if_eq (tgt := 47) hx hb d_M20_43 (by decide) (fun hq => absurd hq (by decide)) (fun hq => ?_)
        exact W.vret hx hb hr (fun t ht hW => zq_end hS hz ⟨rfl, f4, f5, hP⟩ ht) hS.2.2 d_M20_46
end
section
/-! rows for the law's own methods -/
section ZLA
variable {p : Program} {l : Launch} {e : Env} {R : Room} {s : State} {m : MethodId} {args : Array Value} {below : List Frame} {meth : Method} {c : Code} {H : Heap} {locs : List Loc} {cells slots : Nat} {Q : State → Prop}
theorem zx_cat1 {cc : ByteArray} {nL ix n nn pc v0 : Nat} {own C0 : String} {y : MethodName} {b : ByteArray} {r : Option FieldType} {w0 : Cond} {rm : Room} {Bp : State → Prop} {C : String} {As rest st0 : List Value} {ls : Array Slot} {st en hp ct : Nat} {tl : List (Nat × Nat × Nat × Nat)}
    (S : CallFix p m c cc nL s args (zw w0) own) (K : kc_V own ix y (.code y b n r) nn) (hM : MetX l y (zw (.code y b n r)) rm (va_Pc (.ref v0 :: As) Bp) C) (hC0 : y.cls = C0) (hpv : PreV s H C0 v0 (va_Pc (.ref v0 :: As) Bp) As)
    (hR : rm.frames + 1 ≤ R.frames ∧ 8 + (n + 11) + rm.locals ≤ R.locals ∧ cells + rm.cells ≤ R.cells ∧ slots + rm.slots ≤ R.slots) (hn : As.length = nn) (hsize : ls.size = nL) (hst : st0 = As.reverse ++ .ref v0 :: rest) (hW : (rest.map fun v => v.category).sum ≤ 8) (hdg : decode cc pc = .ok (.invokevirtual ix, 3))
    (htab : c.exceptionTable.toList.map (fun h => (h.startPc, h.endPc, h.handlerPc, h.catchType)) = (st, en, hp, ct) :: tl) (hcov : st ≤ pc ∧ pc < en) (h0 : ct ≠ 0) (hlink : Cond.classLink own ct C ∈ gw_L) (hcast : (Cond.castable C C).before args s = true)
    (kk : ∀ (H1 : Heap) (a : Addr), H.size ≤ H1.size → (∀ (q : Addr) (cell : Cell), H[q]? = some cell → H1[q]? = some cell) → W p l e R s m args below meth c H1 locs (cells + 1) (slots + 6) Q (F0 m hp ls [.ref a])) : W p l e R s m args below meth c H locs cells slots Q (F0 m pc ls st0) := by
  intro T hT X
  obtain ⟨T', a, ce, XT, q1, q2, q3, q4, q5, q6⟩ := zx_runV (g := F0 m pc ls st0) (rest := rest) S K hM hC0 hpv rfl hR hn hsize hst (lv_room hW) hdg hT X
  obtain ⟨vm', X2, st2⟩ := zf_one XT a (g := F0 m pc ls rest) rfl S.2.2.2.1 htab hcov h0 (zw_at S.2.2.2.2 hlink) hcast q3 q4 q5
  obtain ⟨t, a1, b1⟩ := kk T'.heap a q1 q2 (T'.setVm vm') rfl X2
  exact ⟨t, q6 t (st2 t a1), b1⟩
theorem zx_cat2 {cc : ByteArray} {nL ix n nn pc v0 : Nat} {own C0 : String} {y : MethodName} {b : ByteArray} {r : Option FieldType} {w0 : Cond} {rm : Room} {Bp : State → Prop} {C C1 : String} {As rest st0 : List Value} {ls : Array Slot} {st en hp ct st1 en1 hp1 ct1 : Nat} {tl : List (Nat × Nat × Nat × Nat)}
    (S : CallFix p m c cc nL s args (zw w0) own) (K : kc_V own ix y (.code y b n r) nn) (hM : MetX l y (zw (.code y b n r)) rm (va_Pc (.ref v0 :: As) Bp) C) (hC0 : y.cls = C0) (hpv : PreV s H C0 v0 (va_Pc (.ref v0 :: As) Bp) As)
    (hR : rm.frames + 1 ≤ R.frames ∧ 8 + (n + 11) + rm.locals ≤ R.locals ∧ cells + rm.cells ≤ R.cells ∧ slots + rm.slots ≤ R.slots) (hn : As.length = nn) (hsize : ls.size = nL) (hst : st0 = As.reverse ++ .ref v0 :: rest) (hW : (rest.map fun v => v.category).sum ≤ 8) (hdg : decode cc pc = .ok (.invokevirtual ix, 3))
    (htab : c.exceptionTable.toList.map (fun h => (h.startPc, h.endPc, h.handlerPc, h.catchType)) = (st1, en1, hp1, ct1) :: (st, en, hp, ct) :: tl) (hcov1 : st1 ≤ pc ∧ pc < en1) (hcov : st ≤ pc ∧ pc < en) (h01 : ct1 ≠ 0) (h0 : ct ≠ 0) (hlink1 : Cond.classLink own ct1 C1 ∈ gw_L) (hlink : Cond.classLink own ct C ∈ gw_L) (hcast : (Cond.castable C C).before args s = true) (hnc : va_Nc C C1 s)
    (kk : ∀ (H1 : Heap) (a : Addr), H.size ≤ H1.size → (∀ (q : Addr) (cell : Cell), H[q]? = some cell → H1[q]? = some cell) → W p l e R s m args below meth c H1 locs (cells + 1) (slots + 6) Q (F0 m hp ls [.ref a])) : W p l e R s m args below meth c H locs cells slots Q (F0 m pc ls st0) := by
  intro T hT X
  obtain ⟨T', a, ce, XT, q1, q2, q3, q4, q5, q6⟩ := zx_runV (g := F0 m pc ls st0) (rest := rest) S K hM hC0 hpv rfl hR hn hsize hst (lv_room hW) hdg hT X
  obtain ⟨vm', X2, st2⟩ := zf_two XT a (g := F0 m pc ls rest) rfl S.2.2.2.1 htab hcov1 hcov h01 h0 (zw_at S.2.2.2.2 hlink1) (zw_at S.2.2.2.2 hlink) hcast hnc q3 q4 q5
  obtain ⟨t, a1, b1⟩ := kk T'.heap a q1 q2 (T'.setVm vm') rfl X2
  exact ⟨t, q6 t (st2 t a1), b1⟩
/-- a method that writes in place, called where more may change -/
theorem zc_VL {cc : ByteArray} {nL ix n nn pc b : Nat} {own C : String} {y : MethodName} {by0 : ByteArray} {r : Option FieldType} {w0 : Cond} {rm : Room} {Bp : State → Prop} {As rest st0 : List Value} {ls : Array Slot} {post : Option Value → Heap → Prop} {A A0 : Nat → Prop} {H0 : Heap}
    (S : CallFix p m c cc nL s args (zw w0) own) (K : kc_V own ix y (.code y by0 n r) nn) (hM : Met l y (zw (.code y by0 n r)) rm (va_Pc (.ref b :: As) Bp) (zq_w post A) 0 0 A) (hC : y.cls = C) (hp : PreV s H C b (va_Pc (.ref b :: As) Bp) As)
    (hR : rm.frames + 1 ≤ R.frames ∧ 8 + (n + 11) + rm.locals ≤ R.locals) (h0 : rm.cells = 0 ∧ rm.slots = 0) (hn : As.length = nn) (hsize : ls.size = nL) (hst : st0 = As.reverse ++ .ref b :: rest) (hW : (rest.map fun v => v.category).sum ≤ 8) (hdg : decode cc pc = .ok (.invokevirtual ix, 3)) (hf : cells ≤ R.cells ∧ slots ≤ R.slots) (hS : va_S A0 H0 H locs) (hA : ∀ q, A q → A0 q)
    (kk : ∀ (r : Option Value) (H1 : Heap) (locs1 : List Loc), post r H1 → H1.size = H.size → (∀ q, ¬ A q → H1[q]? = H[q]?) → va_S A0 H0 H1 locs1 → W p l e R s m args below meth c H1 locs1 cells slots Q (F0 m (pc + 3) ls (r.toList ++ rest))) : W p l e R s m args below meth c H locs cells slots Q (F0 m pc ls st0) := by
  subst hC
  have cb := zc_B (R := R) (s := s) (args := args) S.2.2.2.2 K.1 hR
  rw [h0.1, h0.2] at cb
  have hr := W.runV (locs := locs) (below := below) (meth := meth) (e := e) (As := As) (rest := rest) (g := F0 m pc ls st0) S hM ⟨cb, zw_at S.2.2.2.2 K.2.1, zw_at S.2.2.2.2 K.2.2⟩ hp rfl hn hsize hst (lv_room hW) hdg hf
  intro T hT X
  obtain ⟨v, st₀, t, T', L, h0, X', hL, e1, ⟨⟨r, hv, hp⟩, hz, hk⟩, st⟩ := hr T hT X
  cases hv
  rw [h0] at hz hk
  obtain ⟨t2, a1, b1⟩ := kk v t.heap (locs ++ L) hp hz hk ⟨by rw [hz]; exact hS.1, fun q h1 h2 => (hk q (fun h => h2 (hA q h))).trans (hS.2.1 q h1 h2), fun q hq => by
    rcases List.mem_append.mp hq with h | h
    · exact hS.2.2 q h
    · exact hA _ (hL q h)⟩ T' e1 X'
  exact ⟨t2, st t2 a1, b1⟩
/-- a loop whose rounds make cells -/
theorem zl_loopC (I : Nat → Heap → List Loc → Array Slot → Prop) (pc N : Nat) (cf sf : Nat → Nat) (hN : ∀ k H locs ls, I k H locs ls → k ≤ N)
    (step : ∀ k H locs ls, I k H locs ls → (∀ H' locs' ls', I (k + 1) H' locs' ls' → W p l e R s m args below meth c H' locs' (cf (k + 1)) (sf (k + 1)) Q (F0 m pc ls' [])) → W p l e R s m args below meth c H locs (cf k) (sf k) Q (F0 m pc ls []))
    (k : Nat) (H : Heap) (locs : List Loc) (ls : Array Slot) (h : I k H locs ls) : W p l e R s m args below meth c H locs (cf k) (sf k) Q (F0 m pc ls []) := by
  have key : ∀ (f k : Nat) (H : Heap) (locs : List Loc) (ls : Array Slot), N < k + f → I k H locs ls → W p l e R s m args below meth c H locs (cf k) (sf k) Q (F0 m pc ls []) := by
    intro f
    induction f with
    | zero => intro k H locs ls hf hI; exact absurd (hN k H locs ls hI) (by omega)
    | succ f ih => intro k H locs ls hf hI; exact step k H locs ls hI (fun H' locs' ls' h' => ih (k + 1) H' locs' ls' (by omega) h')
  exact key (N + 1) k H locs ls (by omega) h
theorem zk_keep {D : va_G} {ws : va_W} {H1 : Heap} {A1 : Nat → Prop} (hP : va_P D zC ws H) (hk : ∀ q : Nat, q < H.size → ¬ A1 q → H1[q]? = H[q]?) (hd : ∀ q ∈ ws.map (fun z => z.1), q < H.size → ¬ A1 q) : va_P D zC ws H1 :=
  hP.kept (fun k q hq => hk q.1 (hP k q hq).lt (hd q.1 (List.mem_map.mpr ⟨q, List.mem_of_getElem? hq, rfl⟩) (hP k q hq).lt))
end ZLA
theorem zx_cast {U : State} (h : zx_E U) (A : Array Value) : (Cond.castable zx_io zx_io).before A U = true ∧ (Cond.castable zx_ia zx_ia).before A U = true := ⟨zx_any h A _ (by simp [zx_W]), zx_any h A _ (by simp [zx_W])⟩
/-! what a call does, for every argument -/
abbrev nt (r : Int32) : Nat := r.toNatClampNeg
theorem nt_n {j : Nat} (h : j < 2 ^ 31) : nt (nI j) = j := nI_clamp h
def kgo (o9 : Int32) : Bool := decide (¬ o9 < 0 ∧ ¬ nI 13 ≤ o9)
def kok (o9 d a b : Int32) : Bool := kgo o9 && (zk_16 d && zk_16 a && zk_16 b)
def kop (o9 d a b : Int32) : Int32 := if kgo o9 then (if (zk_16 d && zk_16 a && zk_16 b) then 0 else 2) else 1
def kgn (n9 : Int32) : Bool := decide (n9 = 1 ∨ n9 = 2 ∨ n9 = 4)
def kat (r u n9 : Int32) : Bool := decide (zk_16 r = true ∧ ¬ u < 0 ∧ ¬ 256 - n9 < u)
def kmo (r u n9 : Int32) : Bool := kgn n9 && kat r u n9
def kme (r u n9 : Int32) : Int32 := if kgn n9 then (if kat r u n9 then 0 else 2) else 1
def k256 (u : Int32) : Bool := decide (¬ u < 0 ∧ ¬ nI 256 ≤ u)
theorem kgo_t {j : Nat} (h : j < 13) : kgo (nI j) = true := decide_eq_true ⟨nI_pos (by omega), nI_ge h (by decide)⟩
theorem kgo_f {x : Int32} (h : x < 0 ∨ nI 13 ≤ x) : kgo x = false := decide_eq_false (fun q => h.elim q.1 q.2)
theorem kgo_cases (x : Int32) : (x < 0 ∨ nI 13 ≤ x) ∨ ∃ j : Nat, j < 13 ∧ x = nI j := by
  rcases pk_ix x (n := 13) (by decide) with h | h | h
  · exact Or.inl (Or.inl h)
  · exact Or.inl (Or.inr h)
  · exact Or.inr h
theorem k256_cases (x : Int32) : (x < 0 ∨ nI 256 ≤ x) ∨ ∃ j : Nat, j < 256 ∧ x = nI j := by
  rcases pk_ix x (n := 256) (by decide) with h | h | h
  · exact Or.inl (Or.inl h)
  · exact Or.inl (Or.inr h)
  · exact Or.inr h
theorem k256_t {j : Nat} (h : j < 256) : k256 (nI j) = true := decide_eq_true ⟨nI_pos (by omega), nI_ge h (by decide)⟩
theorem k256_f {x : Int32} (h : x < 0 ∨ nI 256 ≤ x) : k256 x = false := decide_eq_false (fun q => h.elim q.1 q.2)
theorem zk_true {r : Int32} (h : zk_16 r = true) : ∃ j : Nat, j < 16 ∧ r = nI j := by
  rcases zk_cases r with h1 | h1
  · rw [zk_out h1] at h; cases h
  · exact h1
theorem kgn_cases (x : Int32) : (¬ x = 1 ∧ ¬ x = 2 ∧ ¬ x = 4) ∨ ∃ j : Nat, (j = 1 ∨ j = 2 ∨ j = 4) ∧ x = nI j := by
  by_cases h1 : x = 1
  · exact Or.inr ⟨1, by omega, h1⟩
  · by_cases h2 : x = 2
    · exact Or.inr ⟨2, by omega, h2⟩
    · by_cases h3 : x = 4
      · exact Or.inr ⟨4, by omega, h3⟩
      · exact Or.inl ⟨h1, h2, h3⟩
theorem kgn_f {x : Int32} (h : ¬ x = 1 ∧ ¬ x = 2 ∧ ¬ x = 4) : kgn x = false := decide_eq_false (fun q => q.elim h.1 (fun q => q.elim h.2.1 h.2.2))
theorem kgn_t {j : Nat} (h : j = 1 ∨ j = 2 ∨ j = 4) : nI j = 1 ∨ nI j = 2 ∨ nI j = 4 := by
  rcases h with rfl | rfl | rfl
  · exact Or.inl rfl
  · exact Or.inr (Or.inl rfl)
  · exact Or.inr (Or.inr rfl)
theorem kat_t {r u : Int32} {nn : Nat} (hn : nn = 1 ∨ nn = 2 ∨ nn = 4) (h : kat r u (nI nn) = true) : ∃ i j : Nat, i < 16 ∧ j + nn ≤ 256 ∧ r = nI i ∧ u = nI j := by
  obtain ⟨h1, h2, h3⟩ := of_decide_eq_true h
  obtain ⟨i, hi, rfl⟩ := zk_true h1
  obtain ⟨j, hj, rfl⟩ := nI_of h2
  rw [show (256 : Int32) - nI nn = nI (256 - nn) from pk_sub (a := 256) (by omega)] at h3
  have h4 := mt (nI_ltI (a := 256 - nn) (b := j) (by omega) hj).mpr h3
  exact ⟨i, j, hi, by omega, rfl, rfl⟩
end
section
set_option maxHeartbeats 4000000 in
set_option maxRecDepth 100000 in
theorem t_M8 (l : Launch) (D : va_G) (cZ : ClassId) (mo b0 b1 b2 b3 b4 b5 : Nat) (hnd : [mo, b0, b1, b2, b3, b4, b5].Nodup) (er : Int32) (v n : Nat → Int32) (mm hh : Nat → Int8) (f4 f5 : Nat → Bool) (r V N : Int32) : Met l y_M8 (zw (.code y_M8 b_M8 5 none)) (rmv 1 0 0) (va_Pc [.ref mo, .int r, .int V, .int N] (zp_W D (mT cZ) (MW cZ mo b0 b1 b2 b3 b4 b5 er (zr v) (zr n) (zo mm) (zo hh) f4 f5))) (zq_w (fun rv H => rv = none ∧ ∃ g4 g5 : Nat → Bool, va_P D zC (MW cZ mo b0 b1 b2 b3 b4 b5 (zb (!zk_16 r)) (zr (if zk_16 r then zs v (nt r) V else v)) (zr (if zk_16 r then zs n (nt r) N else n)) (zo mm) (zo hh) g4 g5) H) (fun q => q ∈ [mo, b0, b1, b2, b3, b4, b5])) 0 0 (fun q => q ∈ [mo, b0, b1, b2, b3, b4, b5]) := by
  rcases zk_cases r with h | ⟨j, hj, rfl⟩
  · rw [zk_out h]
    exact c_M8a l D cZ mo b0 b1 b2 b3 b4 b5 hnd er v n mm hh f4 f5 r V N h
  · rw [zk_in hj, nt_n (by omega)]
    exact c_M8 l D cZ mo b0 b1 b2 b3 b4 b5 hnd er v n mm hh f4 f5 j hj V N
set_option maxHeartbeats 4000000 in
set_option maxRecDepth 100000 in
theorem t_M14 (l : Launch) (D : va_G) (cZ : ClassId) (mo b0 b1 b2 b3 b4 b5 : Nat) (hnd : [mo, b0, b1, b2, b3, b4, b5].Nodup) (er : Int32) (v n : Nat → Int32) (mm hh : Nat → Int8) (f4 f5 : Nat → Bool) (o9 d a b : Int32) : Met l y_M14 (zw (.code y_M14 b_M14 11 none)) (rmv 2 0 0) (va_Pc [.ref mo, .int o9, .int d, .int a, .int b] (zp_W D (mT cZ) (MW cZ mo b0 b1 b2 b3 b4 b5 er (zr v) (zr n) (zo mm) (zo hh) f4 f5))) (zq_w (fun rv H => rv = none ∧ ∃ g4 g5 : Nat → Bool, va_P D zC (MW cZ mo b0 b1 b2 b3 b4 b5 (kop o9 d a b) (zr (if kok o9 d a b then zs v (nt d) (oV (nt o9) (v (nt a)) (v (nt b)) (v (nt d))) else v)) (zr (if kok o9 d a b then zs n (nt d) (oN (nt o9) (v (nt a)) (v (nt b)) (n (nt a)) (n (nt b)) (v (nt d)) (n (nt d))) else n)) (zo mm) (zo hh) g4 g5) H) (fun q => q ∈ [mo, b0, b1, b2, b3, b4, b5])) 0 0 (fun q => q ∈ [mo, b0, b1, b2, b3, b4, b5]) := by
  unfold kok kop
  rcases kgo_cases o9 with h | ⟨k, hk, rfl⟩
  · rw [kgo_f h, Bool.false_and]
    exact c_M14a l D cZ mo b0 b1 b2 b3 b4 b5 hnd er v n (zo mm) (zo hh) f4 f5 o9 d a b h
  · rw [kgo_t hk, Bool.true_and]
    cases h : (zk_16 d && zk_16 a && zk_16 b)
    · exact c_M14b l D cZ mo b0 b1 b2 b3 b4 b5 hnd er v n (zo mm) (zo hh) f4 f5 k d a b hk h
    · simp only [Bool.and_eq_true] at h
      obtain ⟨i1, h1, rfl⟩ := zk_true h.1.1
      obtain ⟨i2, h2, rfl⟩ := zk_true h.1.2
      obtain ⟨i3, h3, rfl⟩ := zk_true h.2
      rw [nt_n (j := k) (by omega), nt_n (j := i1) (by omega), nt_n (j := i2) (by omega), nt_n (j := i3) (by omega)]
      exact c_M14 l D cZ mo b0 b1 b2 b3 b4 b5 hnd er v n (zo mm) (zo hh) f4 f5 k i1 i2 i3 hk h1 h2 h3
set_option maxHeartbeats 4000000 in
set_option maxRecDepth 100000 in
theorem t_M19 (l : Launch) (D : va_G) (cZ : ClassId) (mo b0 b1 b2 b3 b4 b5 : Nat) (hnd : [mo, b0, b1, b2, b3, b4, b5].Nodup) (er : Int32) (v n : Nat → Int32) (mm hh : Nat → Int8) (f4 f5 : Nat → Bool) (r u n9 : Int32) : Met l y_M19 (zw (.code y_M19 b_M19 5 none)) (rmv 1 0 0) (va_Pc [.ref mo, .int r, .int u, .int n9] (zp_W D (mT cZ) (MW cZ mo b0 b1 b2 b3 b4 b5 er (zr v) (zr n) (zo mm) (zo hh) f4 f5))) (zq_w (fun rv H => rv = none ∧ ∃ g4 g5 : Nat → Bool, va_P D zC (MW cZ mo b0 b1 b2 b3 b4 b5 (kme r u n9) (zr v) (zr n) (zo (if kmo r u n9 then zst mm (nt u) (nt n9) (v (nt r)) else mm)) (zo (if kmo r u n9 then zst hh (nt u) (nt n9) (n (nt r)) else hh)) g4 g5) H) (fun q => q ∈ [mo, b0, b1, b2, b3, b4, b5])) 0 0 (fun q => q ∈ [mo, b0, b1, b2, b3, b4, b5]) := by
  unfold kmo kme
  rcases kgn_cases n9 with h | ⟨k, hk, rfl⟩
  · rw [kgn_f h, Bool.false_and]
    exact c_M19a l D cZ mo b0 b1 b2 b3 b4 b5 hnd er v n mm hh f4 f5 r u n9 h
  · rw [show kgn (nI k) = true from decide_eq_true (kgn_t hk), Bool.true_and]
    cases h : kat r u (nI k)
    · exact c_M19b l D cZ mo b0 b1 b2 b3 b4 b5 hnd er v n mm hh f4 f5 r u (nI k) (kgn_t hk) (of_decide_eq_false h)
    · obtain ⟨i, j, h1, h2, rfl, rfl⟩ := kat_t hk h
      rw [nt_n (j := k) (by omega), nt_n (j := i) (by omega), nt_n (j := j) (by omega)]
      exact c_M19 l D cZ mo b0 b1 b2 b3 b4 b5 hnd er v n mm hh f4 f5 i j k h1 hk h2
set_option maxHeartbeats 4000000 in
set_option maxRecDepth 100000 in
theorem t_M20 (l : Launch) (D : va_G) (cZ : ClassId) (mo b0 b1 b2 b3 b4 b5 : Nat) (hnd : [mo, b0, b1, b2, b3, b4, b5].Nodup) (er : Int32) (v n : Nat → Int32) (mm hh : Nat → Int8) (f4 f5 : Nat → Bool) (r u n9 : Int32) (sg : Bool) : Met l y_M20 (zw (.code y_M20 b_M20 8 none)) (rmv 1 0 0) (va_Pc [.ref mo, .int r, .int u, .int n9, .int (zb sg)] (zp_W D (mT cZ) (MW cZ mo b0 b1 b2 b3 b4 b5 er (zr v) (zr n) (zo mm) (zo hh) f4 f5))) (zq_w (fun rv H => rv = none ∧ ∃ g4 g5 : Nat → Bool, va_P D zC (MW cZ mo b0 b1 b2 b3 b4 b5 (kme r u n9) (zr (if kmo r u n9 then zs v (nt r) (zjo mm (nt u) (nt n9) sg) else v)) (zr (if kmo r u n9 then zs n (nt r) (zjo hh (nt u) (nt n9) sg) else n)) (zo mm) (zo hh) g4 g5) H) (fun q => q ∈ [mo, b0, b1, b2, b3, b4, b5])) 0 0 (fun q => q ∈ [mo, b0, b1, b2, b3, b4, b5]) := by
  unfold kmo kme
  rcases kgn_cases n9 with h | ⟨k, hk, rfl⟩
  · rw [kgn_f h, Bool.false_and]
    exact c_M20a l D cZ mo b0 b1 b2 b3 b4 b5 hnd er v n mm hh f4 f5 r u n9 (zb sg) h
  · rw [show kgn (nI k) = true from decide_eq_true (kgn_t hk), Bool.true_and]
    cases h : kat r u (nI k)
    · exact c_M20b l D cZ mo b0 b1 b2 b3 b4 b5 hnd er v n mm hh f4 f5 r u (nI k) (zb sg) (kgn_t hk) (of_decide_eq_false h)
    · obtain ⟨i, j, h1, h2, rfl, rfl⟩ := kat_t hk h
      rw [nt_n (j := k) (by omega), nt_n (j := i) (by omega), nt_n (j := j) (by omega)]
      exact c_M20 l D cZ mo b0 b1 b2 b3 b4 b5 hnd er v n mm hh f4 f5 i j k sg h1 hk h2
set_option maxHeartbeats 4000000 in
set_option maxRecDepth 100000 in
theorem t_M21 (l : Launch) (D : va_G) (cZ : ClassId) (mo b0 b1 b2 b3 b4 b5 : Nat) (hnd : [mo, b0, b1, b2, b3, b4, b5].Nodup) (er : Int32) (v n : Nat → Int32) (mm hh : Nat → Int8) (f4 f5 : Nat → Bool) (r : Int32) : Met l y_M21 (zw (.code y_M21 b_M21 2 (some .int))) (rmv 2 0 0) (va_Pc [.ref mo, .int r] (zp_W D (mT cZ) (MW cZ mo b0 b1 b2 b3 b4 b5 er (zr v) (zr n) (zo mm) (zo hh) f4 f5))) (zq_w (fun rv H => rv = some (.int (if zk_16 r then v (nt r) else 0)) ∧ ∃ g4 g5 : Nat → Bool, va_P D zC (MW cZ mo b0 b1 b2 b3 b4 b5 (zb (!zk_16 r)) (zr v) (zr n) (zo mm) (zo hh) g4 g5) H) (fun q => q ∈ [mo, b0, b1, b2, b3, b4, b5])) 0 0 (fun q => q ∈ [mo, b0, b1, b2, b3, b4, b5]) := by
  rcases zk_cases r with h | ⟨j, hj, rfl⟩
  · rw [zk_out h]
    exact c_M21a l D cZ mo b0 b1 b2 b3 b4 b5 hnd er v n mm hh f4 f5 r h
  · rw [zk_in hj, nt_n (by omega)]
    exact c_M21 l D cZ mo b0 b1 b2 b3 b4 b5 hnd er v n mm hh f4 f5 j hj
set_option maxHeartbeats 4000000 in
set_option maxRecDepth 100000 in
theorem t_M22 (l : Launch) (D : va_G) (cZ : ClassId) (mo b0 b1 b2 b3 b4 b5 : Nat) (hnd : [mo, b0, b1, b2, b3, b4, b5].Nodup) (er : Int32) (v n : Nat → Int32) (mm hh : Nat → Int8) (f4 f5 : Nat → Bool) (r : Int32) : Met l y_M22 (zw (.code y_M22 b_M22 4 (some .int))) (rmv 2 0 0) (va_Pc [.ref mo, .int r] (zp_W D (mT cZ) (MW cZ mo b0 b1 b2 b3 b4 b5 er (zr v) (zr n) (zo mm) (zo hh) f4 f5))) (zq_w (fun rv H => rv = some (.int (if zk_16 r then n (nt r) else 0)) ∧ ∃ g4 g5 : Nat → Bool, va_P D zC (MW cZ mo b0 b1 b2 b3 b4 b5 (zb (!zk_16 r)) (zr v) (zr n) (zo mm) (zo hh) g4 g5) H) (fun q => q ∈ [mo, b0, b1, b2, b3, b4, b5])) 0 0 (fun q => q ∈ [mo, b0, b1, b2, b3, b4, b5]) := by
  rcases zk_cases r with h | ⟨j, hj, rfl⟩
  · rw [zk_out h]
    exact c_M22a l D cZ mo b0 b1 b2 b3 b4 b5 hnd er v n mm hh f4 f5 r h
  · rw [zk_in hj, nt_n (by omega)]
    exact c_M22 l D cZ mo b0 b1 b2 b3 b4 b5 hnd er v n mm hh f4 f5 j hj
set_option maxHeartbeats 4000000 in
set_option maxRecDepth 100000 in
theorem t_M23 (l : Launch) (D : va_G) (cZ : ClassId) (mo b0 b1 b2 b3 b4 b5 : Nat) (hnd : [mo, b0, b1, b2, b3, b4, b5].Nodup) (er : Int32) (v n : Nat → Int32) (mm hh : Nat → Int8) (f4 f5 : Nat → Bool) (r : Int32) : Met l y_M23 (zw (.code y_M23 b_M23 2 (some .int))) (rmv 2 0 0) (va_Pc [.ref mo, .int r] (zp_W D (mT cZ) (MW cZ mo b0 b1 b2 b3 b4 b5 er (zr v) (zr n) (zo mm) (zo hh) f4 f5))) (zq_w (fun rv H => rv = some (.int (if zk_16 r then zlw (v (nt r)) (n (nt r)) else 0)) ∧ ∃ g4 g5 : Nat → Bool, va_P D zC (MW cZ mo b0 b1 b2 b3 b4 b5 (zb (!zk_16 r)) (zr v) (zr n) (zo mm) (zo hh) g4 g5) H) (fun q => q ∈ [mo, b0, b1, b2, b3, b4, b5])) 0 0 (fun q => q ∈ [mo, b0, b1, b2, b3, b4, b5]) := by
  rcases zk_cases r with h | ⟨j, hj, rfl⟩
  · rw [zk_out h]
    exact c_M23a l D cZ mo b0 b1 b2 b3 b4 b5 hnd er v n mm hh f4 f5 r h
  · rw [zk_in hj, nt_n (by omega)]
    exact c_M23 l D cZ mo b0 b1 b2 b3 b4 b5 hnd er v n mm hh f4 f5 j hj
set_option maxHeartbeats 4000000 in
set_option maxRecDepth 100000 in
theorem t_M24 (l : Launch) (D : va_G) (cZ : ClassId) (mo b0 b1 b2 b3 b4 b5 : Nat) (hnd : [mo, b0, b1, b2, b3, b4, b5].Nodup) (er : Int32) (v n : Nat → Int32) (mm hh : Nat → Int8) (f4 f5 : Nat → Bool) (r : Int32) : Met l y_M24 (zw (.code y_M24 b_M24 2 (some .int))) (rmv 2 0 0) (va_Pc [.ref mo, .int r] (zp_W D (mT cZ) (MW cZ mo b0 b1 b2 b3 b4 b5 er (zr v) (zr n) (zo mm) (zo hh) f4 f5))) (zq_w (fun rv H => rv = some (.int (if zk_16 r then zhi (v (nt r)) (n (nt r)) else 0)) ∧ ∃ g4 g5 : Nat → Bool, va_P D zC (MW cZ mo b0 b1 b2 b3 b4 b5 (zb (!zk_16 r)) (zr v) (zr n) (zo mm) (zo hh) g4 g5) H) (fun q => q ∈ [mo, b0, b1, b2, b3, b4, b5])) 0 0 (fun q => q ∈ [mo, b0, b1, b2, b3, b4, b5]) := by
  rcases zk_cases r with h | ⟨j, hj, rfl⟩
  · rw [zk_out h]
    exact c_M24a l D cZ mo b0 b1 b2 b3 b4 b5 hnd er v n mm hh f4 f5 r h
  · rw [zk_in hj, nt_n (by omega)]
    exact c_M24 l D cZ mo b0 b1 b2 b3 b4 b5 hnd er v n mm hh f4 f5 j hj
set_option maxHeartbeats 4000000 in
set_option maxRecDepth 100000 in
theorem t_M25 (l : Launch) (D : va_G) (cZ : ClassId) (mo b0 b1 b2 b3 b4 b5 : Nat) (hnd : [mo, b0, b1, b2, b3, b4, b5].Nodup) (er : Int32) (v n : Nat → Int32) (mm hh : Nat → Int8) (f4 f5 : Nat → Bool) (u : Int32) : Met l y_M25 (zw (.code y_M25 b_M25 4 (some .int))) (rmv 1 0 0) (va_Pc [.ref mo, .int u] (zp_W D (mT cZ) (MW cZ mo b0 b1 b2 b3 b4 b5 er (zr v) (zr n) (zo mm) (zo hh) f4 f5))) (zq_w (fun rv H => rv = some (.int (if k256 u then zoc (mm (nt u)) (hh (nt u)) else 0)) ∧ ∃ g4 g5 : Nat → Bool, va_P D zC (MW cZ mo b0 b1 b2 b3 b4 b5 (zb (!k256 u)) (zr v) (zr n) (zo mm) (zo hh) g4 g5) H) (fun q => q ∈ [mo, b0, b1, b2, b3, b4, b5])) 0 0 (fun q => q ∈ [mo, b0, b1, b2, b3, b4, b5]) := by
  rcases k256_cases u with h | ⟨j, hj, rfl⟩
  · rw [k256_f h]
    exact c_M25a l D cZ mo b0 b1 b2 b3 b4 b5 hnd er v n mm hh f4 f5 u h
  · rw [k256_t hj, nt_n (by omega)]
    exact c_M25 l D cZ mo b0 b1 b2 b3 b4 b5 hnd er v n mm hh f4 f5 j hj
end
section
theorem zk_eq {H H1 : Heap} (h : ∀ (q : Addr) (cell : Cell), H[q]? = some cell → H1[q]? = some cell) {q : Nat} (hq : q < H.size) : H1[q]? = H[q]? := by
  rw [Array.getElem?_eq_getElem hq]
  exact h q _ (Array.getElem?_eq_getElem hq)
theorem zk_all {D : va_G} {ws : va_W} {H H1 : Heap} (hP : va_P D zC ws H) (h : ∀ (q : Addr) (cell : Cell), H[q]? = some cell → H1[q]? = some cell) : va_P D zC ws H1 := hP.kept (fun k q hq => zk_eq h (hP k q hq).lt)
/-- the law's own picture at a call: room for the exception, the world -/
def zl_B (D : va_G) (tys : List (ClassId × FieldType)) (ws : va_W) (sz : Nat) : State → Prop := fun U => U.heap.size = sz ∧ zx_E U ∧ va_Nc zx_io zx_ia U ∧ zp_W D tys ws U
theorem zl_blind {D : va_G} {tys : List (ClassId × FieldType)} {ws : va_W} {sz : Nat} {As : List Value} : FrameBlind (va_Pc As (zl_B D tys ws sz)) := by
  intro a U g mk q
  obtain ⟨q0, q1, q2, q3, qP, qK⟩ := q
  exact ⟨q0, q1, zx_calling q2 g mk a, va_Nc.moved (Vm.Alike.refl U.vm) q3, qP, va_K.moved (u := U) (U := U.calling g mk a) (Vm.Alike.refl U.vm) qK⟩
set_option maxHeartbeats 4000000 in
set_option maxRecDepth 100000 in
theorem c_L3 (l : Launch) (hfl : l.flags = flags0) (D : va_G) (cI cB : ClassId) (x a0 a1 a2 a3 : Nat) (hnd : [x, a0, a1, a2, a3].Nodup) (v n : Nat → Int32) (mm hh : Nat → Int8) (r y q : Int32) (sz : Nat) : Met l y_L3 (zw (.codeWith y_L3 b_L3 5 (some .int) [(0, 7, 10, 13)])) (rmv 9 1 6) (va_Pc [.ref x, .int r, .int y, .int q] (zl_B D (xT cI cB) (XW cI cB x a0 a1 a2 a3 v n mm hh) sz)) (va_Qi (fun z (_ : Unit) => z = zb (!zk_16 r)) (fun _ t => va_P D zC (XW cI cB x a0 a1 a2 a3 (if zk_16 r then zs v (nt r) y else v) (if zk_16 r then zs n (nt r) q else n) mm hh) t.heap) (fun q => q ∈ [x, a0, a1, a2, a3] ∨ sz ≤ q)) 1 6 (fun q => q ∈ [x, a0, a1, a2, a3] ∨ sz ≤ q) := by
  refine zm_metW (b := b_L3) [.ref x, .int r, .int y, .int q] zy_L (Nat.le_of_ble_eq_true rfl) ?_
  intro p e s m below meth c ls S hr hlk htab hl hB
  obtain ⟨hx, hb, hml, hown, hts⟩ := id S
  obtain ⟨rfl, hE, hN, hP, hK⟩ := hB
  have hl : lv_has ls 5 [(0, .ref x), (1, .int r), (2, .int y), (3, .int q)] := hl
  rcases zk_cases r with h9 | ⟨j, hj, rfl⟩
  · rw [zk_out h9]
    refine lv_aload_n hx hb d_L3_0 rfl (lv_at hl 0 rfl) ?_
    refine lv_iload_n hx hb d_L3_1 rfl (lv_at hl 1 rfl) ?_
    refine lv_iload_n hx hb d_L3_2 rfl (lv_at hl 2 rfl) ?_
    refine lv_iload_n hx hb d_L3_3 rfl (lv_at hl 3 rfl) ?_
    refine zx_cat1 S k_L7 (x_X4 l hfl x r y q h9) rfl (zx_preV hE hK hP) ⟨Nat.le_of_ble_eq_true rfl, Nat.le_of_ble_eq_true rfl, Nat.le_of_ble_eq_true rfl, Nat.le_of_ble_eq_true rfl⟩ rfl hl.1 rfl (Nat.le_of_ble_eq_true rfl) d_L3_4 htab ⟨by decide, by decide⟩ (by decide) gx_l13 (zx_cast hE _).1 (fun H ax hz hk => ?_)
    refine lv_astore hx hb d_L3_10 hl (by decide) rfl (fun ls hl => ?_)
    have hl : lv_has ls 5 [(4, .ref ax), (0, .ref x), (1, .int r), (2, .int y), (3, .int q)] := hl
    refine lv_iconst (v := 1) hx hb d_L3_12 (by decide) ?_
    exact W.iret (v := 1) hx hb hr (fun t ht hW => ⟨⟨_, (), rfl, rfl, by dsimp only; rw [ht]; exact zk_all hP hk⟩, by rw [ht]; exact hz, fun q h1 h2 => by rw [ht]; exact zk_eq hk h1⟩) (fun q h => by cases h) d_L3_13
  · rw [zk_in hj, nt_n (by omega)]
    have hS : va_S (fun q => q ∈ [x, a0, a1, a2, a3] ∨ s.heap.size ≤ q) s.heap s.heap [] := va_S.rf
    refine lv_aload_n hx hb d_L3_0 rfl (lv_at hl 0 rfl) ?_
    refine lv_iload_n hx hb d_L3_1 rfl (lv_at hl 1 rfl) ?_
    refine lv_iload_n hx hb d_L3_2 rfl (lv_at hl 2 rfl) ?_
    refine lv_iload_n hx hb d_L3_3 rfl (lv_at hl 3 rfl) ?_
    refine zc_VL (C := zc_X) S k_L7 (c_X4 l D cI cB x a0 a1 a2 a3 hnd v n mm hh j hj y q) rfl (xw_pre hK hP) ⟨Nat.le_of_ble_eq_true rfl, Nat.le_of_ble_eq_true rfl⟩ ⟨rfl, rfl⟩ rfl hl.1 rfl (Nat.le_of_ble_eq_true rfl) d_L3_4 ⟨Nat.zero_le _, Nat.zero_le _⟩ hS (fun q h => Or.inl h) (fun rv H locs hq hz1 hk1 hS => ?_)
    obtain ⟨rfl, hP⟩ := hq
    refine lv_goto (tgt := 14) hx hb d_L3_7 (by decide) ?_
    refine lv_iconst (v := 0) hx hb d_L3_14 (by decide) ?_
    refine W.widen (k := 1) (n := 6) (by omega) (by omega) ?_
    exact W.iret (v := 0) hx hb hr (fun t ht hW => ⟨⟨_, (), rfl, rfl, by dsimp only; rw [ht]; exact hP⟩, hS.F ht⟩) hS.2.2 d_L3_15
set_option maxHeartbeats 4000000 in
set_option maxRecDepth 100000 in
theorem c_L4 (l : Launch) (hfl : l.flags = flags0) (D : va_G) (cI cB : ClassId) (x a0 a1 a2 a3 : Nat) (hnd : [x, a0, a1, a2, a3].Nodup) (v n : Nat → Int32) (mm hh : Nat → Int8) (o9 d a b : Int32) (sz : Nat) : Met l y_L4 (zw (.codeWith y_L4 b_L4 6 (some .int) [(0, 9, 12, 19), (0, 9, 16, 13)])) (rmv 9 1 6) (va_Pc [.ref x, .int o9, .int d, .int a, .int b] (zl_B D (xT cI cB) (XW cI cB x a0 a1 a2 a3 v n mm hh) sz)) (va_Qi (fun z (_ : Unit) => z = kop o9 d a b) (fun _ t => va_P D zC (XW cI cB x a0 a1 a2 a3 (if kok o9 d a b then zs v (nt d) (oV (nt o9) (v (nt a)) (v (nt b)) (v (nt d))) else v) (if kok o9 d a b then zs n (nt d) (oN (nt o9) (v (nt a)) (v (nt b)) (n (nt a)) (n (nt b)) (v (nt d)) (n (nt d))) else n) mm hh) t.heap) (fun q => q ∈ [x, a0, a1, a2, a3] ∨ sz ≤ q)) 1 6 (fun q => q ∈ [x, a0, a1, a2, a3] ∨ sz ≤ q) := by
  refine zm_metW (b := b_L4) [.ref x, .int o9, .int d, .int a, .int b] zy_L (Nat.le_of_ble_eq_true rfl) ?_
  intro p e s m below meth c ls S hr hlk htab hl hB
  obtain ⟨hx, hb, hml, hown, hts⟩ := id S
  obtain ⟨rfl, hE, hN, hP, hK⟩ := hB
  have hl : lv_has ls 6 [(0, .ref x), (1, .int o9), (2, .int d), (3, .int a), (4, .int b)] := hl
  unfold kok kop
  rcases kgo_cases o9 with h9 | ⟨k, hk, rfl⟩
  · rw [kgo_f h9, Bool.false_and]
    refine lv_aload_n hx hb d_L4_0 rfl (lv_at hl 0 rfl) ?_
    refine lv_iload_n hx hb d_L4_1 rfl (lv_at hl 1 rfl) ?_
    refine lv_iload_n hx hb d_L4_2 rfl (lv_at hl 2 rfl) ?_
    refine lv_iload_n hx hb d_L4_3 rfl (lv_at hl 3 rfl) ?_
    refine lv_iload hx hb d_L4_4 (lv_at hl 4 rfl) ?_
    refine zx_cat1 S k_L15 (x_X11a l hfl x o9 d a b h9) rfl (zx_preV hE hK hP) ⟨Nat.le_of_ble_eq_true rfl, Nat.le_of_ble_eq_true rfl, Nat.le_of_ble_eq_true rfl, Nat.le_of_ble_eq_true rfl⟩ rfl hl.1 rfl (Nat.le_of_ble_eq_true rfl) d_L4_6 htab ⟨by decide, by decide⟩ (by decide) gx_l19 (zx_cast hE _).2 (fun H ax hz hk => ?_)
    refine lv_astore hx hb d_L4_12 hl (by decide) rfl (fun ls hl => ?_)
    have hl : lv_has ls 6 [(5, .ref ax), (0, .ref x), (1, .int o9), (2, .int d), (3, .int a), (4, .int b)] := hl
    refine lv_iconst (v := 1) hx hb d_L4_14 (by decide) ?_
    exact W.iret (v := 1) hx hb hr (fun t ht hW => ⟨⟨_, (), rfl, rfl, by dsimp only; rw [ht]; exact zk_all hP hk⟩, by rw [ht]; exact hz, fun q h1 h2 => by rw [ht]; exact zk_eq hk h1⟩) (fun q h => by cases h) d_L4_15
  · rw [kgo_t hk, Bool.true_and]
    cases h9 : (zk_16 d && zk_16 a && zk_16 b)
    · refine lv_aload_n hx hb d_L4_0 rfl (lv_at hl 0 rfl) ?_
      refine lv_iload_n hx hb d_L4_1 rfl (lv_at hl 1 rfl) ?_
      refine lv_iload_n hx hb d_L4_2 rfl (lv_at hl 2 rfl) ?_
      refine lv_iload_n hx hb d_L4_3 rfl (lv_at hl 3 rfl) ?_
      refine lv_iload hx hb d_L4_4 (lv_at hl 4 rfl) ?_
      refine zx_cat2 S k_L15 (x_X11b l hfl x k d a b hk h9) rfl (zx_preV hE hK hP) ⟨Nat.le_of_ble_eq_true rfl, Nat.le_of_ble_eq_true rfl, Nat.le_of_ble_eq_true rfl, Nat.le_of_ble_eq_true rfl⟩ rfl hl.1 rfl (Nat.le_of_ble_eq_true rfl) d_L4_6 htab ⟨by decide, by decide⟩ ⟨by decide, by decide⟩ (by decide) (by decide) gx_l19 gx_l13 (zx_cast hE _).1 hN (fun H ax hz hk => ?_)
      refine lv_astore hx hb d_L4_16 hl (by decide) rfl (fun ls hl => ?_)
      have hl : lv_has ls 6 [(5, .ref ax), (0, .ref x), (1, .int (nI k)), (2, .int d), (3, .int a), (4, .int b)] := hl
      refine lv_iconst (v := 2) hx hb d_L4_18 (by decide) ?_
      exact W.iret (v := 2) hx hb hr (fun t ht hW => ⟨⟨_, (), rfl, rfl, by dsimp only; rw [ht]; exact zk_all hP hk⟩, by rw [ht]; exact hz, fun q h1 h2 => by rw [ht]; exact zk_eq hk h1⟩) (fun q h => by cases h) d_L4_19
    · simp only [Bool.and_eq_true] at h9
      obtain ⟨i1, h1, rfl⟩ := zk_true h9.1.1
      obtain ⟨i2, h2, rfl⟩ := zk_true h9.1.2
      obtain ⟨i3, h3, rfl⟩ := zk_true h9.2
      rw [nt_n (j := k) (by omega), nt_n (j := i1) (by omega), nt_n (j := i2) (by omega), nt_n (j := i3) (by omega)]
      have hS : va_S (fun q => q ∈ [x, a0, a1, a2, a3] ∨ s.heap.size ≤ q) s.heap s.heap [] := va_S.rf
      refine lv_aload_n hx hb d_L4_0 rfl (lv_at hl 0 rfl) ?_
      refine lv_iload_n hx hb d_L4_1 rfl (lv_at hl 1 rfl) ?_
      refine lv_iload_n hx hb d_L4_2 rfl (lv_at hl 2 rfl) ?_
      refine lv_iload_n hx hb d_L4_3 rfl (lv_at hl 3 rfl) ?_
      refine lv_iload hx hb d_L4_4 (lv_at hl 4 rfl) ?_
      refine zc_VL (C := zc_X) S k_L15 (c_X11 l D cI cB x a0 a1 a2 a3 hnd v n mm hh k i1 i2 i3 hk h1 h2 h3) rfl (xw_pre hK hP) ⟨Nat.le_of_ble_eq_true rfl, Nat.le_of_ble_eq_true rfl⟩ ⟨rfl, rfl⟩ rfl hl.1 rfl (Nat.le_of_ble_eq_true rfl) d_L4_6 ⟨Nat.zero_le _, Nat.zero_le _⟩ hS (fun q h => Or.inl h) (fun rv H locs hq hz1 hk1 hS => ?_)
      obtain ⟨rfl, hP⟩ := hq
      refine lv_goto (tgt := 20) hx hb d_L4_9 (by decide) ?_
      refine lv_iconst (v := 0) hx hb d_L4_20 (by decide) ?_
      refine W.widen (k := 1) (n := 6) (by omega) (by omega) ?_
      exact W.iret (v := 0) hx hb hr (fun t ht hW => ⟨⟨_, (), rfl, rfl, by dsimp only; rw [ht]; exact hP⟩, hS.F ht⟩) hS.2.2 d_L4_21
set_option maxHeartbeats 4000000 in
set_option maxRecDepth 100000 in
theorem c_L5 (l : Launch) (hfl : l.flags = flags0) (D : va_G) (cI cB : ClassId) (x a0 a1 a2 a3 : Nat) (hnd : [x, a0, a1, a2, a3].Nodup) (v n : Nat → Int32) (mm hh : Nat → Int8) (r u n9 : Int32) (sz : Nat) : Met l y_L5 (zw (.codeWith y_L5 b_L5 5 (some .int) [(0, 7, 10, 19), (0, 7, 14, 13)])) (rmv 9 1 6) (va_Pc [.ref x, .int r, .int u, .int n9] (zl_B D (xT cI cB) (XW cI cB x a0 a1 a2 a3 v n mm hh) sz)) (va_Qi (fun z (_ : Unit) => z = kme r u n9) (fun _ t => va_P D zC (XW cI cB x a0 a1 a2 a3 v n (if kmo r u n9 then zst mm (nt u) (nt n9) (v (nt r)) else mm) (if kmo r u n9 then zst hh (nt u) (nt n9) (n (nt r)) else hh)) t.heap) (fun q => q ∈ [x, a0, a1, a2, a3] ∨ sz ≤ q)) 1 6 (fun q => q ∈ [x, a0, a1, a2, a3] ∨ sz ≤ q) := by
  refine zm_metW (b := b_L5) [.ref x, .int r, .int u, .int n9] zy_L (Nat.le_of_ble_eq_true rfl) ?_
  intro p e s m below meth c ls S hr hlk htab hl hB
  obtain ⟨hx, hb, hml, hown, hts⟩ := id S
  obtain ⟨rfl, hE, hN, hP, hK⟩ := hB
  have hl : lv_has ls 5 [(0, .ref x), (1, .int r), (2, .int u), (3, .int n9)] := hl
  unfold kmo kme
  rcases kgn_cases n9 with h9 | ⟨k, hk, rfl⟩
  · rw [kgn_f h9, Bool.false_and]
    refine lv_aload_n hx hb d_L5_0 rfl (lv_at hl 0 rfl) ?_
    refine lv_iload_n hx hb d_L5_1 rfl (lv_at hl 1 rfl) ?_
    refine lv_iload_n hx hb d_L5_2 rfl (lv_at hl 2 rfl) ?_
    refine lv_iload_n hx hb d_L5_3 rfl (lv_at hl 3 rfl) ?_
    refine zx_cat1 S k_L21 (x_X16a l hfl D cI cB x a0 a1 a2 a3 v n mm hh r u n9 h9) rfl (⟨fun a U g mk q => ⟨q.1, zx_calling q.2.1 g mk a, q.2.2.1, va_K.moved (u := U) (U := U.calling g mk a) (Vm.Alike.refl U.vm) q.2.2.2⟩, va_recv hK hP (ci := 0) rfl (q0 := 0) rfl, fun U hU hW => ⟨rfl, zx_moved hE hW (fun a cell h => by rw [hU]; exact h), by rw [hU]; exact hP, va_K.moved hW.alike hK⟩⟩) ⟨Nat.le_of_ble_eq_true rfl, Nat.le_of_ble_eq_true rfl, Nat.le_of_ble_eq_true rfl, Nat.le_of_ble_eq_true rfl⟩ rfl hl.1 rfl (Nat.le_of_ble_eq_true rfl) d_L5_4 htab ⟨by decide, by decide⟩ (by decide) gx_l19 (zx_cast hE _).2 (fun H ax hz hk => ?_)
    refine lv_astore hx hb d_L5_10 hl (by decide) rfl (fun ls hl => ?_)
    have hl : lv_has ls 5 [(4, .ref ax), (0, .ref x), (1, .int r), (2, .int u), (3, .int n9)] := hl
    refine lv_iconst (v := 1) hx hb d_L5_12 (by decide) ?_
    exact W.iret (v := 1) hx hb hr (fun t ht hW => ⟨⟨_, (), rfl, rfl, by dsimp only; rw [ht]; exact zk_all hP hk⟩, by rw [ht]; exact hz, fun q h1 h2 => by rw [ht]; exact zk_eq hk h1⟩) (fun q h => by cases h) d_L5_13
  · rw [show kgn (nI k) = true from decide_eq_true (kgn_t hk), Bool.true_and]
    cases h9 : kat r u (nI k)
    · refine lv_aload_n hx hb d_L5_0 rfl (lv_at hl 0 rfl) ?_
      refine lv_iload_n hx hb d_L5_1 rfl (lv_at hl 1 rfl) ?_
      refine lv_iload_n hx hb d_L5_2 rfl (lv_at hl 2 rfl) ?_
      refine lv_iload_n hx hb d_L5_3 rfl (lv_at hl 3 rfl) ?_
      refine zx_cat2 S k_L21 (x_X16b l hfl D cI cB x a0 a1 a2 a3 v n mm hh r u (nI k) (kgn_t hk) (of_decide_eq_false h9)) rfl (⟨fun a U g mk q => ⟨q.1, zx_calling q.2.1 g mk a, q.2.2.1, va_K.moved (u := U) (U := U.calling g mk a) (Vm.Alike.refl U.vm) q.2.2.2⟩, va_recv hK hP (ci := 0) rfl (q0 := 0) rfl, fun U hU hW => ⟨rfl, zx_moved hE hW (fun a cell h => by rw [hU]; exact h), by rw [hU]; exact hP, va_K.moved hW.alike hK⟩⟩) ⟨Nat.le_of_ble_eq_true rfl, Nat.le_of_ble_eq_true rfl, Nat.le_of_ble_eq_true rfl, Nat.le_of_ble_eq_true rfl⟩ rfl hl.1 rfl (Nat.le_of_ble_eq_true rfl) d_L5_4 htab ⟨by decide, by decide⟩ ⟨by decide, by decide⟩ (by decide) (by decide) gx_l19 gx_l13 (zx_cast hE _).1 hN (fun H ax hz hk => ?_)
      refine lv_astore hx hb d_L5_14 hl (by decide) rfl (fun ls hl => ?_)
      have hl : lv_has ls 5 [(4, .ref ax), (0, .ref x), (1, .int r), (2, .int u), (3, .int (nI k))] := hl
      refine lv_iconst (v := 2) hx hb d_L5_16 (by decide) ?_
      exact W.iret (v := 2) hx hb hr (fun t ht hW => ⟨⟨_, (), rfl, rfl, by dsimp only; rw [ht]; exact zk_all hP hk⟩, by rw [ht]; exact hz, fun q h1 h2 => by rw [ht]; exact zk_eq hk h1⟩) (fun q h => by cases h) d_L5_17
    · obtain ⟨i, j, h1, h2, rfl, rfl⟩ := kat_t hk h9
      rw [nt_n (j := k) (by omega), nt_n (j := i) (by omega), nt_n (j := j) (by omega)]
      have hS : va_S (fun q => q ∈ [x, a0, a1, a2, a3] ∨ s.heap.size ≤ q) s.heap s.heap [] := va_S.rf
      refine lv_aload_n hx hb d_L5_0 rfl (lv_at hl 0 rfl) ?_
      refine lv_iload_n hx hb d_L5_1 rfl (lv_at hl 1 rfl) ?_
      refine lv_iload_n hx hb d_L5_2 rfl (lv_at hl 2 rfl) ?_
      refine lv_iload_n hx hb d_L5_3 rfl (lv_at hl 3 rfl) ?_
      refine zc_VL (C := zc_X) S k_L21 (c_X16 l D cI cB x a0 a1 a2 a3 hnd v n mm hh i j k h1 hk h2) rfl (xw_pre hK hP) ⟨Nat.le_of_ble_eq_true rfl, Nat.le_of_ble_eq_true rfl⟩ ⟨rfl, rfl⟩ rfl hl.1 rfl (Nat.le_of_ble_eq_true rfl) d_L5_4 ⟨Nat.zero_le _, Nat.zero_le _⟩ hS (fun q h => Or.inl h) (fun rv H locs hq hz1 hk1 hS => ?_)
      obtain ⟨rfl, hP⟩ := hq
      refine lv_goto (tgt := 18) hx hb d_L5_7 (by decide) ?_
      refine lv_iconst (v := 0) hx hb d_L5_18 (by decide) ?_
      refine W.widen (k := 1) (n := 6) (by omega) (by omega) ?_
      exact W.iret (v := 0) hx hb hr (fun t ht hW => ⟨⟨_, (), rfl, rfl, by dsimp only; rw [ht]; exact hP⟩, hS.F ht⟩) hS.2.2 d_L5_19
set_option maxHeartbeats 4000000 in
set_option maxRecDepth 100000 in
theorem c_L6 (l : Launch) (hfl : l.flags = flags0) (D : va_G) (cI cB : ClassId) (x a0 a1 a2 a3 : Nat) (hnd : [x, a0, a1, a2, a3].Nodup) (v n : Nat → Int32) (mm hh : Nat → Int8) (r u n9 : Int32) (sg : Bool) (sz : Nat) : Met l y_L6 (zw (.codeWith y_L6 b_L6 6 (some .int) [(0, 9, 12, 19), (0, 9, 16, 13)])) (rmv 9 1 6) (va_Pc [.ref x, .int r, .int u, .int n9, .int (zb sg)] (zl_B D (xT cI cB) (XW cI cB x a0 a1 a2 a3 v n mm hh) sz)) (va_Qi (fun z (_ : Unit) => z = kme r u n9) (fun _ t => va_P D zC (XW cI cB x a0 a1 a2 a3 (if kmo r u n9 then zs v (nt r) (zjo mm (nt u) (nt n9) sg) else v) (if kmo r u n9 then zs n (nt r) (zjo hh (nt u) (nt n9) sg) else n) mm hh) t.heap) (fun q => q ∈ [x, a0, a1, a2, a3] ∨ sz ≤ q)) 1 6 (fun q => q ∈ [x, a0, a1, a2, a3] ∨ sz ≤ q) := by
  refine zm_metW (b := b_L6) [.ref x, .int r, .int u, .int n9, .int (zb sg)] zy_L (Nat.le_of_ble_eq_true rfl) ?_
  intro p e s m below meth c ls S hr hlk htab hl hB
  obtain ⟨hx, hb, hml, hown, hts⟩ := id S
  obtain ⟨rfl, hE, hN, hP, hK⟩ := hB
  have hl : lv_has ls 6 [(0, .ref x), (1, .int r), (2, .int u), (3, .int n9), (4, .int (zb sg))] := hl
  unfold kmo kme
  rcases kgn_cases n9 with h9 | ⟨k, hk, rfl⟩
  · rw [kgn_f h9, Bool.false_and]
    refine lv_aload_n hx hb d_L6_0 rfl (lv_at hl 0 rfl) ?_
    refine lv_iload_n hx hb d_L6_1 rfl (lv_at hl 1 rfl) ?_
    refine lv_iload_n hx hb d_L6_2 rfl (lv_at hl 2 rfl) ?_
    refine lv_iload_n hx hb d_L6_3 rfl (lv_at hl 3 rfl) ?_
    refine lv_iload hx hb d_L6_4 (lv_at hl 4 rfl) ?_
    refine zx_cat1 S k_L24 (x_X18a l hfl D cI cB x a0 a1 a2 a3 v n mm hh r u n9 (zb sg) h9) rfl (⟨fun a U g mk q => ⟨q.1, zx_calling q.2.1 g mk a, q.2.2.1, va_K.moved (u := U) (U := U.calling g mk a) (Vm.Alike.refl U.vm) q.2.2.2⟩, va_recv hK hP (ci := 0) rfl (q0 := 0) rfl, fun U hU hW => ⟨rfl, zx_moved hE hW (fun a cell h => by rw [hU]; exact h), by rw [hU]; exact hP, va_K.moved hW.alike hK⟩⟩) ⟨Nat.le_of_ble_eq_true rfl, Nat.le_of_ble_eq_true rfl, Nat.le_of_ble_eq_true rfl, Nat.le_of_ble_eq_true rfl⟩ rfl hl.1 rfl (Nat.le_of_ble_eq_true rfl) d_L6_6 htab ⟨by decide, by decide⟩ (by decide) gx_l19 (zx_cast hE _).2 (fun H ax hz hk => ?_)
    refine lv_astore hx hb d_L6_12 hl (by decide) rfl (fun ls hl => ?_)
    have hl : lv_has ls 6 [(5, .ref ax), (0, .ref x), (1, .int r), (2, .int u), (3, .int n9), (4, .int (zb sg))] := hl
    refine lv_iconst (v := 1) hx hb d_L6_14 (by decide) ?_
    exact W.iret (v := 1) hx hb hr (fun t ht hW => ⟨⟨_, (), rfl, rfl, by dsimp only; rw [ht]; exact zk_all hP hk⟩, by rw [ht]; exact hz, fun q h1 h2 => by rw [ht]; exact zk_eq hk h1⟩) (fun q h => by cases h) d_L6_15
  · rw [show kgn (nI k) = true from decide_eq_true (kgn_t hk), Bool.true_and]
    cases h9 : kat r u (nI k)
    · refine lv_aload_n hx hb d_L6_0 rfl (lv_at hl 0 rfl) ?_
      refine lv_iload_n hx hb d_L6_1 rfl (lv_at hl 1 rfl) ?_
      refine lv_iload_n hx hb d_L6_2 rfl (lv_at hl 2 rfl) ?_
      refine lv_iload_n hx hb d_L6_3 rfl (lv_at hl 3 rfl) ?_
      refine lv_iload hx hb d_L6_4 (lv_at hl 4 rfl) ?_
      refine zx_cat2 S k_L24 (x_X18b l hfl D cI cB x a0 a1 a2 a3 v n mm hh r u (nI k) (zb sg) (kgn_t hk) (of_decide_eq_false h9)) rfl (⟨fun a U g mk q => ⟨q.1, zx_calling q.2.1 g mk a, q.2.2.1, va_K.moved (u := U) (U := U.calling g mk a) (Vm.Alike.refl U.vm) q.2.2.2⟩, va_recv hK hP (ci := 0) rfl (q0 := 0) rfl, fun U hU hW => ⟨rfl, zx_moved hE hW (fun a cell h => by rw [hU]; exact h), by rw [hU]; exact hP, va_K.moved hW.alike hK⟩⟩) ⟨Nat.le_of_ble_eq_true rfl, Nat.le_of_ble_eq_true rfl, Nat.le_of_ble_eq_true rfl, Nat.le_of_ble_eq_true rfl⟩ rfl hl.1 rfl (Nat.le_of_ble_eq_true rfl) d_L6_6 htab ⟨by decide, by decide⟩ ⟨by decide, by decide⟩ (by decide) (by decide) gx_l19 gx_l13 (zx_cast hE _).1 hN (fun H ax hz hk => ?_)
      refine lv_astore hx hb d_L6_16 hl (by decide) rfl (fun ls hl => ?_)
      have hl : lv_has ls 6 [(5, .ref ax), (0, .ref x), (1, .int r), (2, .int u), (3, .int (nI k)), (4, .int (zb sg))] := hl
      refine lv_iconst (v := 2) hx hb d_L6_18 (by decide) ?_
      exact W.iret (v := 2) hx hb hr (fun t ht hW => ⟨⟨_, (), rfl, rfl, by dsimp only; rw [ht]; exact zk_all hP hk⟩, by rw [ht]; exact hz, fun q h1 h2 => by rw [ht]; exact zk_eq hk h1⟩) (fun q h => by cases h) d_L6_19
    · obtain ⟨i, j, h1, h2, rfl, rfl⟩ := kat_t hk h9
      rw [nt_n (j := k) (by omega), nt_n (j := i) (by omega), nt_n (j := j) (by omega)]
      have hS : va_S (fun q => q ∈ [x, a0, a1, a2, a3] ∨ s.heap.size ≤ q) s.heap s.heap [] := va_S.rf
      refine lv_aload_n hx hb d_L6_0 rfl (lv_at hl 0 rfl) ?_
      refine lv_iload_n hx hb d_L6_1 rfl (lv_at hl 1 rfl) ?_
      refine lv_iload_n hx hb d_L6_2 rfl (lv_at hl 2 rfl) ?_
      refine lv_iload_n hx hb d_L6_3 rfl (lv_at hl 3 rfl) ?_
      refine lv_iload hx hb d_L6_4 (lv_at hl 4 rfl) ?_
      refine zc_VL (C := zc_X) S k_L24 (c_X18 l D cI cB x a0 a1 a2 a3 hnd v n mm hh i j k sg h1 hk h2) rfl (xw_pre hK hP) ⟨Nat.le_of_ble_eq_true rfl, Nat.le_of_ble_eq_true rfl⟩ ⟨rfl, rfl⟩ rfl hl.1 rfl (Nat.le_of_ble_eq_true rfl) d_L6_6 ⟨Nat.zero_le _, Nat.zero_le _⟩ hS (fun q h => Or.inl h) (fun rv H locs hq hz1 hk1 hS => ?_)
      obtain ⟨rfl, hP⟩ := hq
      refine lv_goto (tgt := 20) hx hb d_L6_9 (by decide) ?_
      refine lv_iconst (v := 0) hx hb d_L6_20 (by decide) ?_
      refine W.widen (k := 1) (n := 6) (by omega) (by omega) ?_
      exact W.iret (v := 0) hx hb hr (fun t ht hW => ⟨⟨_, (), rfl, rfl, by dsimp only; rw [ht]; exact hP⟩, hS.F ht⟩) hS.2.2 d_L6_21
set_option maxHeartbeats 4000000 in
set_option maxRecDepth 100000 in
theorem c_L7 (l : Launch) (hfl : l.flags = flags0) (D : va_G) (cI cB : ClassId) (x a0 a1 a2 a3 : Nat) (hnd : [x, a0, a1, a2, a3].Nodup) (v n : Nat → Int32) (mm hh : Nat → Int8) (cL : ClassId) (ou : Nat) (fo : Nat → Int64) (r : Int32) (sz : Nat) : Met l y_L7 (zw (.codeWith y_L7 b_L7 4 (some .int) [(0, 9, 12, 13)])) (rmv 9 1 6) (va_Pc [.ref x, .int r, .ref ou] (zl_B D (xT cI cB ++ [(cL, .long)]) (XW cI cB x a0 a1 a2 a3 v n mm hh ++ [(ou, .inl (cL, 1, .inr (.inl fo)))]) sz)) (va_Qi (fun z (_ : Unit) => z = zb (!zk_16 r)) (fun _ t => va_P D zC [(ou, .inl (cL, 1, .inr (.inl (if zk_16 r then vp_updL fo (0 : Int32).toNatClampNeg (v (nt r)).toInt64 else fo))))] t.heap) (fun q => q ∈ [ou] ∨ sz ≤ q)) 1 6 (fun q => q ∈ [ou] ∨ sz ≤ q) := by
  refine zm_metW (b := b_L7) [.ref x, .int r, .ref ou] zy_L (Nat.le_of_ble_eq_true rfl) ?_
  intro p e s m below meth c ls S hr hlk htab hl hB
  obtain ⟨hx, hb, hml, hown, hts⟩ := id S
  obtain ⟨rfl, hE, hN, hP, hK⟩ := hB
  have hl : lv_has ls 4 [(0, .ref x), (1, .int r), (2, .ref ou)] := hl
  have hPx : va_P D zC (XW cI cB x a0 a1 a2 a3 v n mm hh) s.heap := hP.sub [0, 1, 2, 3, 4] rfl
  have hPo : va_P D zC [(ou, .inl (cL, 1, .inr (.inl fo)))] s.heap := hP.sub [5] rfl
  have hKx : va_K D zC (xT cI cB) s := hK.sub [0, 1] rfl
  rcases zk_cases r with h9 | ⟨j, hj, rfl⟩
  · rw [zk_out h9]
    refine lv_aload_n hx hb d_L7_0 rfl (lv_at hl 2 rfl) ?_
    refine lv_iconst (v := 0) hx hb d_L7_1 (by decide) ?_
    refine lv_aload_n hx hb d_L7_2 rfl (lv_at hl 0 rfl) ?_
    refine lv_iload_n hx hb d_L7_3 rfl (lv_at hl 1 rfl) ?_
    refine zx_cat1 S k_L28 (x_X19 l hfl x r h9) rfl (zx_preV hE hKx hPx) ⟨Nat.le_of_ble_eq_true rfl, Nat.le_of_ble_eq_true rfl, Nat.le_of_ble_eq_true rfl, Nat.le_of_ble_eq_true rfl⟩ rfl hl.1 rfl (Nat.le_of_ble_eq_true rfl) d_L7_4 htab ⟨by decide, by decide⟩ (by decide) gx_l13 (zx_cast hE _).1 (fun H ax hz hk => ?_)
    refine lv_astore_n hx hb d_L7_12 rfl hl (by decide) rfl (fun ls hl => ?_)
    have hl : lv_has ls 4 [(3, .ref ax), (0, .ref x), (1, .int r), (2, .ref ou)] := hl
    refine lv_iconst (v := 1) hx hb d_L7_13 (by decide) ?_
    exact W.iret (v := 1) hx hb hr (fun t ht hW => ⟨⟨_, (), rfl, rfl, by dsimp only; rw [ht]; exact zk_all hPo hk⟩, by rw [ht]; exact hz, fun q h1 h2 => by rw [ht]; exact zk_eq hk h1⟩) (fun q h => by cases h) d_L7_14
  · rw [zk_in hj, nt_n (by omega)]
    have hS : va_S (fun q => q ∈ [ou] ∨ s.heap.size ≤ q) s.heap s.heap [] := va_S.rf
    refine lv_aload_n hx hb d_L7_0 rfl (lv_at hl 2 rfl) ?_
    refine lv_iconst (v := 0) hx hb d_L7_1 (by decide) ?_
    refine lv_aload_n hx hb d_L7_2 rfl (lv_at hl 0 rfl) ?_
    refine lv_iload_n hx hb d_L7_3 rfl (lv_at hl 1 rfl) ?_
    refine zc_Vi (C := zc_X) S k_L28 (c_X19 l D cI cB x a0 a1 a2 a3 hnd v n mm hh j hj) rfl (xw_pre hKx hPx) ⟨Nat.le_of_ble_eq_true rfl, Nat.le_of_ble_eq_true rfl⟩ ⟨rfl, rfl⟩ rfl hl.1 rfl (Nat.le_of_ble_eq_true rfl) d_L7_4 ⟨Nat.zero_le _, Nat.zero_le _⟩ ?_
    refine lv_i2l hx hb d_L7_7 rfl ?_
    refine va_last hx hb hK hPo ((zd_of (L := [ou]) rfl (by simp)).weaken (fun _ _ _ h => Or.inl h)) hS 0 2 rfl rfl (vp_in_nI (n := 0) (N := 1) (by decide) (by decide)) d_L7_8 (fun H locs hPo hD hS => ?_)
    refine lv_goto (tgt := 15) hx hb d_L7_9 (by decide) ?_
    refine lv_iconst (v := 0) hx hb d_L7_15 (by decide) ?_
    refine W.widen (k := 1) (n := 6) (by omega) (by omega) ?_
    exact W.iret (v := 0) hx hb hr (fun t ht hW => ⟨⟨_, (), rfl, rfl, by dsimp only; rw [ht]; exact hPo⟩, hS.F ht⟩) hS.2.2 d_L7_16
set_option maxHeartbeats 4000000 in
set_option maxRecDepth 100000 in
theorem c_L8 (l : Launch) (hfl : l.flags = flags0) (D : va_G) (cI cB : ClassId) (x a0 a1 a2 a3 : Nat) (hnd : [x, a0, a1, a2, a3].Nodup) (v n : Nat → Int32) (mm hh : Nat → Int8) (cL : ClassId) (ou : Nat) (fo : Nat → Int64) (r : Int32) (sz : Nat) : Met l y_L8 (zw (.codeWith y_L8 b_L8 4 (some .int) [(0, 9, 12, 13)])) (rmv 9 1 6) (va_Pc [.ref x, .int r, .ref ou] (zl_B D (xT cI cB ++ [(cL, .long)]) (XW cI cB x a0 a1 a2 a3 v n mm hh ++ [(ou, .inl (cL, 1, .inr (.inl fo)))]) sz)) (va_Qi (fun z (_ : Unit) => z = zb (!zk_16 r)) (fun _ t => va_P D zC [(ou, .inl (cL, 1, .inr (.inl (if zk_16 r then vp_updL fo (0 : Int32).toNatClampNeg (n (nt r)).toInt64 else fo))))] t.heap) (fun q => q ∈ [ou] ∨ sz ≤ q)) 1 6 (fun q => q ∈ [ou] ∨ sz ≤ q) := by
  refine zm_metW (b := b_L8) [.ref x, .int r, .ref ou] zy_L (Nat.le_of_ble_eq_true rfl) ?_
  intro p e s m below meth c ls S hr hlk htab hl hB
  obtain ⟨hx, hb, hml, hown, hts⟩ := id S
  obtain ⟨rfl, hE, hN, hP, hK⟩ := hB
  have hl : lv_has ls 4 [(0, .ref x), (1, .int r), (2, .ref ou)] := hl
  have hPx : va_P D zC (XW cI cB x a0 a1 a2 a3 v n mm hh) s.heap := hP.sub [0, 1, 2, 3, 4] rfl
  have hPo : va_P D zC [(ou, .inl (cL, 1, .inr (.inl fo)))] s.heap := hP.sub [5] rfl
  have hKx : va_K D zC (xT cI cB) s := hK.sub [0, 1] rfl
  rcases zk_cases r with h9 | ⟨j, hj, rfl⟩
  · rw [zk_out h9]
    refine lv_aload_n hx hb d_L8_0 rfl (lv_at hl 2 rfl) ?_
    refine lv_iconst (v := 0) hx hb d_L8_1 (by decide) ?_
    refine lv_aload_n hx hb d_L8_2 rfl (lv_at hl 0 rfl) ?_
    refine lv_iload_n hx hb d_L8_3 rfl (lv_at hl 1 rfl) ?_
    refine zx_cat1 S k_L32 (x_X20 l hfl x r h9) rfl (zx_preV hE hKx hPx) ⟨Nat.le_of_ble_eq_true rfl, Nat.le_of_ble_eq_true rfl, Nat.le_of_ble_eq_true rfl, Nat.le_of_ble_eq_true rfl⟩ rfl hl.1 rfl (Nat.le_of_ble_eq_true rfl) d_L8_4 htab ⟨by decide, by decide⟩ (by decide) gx_l13 (zx_cast hE _).1 (fun H ax hz hk => ?_)
    refine lv_astore_n hx hb d_L8_12 rfl hl (by decide) rfl (fun ls hl => ?_)
    have hl : lv_has ls 4 [(3, .ref ax), (0, .ref x), (1, .int r), (2, .ref ou)] := hl
    refine lv_iconst (v := 1) hx hb d_L8_13 (by decide) ?_
    exact W.iret (v := 1) hx hb hr (fun t ht hW => ⟨⟨_, (), rfl, rfl, by dsimp only; rw [ht]; exact zk_all hPo hk⟩, by rw [ht]; exact hz, fun q h1 h2 => by rw [ht]; exact zk_eq hk h1⟩) (fun q h => by cases h) d_L8_14
  · rw [zk_in hj, nt_n (by omega)]
    have hS : va_S (fun q => q ∈ [ou] ∨ s.heap.size ≤ q) s.heap s.heap [] := va_S.rf
    refine lv_aload_n hx hb d_L8_0 rfl (lv_at hl 2 rfl) ?_
    refine lv_iconst (v := 0) hx hb d_L8_1 (by decide) ?_
    refine lv_aload_n hx hb d_L8_2 rfl (lv_at hl 0 rfl) ?_
    refine lv_iload_n hx hb d_L8_3 rfl (lv_at hl 1 rfl) ?_
    refine zc_Vi (C := zc_X) S k_L32 (c_X20 l D cI cB x a0 a1 a2 a3 hnd v n mm hh j hj) rfl (xw_pre hKx hPx) ⟨Nat.le_of_ble_eq_true rfl, Nat.le_of_ble_eq_true rfl⟩ ⟨rfl, rfl⟩ rfl hl.1 rfl (Nat.le_of_ble_eq_true rfl) d_L8_4 ⟨Nat.zero_le _, Nat.zero_le _⟩ ?_
    refine lv_i2l hx hb d_L8_7 rfl ?_
    refine va_last hx hb hK hPo ((zd_of (L := [ou]) rfl (by simp)).weaken (fun _ _ _ h => Or.inl h)) hS 0 2 rfl rfl (vp_in_nI (n := 0) (N := 1) (by decide) (by decide)) d_L8_8 (fun H locs hPo hD hS => ?_)
    refine lv_goto (tgt := 15) hx hb d_L8_9 (by decide) ?_
    refine lv_iconst (v := 0) hx hb d_L8_15 (by decide) ?_
    refine W.widen (k := 1) (n := 6) (by omega) (by omega) ?_
    exact W.iret (v := 0) hx hb hr (fun t ht hW => ⟨⟨_, (), rfl, rfl, by dsimp only; rw [ht]; exact hPo⟩, hS.F ht⟩) hS.2.2 d_L8_16
set_option maxHeartbeats 4000000 in
set_option maxRecDepth 100000 in
theorem c_L9 (l : Launch) (hfl : l.flags = flags0) (D : va_G) (cI cB : ClassId) (x a0 a1 a2 a3 : Nat) (hnd : [x, a0, a1, a2, a3].Nodup) (v n : Nat → Int32) (mm hh : Nat → Int8) (cL : ClassId) (ou : Nat) (fo : Nat → Int64) (r : Int32) (sz : Nat) : Met l y_L9 (zw (.codeWith y_L9 b_L9 4 (some .int) [(0, 9, 12, 13)])) (rmv 9 1 6) (va_Pc [.ref x, .int r, .ref ou] (zl_B D (xT cI cB ++ [(cL, .long)]) (XW cI cB x a0 a1 a2 a3 v n mm hh ++ [(ou, .inl (cL, 1, .inr (.inl fo)))]) sz)) (va_Qi (fun z (_ : Unit) => z = zb (!zk_16 r)) (fun _ t => va_P D zC [(ou, .inl (cL, 1, .inr (.inl (if zk_16 r then vp_updL fo (0 : Int32).toNatClampNeg (zlw (v (nt r)) (n (nt r))).toInt64 else fo))))] t.heap) (fun q => q ∈ [ou] ∨ sz ≤ q)) 1 6 (fun q => q ∈ [ou] ∨ sz ≤ q) := by
  refine zm_metW (b := b_L9) [.ref x, .int r, .ref ou] zy_L (Nat.le_of_ble_eq_true rfl) ?_
  intro p e s m below meth c ls S hr hlk htab hl hB
  obtain ⟨hx, hb, hml, hown, hts⟩ := id S
  obtain ⟨rfl, hE, hN, hP, hK⟩ := hB
  have hl : lv_has ls 4 [(0, .ref x), (1, .int r), (2, .ref ou)] := hl
  have hPx : va_P D zC (XW cI cB x a0 a1 a2 a3 v n mm hh) s.heap := hP.sub [0, 1, 2, 3, 4] rfl
  have hPo : va_P D zC [(ou, .inl (cL, 1, .inr (.inl fo)))] s.heap := hP.sub [5] rfl
  have hKx : va_K D zC (xT cI cB) s := hK.sub [0, 1] rfl
  rcases zk_cases r with h9 | ⟨j, hj, rfl⟩
  · rw [zk_out h9]
    refine lv_aload_n hx hb d_L9_0 rfl (lv_at hl 2 rfl) ?_
    refine lv_iconst (v := 0) hx hb d_L9_1 (by decide) ?_
    refine lv_aload_n hx hb d_L9_2 rfl (lv_at hl 0 rfl) ?_
    refine lv_iload_n hx hb d_L9_3 rfl (lv_at hl 1 rfl) ?_
    refine zx_cat1 S k_L35 (x_X21 l hfl x r h9) rfl (zx_preV hE hKx hPx) ⟨Nat.le_of_ble_eq_true rfl, Nat.le_of_ble_eq_true rfl, Nat.le_of_ble_eq_true rfl, Nat.le_of_ble_eq_true rfl⟩ rfl hl.1 rfl (Nat.le_of_ble_eq_true rfl) d_L9_4 htab ⟨by decide, by decide⟩ (by decide) gx_l13 (zx_cast hE _).1 (fun H ax hz hk => ?_)
    refine lv_astore_n hx hb d_L9_12 rfl hl (by decide) rfl (fun ls hl => ?_)
    have hl : lv_has ls 4 [(3, .ref ax), (0, .ref x), (1, .int r), (2, .ref ou)] := hl
    refine lv_iconst (v := 1) hx hb d_L9_13 (by decide) ?_
    exact W.iret (v := 1) hx hb hr (fun t ht hW => ⟨⟨_, (), rfl, rfl, by dsimp only; rw [ht]; exact zk_all hPo hk⟩, by rw [ht]; exact hz, fun q h1 h2 => by rw [ht]; exact zk_eq hk h1⟩) (fun q h => by cases h) d_L9_14
  · rw [zk_in hj, nt_n (by omega)]
    have hS : va_S (fun q => q ∈ [ou] ∨ s.heap.size ≤ q) s.heap s.heap [] := va_S.rf
    refine lv_aload_n hx hb d_L9_0 rfl (lv_at hl 2 rfl) ?_
    refine lv_iconst (v := 0) hx hb d_L9_1 (by decide) ?_
    refine lv_aload_n hx hb d_L9_2 rfl (lv_at hl 0 rfl) ?_
    refine lv_iload_n hx hb d_L9_3 rfl (lv_at hl 1 rfl) ?_
    refine zc_Vi (C := zc_X) S k_L35 (c_X21 l D cI cB x a0 a1 a2 a3 hnd v n mm hh j hj) rfl (xw_pre hKx hPx) ⟨Nat.le_of_ble_eq_true rfl, Nat.le_of_ble_eq_true rfl⟩ ⟨rfl, rfl⟩ rfl hl.1 rfl (Nat.le_of_ble_eq_true rfl) d_L9_4 ⟨Nat.zero_le _, Nat.zero_le _⟩ ?_
    refine lv_i2l hx hb d_L9_7 rfl ?_
    refine va_last hx hb hK hPo ((zd_of (L := [ou]) rfl (by simp)).weaken (fun _ _ _ h => Or.inl h)) hS 0 2 rfl rfl (vp_in_nI (n := 0) (N := 1) (by decide) (by decide)) d_L9_8 (fun H locs hPo hD hS => ?_)
    refine lv_goto (tgt := 15) hx hb d_L9_9 (by decide) ?_
    refine lv_iconst (v := 0) hx hb d_L9_15 (by decide) ?_
    refine W.widen (k := 1) (n := 6) (by omega) (by omega) ?_
    exact W.iret (v := 0) hx hb hr (fun t ht hW => ⟨⟨_, (), rfl, rfl, by dsimp only; rw [ht]; exact hPo⟩, hS.F ht⟩) hS.2.2 d_L9_16
set_option maxHeartbeats 4000000 in
set_option maxRecDepth 100000 in
theorem c_L10 (l : Launch) (hfl : l.flags = flags0) (D : va_G) (cI cB : ClassId) (x a0 a1 a2 a3 : Nat) (hnd : [x, a0, a1, a2, a3].Nodup) (v n : Nat → Int32) (mm hh : Nat → Int8) (cL : ClassId) (ou : Nat) (fo : Nat → Int64) (r : Int32) (sz : Nat) : Met l y_L10 (zw (.codeWith y_L10 b_L10 4 (some .int) [(0, 9, 12, 13)])) (rmv 9 1 6) (va_Pc [.ref x, .int r, .ref ou] (zl_B D (xT cI cB ++ [(cL, .long)]) (XW cI cB x a0 a1 a2 a3 v n mm hh ++ [(ou, .inl (cL, 1, .inr (.inl fo)))]) sz)) (va_Qi (fun z (_ : Unit) => z = zb (!zk_16 r)) (fun _ t => va_P D zC [(ou, .inl (cL, 1, .inr (.inl (if zk_16 r then vp_updL fo (0 : Int32).toNatClampNeg (zhi (v (nt r)) (n (nt r))).toInt64 else fo))))] t.heap) (fun q => q ∈ [ou] ∨ sz ≤ q)) 1 6 (fun q => q ∈ [ou] ∨ sz ≤ q) := by
  refine zm_metW (b := b_L10) [.ref x, .int r, .ref ou] zy_L (Nat.le_of_ble_eq_true rfl) ?_
  intro p e s m below meth c ls S hr hlk htab hl hB
  obtain ⟨hx, hb, hml, hown, hts⟩ := id S
  obtain ⟨rfl, hE, hN, hP, hK⟩ := hB
  have hl : lv_has ls 4 [(0, .ref x), (1, .int r), (2, .ref ou)] := hl
  have hPx : va_P D zC (XW cI cB x a0 a1 a2 a3 v n mm hh) s.heap := hP.sub [0, 1, 2, 3, 4] rfl
  have hPo : va_P D zC [(ou, .inl (cL, 1, .inr (.inl fo)))] s.heap := hP.sub [5] rfl
  have hKx : va_K D zC (xT cI cB) s := hK.sub [0, 1] rfl
  rcases zk_cases r with h9 | ⟨j, hj, rfl⟩
  · rw [zk_out h9]
    refine lv_aload_n hx hb d_L10_0 rfl (lv_at hl 2 rfl) ?_
    refine lv_iconst (v := 0) hx hb d_L10_1 (by decide) ?_
    refine lv_aload_n hx hb d_L10_2 rfl (lv_at hl 0 rfl) ?_
    refine lv_iload_n hx hb d_L10_3 rfl (lv_at hl 1 rfl) ?_
    refine zx_cat1 S k_L38 (x_X22 l hfl x r h9) rfl (zx_preV hE hKx hPx) ⟨Nat.le_of_ble_eq_true rfl, Nat.le_of_ble_eq_true rfl, Nat.le_of_ble_eq_true rfl, Nat.le_of_ble_eq_true rfl⟩ rfl hl.1 rfl (Nat.le_of_ble_eq_true rfl) d_L10_4 htab ⟨by decide, by decide⟩ (by decide) gx_l13 (zx_cast hE _).1 (fun H ax hz hk => ?_)
    refine lv_astore_n hx hb d_L10_12 rfl hl (by decide) rfl (fun ls hl => ?_)
    have hl : lv_has ls 4 [(3, .ref ax), (0, .ref x), (1, .int r), (2, .ref ou)] := hl
    refine lv_iconst (v := 1) hx hb d_L10_13 (by decide) ?_
    exact W.iret (v := 1) hx hb hr (fun t ht hW => ⟨⟨_, (), rfl, rfl, by dsimp only; rw [ht]; exact zk_all hPo hk⟩, by rw [ht]; exact hz, fun q h1 h2 => by rw [ht]; exact zk_eq hk h1⟩) (fun q h => by cases h) d_L10_14
  · rw [zk_in hj, nt_n (by omega)]
    have hS : va_S (fun q => q ∈ [ou] ∨ s.heap.size ≤ q) s.heap s.heap [] := va_S.rf
    refine lv_aload_n hx hb d_L10_0 rfl (lv_at hl 2 rfl) ?_
    refine lv_iconst (v := 0) hx hb d_L10_1 (by decide) ?_
    refine lv_aload_n hx hb d_L10_2 rfl (lv_at hl 0 rfl) ?_
    refine lv_iload_n hx hb d_L10_3 rfl (lv_at hl 1 rfl) ?_
    refine zc_Vi (C := zc_X) S k_L38 (c_X22 l D cI cB x a0 a1 a2 a3 hnd v n mm hh j hj) rfl (xw_pre hKx hPx) ⟨Nat.le_of_ble_eq_true rfl, Nat.le_of_ble_eq_true rfl⟩ ⟨rfl, rfl⟩ rfl hl.1 rfl (Nat.le_of_ble_eq_true rfl) d_L10_4 ⟨Nat.zero_le _, Nat.zero_le _⟩ ?_
    refine lv_i2l hx hb d_L10_7 rfl ?_
    refine va_last hx hb hK hPo ((zd_of (L := [ou]) rfl (by simp)).weaken (fun _ _ _ h => Or.inl h)) hS 0 2 rfl rfl (vp_in_nI (n := 0) (N := 1) (by decide) (by decide)) d_L10_8 (fun H locs hPo hD hS => ?_)
    refine lv_goto (tgt := 15) hx hb d_L10_9 (by decide) ?_
    refine lv_iconst (v := 0) hx hb d_L10_15 (by decide) ?_
    refine W.widen (k := 1) (n := 6) (by omega) (by omega) ?_
    exact W.iret (v := 0) hx hb hr (fun t ht hW => ⟨⟨_, (), rfl, rfl, by dsimp only; rw [ht]; exact hPo⟩, hS.F ht⟩) hS.2.2 d_L10_16
set_option maxHeartbeats 4000000 in
set_option maxRecDepth 100000 in
theorem c_L11 (l : Launch) (hfl : l.flags = flags0) (D : va_G) (cI cB : ClassId) (x a0 a1 a2 a3 : Nat) (hnd : [x, a0, a1, a2, a3].Nodup) (v n : Nat → Int32) (mm hh : Nat → Int8) (cL : ClassId) (ou : Nat) (fo : Nat → Int64) (r : Int32) (sz : Nat) : Met l y_L11 (zw (.codeWith y_L11 b_L11 4 (some .int) [(0, 9, 12, 13)])) (rmv 9 1 6) (va_Pc [.ref x, .int r, .ref ou] (zl_B D (xT cI cB ++ [(cL, .long)]) (XW cI cB x a0 a1 a2 a3 v n mm hh ++ [(ou, .inl (cL, 1, .inr (.inl fo)))]) sz)) (va_Qi (fun z (_ : Unit) => z = zb (!k256 r)) (fun _ t => va_P D zC [(ou, .inl (cL, 1, .inr (.inl (if k256 r then vp_updL fo (0 : Int32).toNatClampNeg (zoc (mm (nt r)) (hh (nt r))).toInt64 else fo))))] t.heap) (fun q => q ∈ [ou] ∨ sz ≤ q)) 1 6 (fun q => q ∈ [ou] ∨ sz ≤ q) := by
  refine zm_metW (b := b_L11) [.ref x, .int r, .ref ou] zy_L (Nat.le_of_ble_eq_true rfl) ?_
  intro p e s m below meth c ls S hr hlk htab hl hB
  obtain ⟨hx, hb, hml, hown, hts⟩ := id S
  obtain ⟨rfl, hE, hN, hP, hK⟩ := hB
  have hl : lv_has ls 4 [(0, .ref x), (1, .int r), (2, .ref ou)] := hl
  have hPx : va_P D zC (XW cI cB x a0 a1 a2 a3 v n mm hh) s.heap := hP.sub [0, 1, 2, 3, 4] rfl
  have hPo : va_P D zC [(ou, .inl (cL, 1, .inr (.inl fo)))] s.heap := hP.sub [5] rfl
  have hKx : va_K D zC (xT cI cB) s := hK.sub [0, 1] rfl
  rcases k256_cases r with h9 | ⟨j, hj, rfl⟩
  · rw [k256_f h9]
    refine lv_aload_n hx hb d_L11_0 rfl (lv_at hl 2 rfl) ?_
    refine lv_iconst (v := 0) hx hb d_L11_1 (by decide) ?_
    refine lv_aload_n hx hb d_L11_2 rfl (lv_at hl 0 rfl) ?_
    refine lv_iload_n hx hb d_L11_3 rfl (lv_at hl 1 rfl) ?_
    refine zx_cat1 S k_L41 (x_X23 l hfl x r h9) rfl (zx_preV hE hKx hPx) ⟨Nat.le_of_ble_eq_true rfl, Nat.le_of_ble_eq_true rfl, Nat.le_of_ble_eq_true rfl, Nat.le_of_ble_eq_true rfl⟩ rfl hl.1 rfl (Nat.le_of_ble_eq_true rfl) d_L11_4 htab ⟨by decide, by decide⟩ (by decide) gx_l13 (zx_cast hE _).1 (fun H ax hz hk => ?_)
    refine lv_astore_n hx hb d_L11_12 rfl hl (by decide) rfl (fun ls hl => ?_)
    have hl : lv_has ls 4 [(3, .ref ax), (0, .ref x), (1, .int r), (2, .ref ou)] := hl
    refine lv_iconst (v := 1) hx hb d_L11_13 (by decide) ?_
    exact W.iret (v := 1) hx hb hr (fun t ht hW => ⟨⟨_, (), rfl, rfl, by dsimp only; rw [ht]; exact zk_all hPo hk⟩, by rw [ht]; exact hz, fun q h1 h2 => by rw [ht]; exact zk_eq hk h1⟩) (fun q h => by cases h) d_L11_14
  · rw [k256_t hj, nt_n (by omega)]
    have hS : va_S (fun q => q ∈ [ou] ∨ s.heap.size ≤ q) s.heap s.heap [] := va_S.rf
    refine lv_aload_n hx hb d_L11_0 rfl (lv_at hl 2 rfl) ?_
    refine lv_iconst (v := 0) hx hb d_L11_1 (by decide) ?_
    refine lv_aload_n hx hb d_L11_2 rfl (lv_at hl 0 rfl) ?_
    refine lv_iload_n hx hb d_L11_3 rfl (lv_at hl 1 rfl) ?_
    refine zc_Vi (C := zc_X) S k_L41 (c_X23 l D cI cB x a0 a1 a2 a3 hnd v n mm hh j hj) rfl (xw_pre hKx hPx) ⟨Nat.le_of_ble_eq_true rfl, Nat.le_of_ble_eq_true rfl⟩ ⟨rfl, rfl⟩ rfl hl.1 rfl (Nat.le_of_ble_eq_true rfl) d_L11_4 ⟨Nat.zero_le _, Nat.zero_le _⟩ ?_
    refine lv_i2l hx hb d_L11_7 rfl ?_
    refine va_last hx hb hK hPo ((zd_of (L := [ou]) rfl (by simp)).weaken (fun _ _ _ h => Or.inl h)) hS 0 2 rfl rfl (vp_in_nI (n := 0) (N := 1) (by decide) (by decide)) d_L11_8 (fun H locs hPo hD hS => ?_)
    refine lv_goto (tgt := 15) hx hb d_L11_9 (by decide) ?_
    refine lv_iconst (v := 0) hx hb d_L11_15 (by decide) ?_
    refine W.widen (k := 1) (n := 6) (by omega) (by omega) ?_
    exact W.iret (v := 0) hx hb hr (fun t ht hW => ⟨⟨_, (), rfl, rfl, by dsimp only; rw [ht]; exact hPo⟩, hS.F ht⟩) hS.2.2 d_L11_16
end
section
set_option maxHeartbeats 4000000 in
set_option maxRecDepth 100000 in
theorem c_X1 (l : Launch) (D : va_G) (x sz : Nat) : Met l y_X1 (zw (.code y_X1 b_X1 1 none)) (rmv 1 4 544) (va_Pc [.ref x] (fun U => U.heap.size = sz ∧ va_P D zC [(x, .inr (0, [.null, .null, .null, .null]))] U.heap ∧ va_K D zC [] U ∧ va_D (fun _ => True) [(x, .inr (0, [.null, .null, .null, .null]))])) (va_Qv (fun _ : Unit => True) (fun _ t => ∃ (cI cB : ClassId) (a0 a1 a2 a3 : Nat), va_P D zC (XW cI cB x a0 a1 a2 a3 (fun _ => 0) (fun _ => 0) (fun _ => 0) (fun _ => 0)) t.heap ∧ va_K D zC (xT cI cB) t ∧ va_D (va_A [(x, .inr (0, [.null, .null, .null, .null]))] sz) (XW cI cB x a0 a1 a2 a3 (fun _ => 0) (fun _ => 0) (fun _ => 0) (fun _ => 0))) (va_A [(x, .inr (0, [.null, .null, .null, .null]))] sz)) 4 544 (va_A [(x, .inr (0, [.null, .null, .null, .null]))] sz) := by
  refine zm_met (b := b_X1) [.ref x] zy_X (Nat.le_of_ble_eq_true rfl) ?_
  intro p e s m below meth c ls S hr hlk hnm hl hB
  obtain ⟨hx, hb, hml, hown, hts⟩ := id S
  obtain ⟨hsz, hP, hK, hD0⟩ := hB
  subst hsz
  have hD := hD0.self (sz := s.heap.size)
  generalize hAe : va_A [(x, .inr (0, [.null, .null, .null, .null]))] s.heap.size = A at hD ⊢
  have hA : ∀ q : Nat, s.heap.size ≤ q → A q := fun q h => by rw [← hAe]; exact Or.inr h
  have hS : va_S A s.heap s.heap [] := va_S.rf
  have hin : ∀ w ∈ u_ws zc_X zf_X 4, w ∈ zw (.code y_X1 b_X1 1 none) := fun w h => List.mem_cons_of_mem _ (zu_X w h)
  have hl : lv_has ls 1 [(0, .ref x)] := hl
  refine lv_aload_n hx hb d_X1_0 rfl (lv_at hl 0 rfl) ?_
  refine W.objInit hx hb hown (zw_at hts gx_objX) (zw_at hts gx_obji) (zw_at hts gx_objc) rfl (by rw [hml]; exact hl.1) rfl d_X1_1 (Nat.le_of_ble_eq_true rfl) (Nat.le_of_ble_eq_true rfl) ?_
  refine W.eq (g2 := F0 m 4 ls []) rfl ?_
  refine lv_aload_n hx hb d_X1_4 rfl (lv_at hl 0 rfl) ?_
  refine lv_bipush (v := 16) hx hb d_X1_5 (by decide) ?_
  refine va_newa (atype := .int) (ty := .int) (N' := 16) (a0 := (16, .inl (fun _ => 0))) hx hb (zw_at hts gx_int) rfl hK hP hD hS hA (fun _ => rfl) (by decide) (by decide) (by decide) (Nat.le_of_ble_eq_true rfl) (Nat.le_of_ble_eq_true rfl) d_X1_7 (fun q0 c0 H hK hP hD hS => ?_)
  have hP : va_P D zC [(x, .inr (0, [.null, .null, .null, .null])), (q0, .inl (c0, (16, .inl (fun _ => 0))))] H := hP
  have hD : va_D A [(x, .inr (0, [.null, .null, .null, .null])), (q0, .inl (c0, (16, .inl (fun _ => 0))))] := hD
  have hK : va_K D zC [(c0, .int)] s := hK
  refine W.widen (k := 1) (n := 16) (Nat.le_of_ble_eq_true rfl) (Nat.le_of_ble_eq_true rfl) ?_
  refine va_putF (D := D) (ci := 0) (v := .ref q0) (ty := .array .int) (C := zc_X) (T := zf_X) (N := 4) hx hb hts hin zt_X zo_X zn_X hown hK hP hD hS 0 rfl rfl 0 (by decide) (zw_at hts zl_X0) (fun _ h9 => h9) rfl hnm rfl (by decide +kernel) rfl rfl (Nat.le_of_ble_eq_true rfl) d_X1_9 (fun H locs hP hD hS => ?_)
  have hP : va_P D zC [(x, .inr (0, [.ref q0, .null, .null, .null])), (q0, .inl (c0, (16, .inl (fun _ => 0))))] H := hP
  have hD : va_D A [(x, .inr (0, [.ref q0, .null, .null, .null])), (q0, .inl (c0, (16, .inl (fun _ => 0))))] := hD
  refine lv_aload_n hx hb d_X1_12 rfl (lv_at hl 0 rfl) ?_
  refine lv_bipush (v := 16) hx hb d_X1_13 (by decide) ?_
  refine va_newa (atype := .int) (ty := .int) (N' := 16) (a0 := (16, .inl (fun _ => 0))) hx hb (zw_at hts gx_int) rfl hK hP hD hS hA (fun _ => rfl) (by decide) (by decide) (by decide) (Nat.le_of_ble_eq_true rfl) (Nat.le_of_ble_eq_true rfl) d_X1_15 (fun q1 c1 H hK hP hD hS => ?_)
  have hP : va_P D zC [(x, .inr (0, [.ref q0, .null, .null, .null])), (q0, .inl (c0, (16, .inl (fun _ => 0)))), (q1, .inl (c1, (16, .inl (fun _ => 0))))] H := hP
  have hD : va_D A [(x, .inr (0, [.ref q0, .null, .null, .null])), (q0, .inl (c0, (16, .inl (fun _ => 0)))), (q1, .inl (c1, (16, .inl (fun _ => 0))))] := hD
  have hK : va_K D zC [(c0, .int), (c1, .int)] s := hK
  refine W.widen (k := 2) (n := 32) (Nat.le_of_ble_eq_true rfl) (Nat.le_of_ble_eq_true rfl) ?_
  refine va_putF (D := D) (ci := 0) (v := .ref q1) (ty := .array .int) (C := zc_X) (T := zf_X) (N := 4) hx hb hts hin zt_X zo_X zn_X hown hK hP hD hS 0 rfl rfl 1 (by decide) (zw_at hts zl_X1) (fun _ h9 => h9) rfl hnm rfl (by decide +kernel) rfl rfl (Nat.le_of_ble_eq_true rfl) d_X1_17 (fun H locs hP hD hS => ?_)
  have hP : va_P D zC [(x, .inr (0, [.ref q0, .ref q1, .null, .null])), (q0, .inl (c0, (16, .inl (fun _ => 0)))), (q1, .inl (c1, (16, .inl (fun _ => 0))))] H := hP
  have hD : va_D A [(x, .inr (0, [.ref q0, .ref q1, .null, .null])), (q0, .inl (c0, (16, .inl (fun _ => 0)))), (q1, .inl (c1, (16, .inl (fun _ => 0))))] := hD
  refine lv_aload_n hx hb d_X1_20 rfl (lv_at hl 0 rfl) ?_
  refine lv_sipush (v := 256) hx hb d_X1_21 (by decide) ?_
  refine va_newa (atype := .byte) (ty := .byte) (N' := 256) (a0 := (256, .inl (fun j => ((fun _ => 0 : Nat → Int8) j).toInt32))) hx hb (zw_at hts gx_byte) rfl hK hP hD hS hA (fun _ => rfl) (by decide) (by decide) (by decide) (Nat.le_of_ble_eq_true rfl) (Nat.le_of_ble_eq_true rfl) d_X1_24 (fun q2 c2 H hK hP hD hS => ?_)
  have hP : va_P D zC [(x, .inr (0, [.ref q0, .ref q1, .null, .null])), (q0, .inl (c0, (16, .inl (fun _ => 0)))), (q1, .inl (c1, (16, .inl (fun _ => 0)))), (q2, .inl (c2, (256, .inl (fun j => ((fun _ => 0 : Nat → Int8) j).toInt32))))] H := hP
  have hD : va_D A [(x, .inr (0, [.ref q0, .ref q1, .null, .null])), (q0, .inl (c0, (16, .inl (fun _ => 0)))), (q1, .inl (c1, (16, .inl (fun _ => 0)))), (q2, .inl (c2, (256, .inl (fun j => ((fun _ => 0 : Nat → Int8) j).toInt32))))] := hD
  have hK : va_K D zC [(c0, .int), (c1, .int), (c2, .byte)] s := hK
  refine W.widen (k := 3) (n := 288) (Nat.le_of_ble_eq_true rfl) (Nat.le_of_ble_eq_true rfl) ?_
  refine va_putF (D := D) (ci := 0) (v := .ref q2) (ty := .array .byte) (C := zc_X) (T := zf_X) (N := 4) hx hb hts hin zt_X zo_X zn_X hown hK hP hD hS 0 rfl rfl 2 (by decide) (zw_at hts zl_X2) (fun _ h9 => h9) rfl hnm rfl (by decide +kernel) rfl rfl (Nat.le_of_ble_eq_true rfl) d_X1_26 (fun H locs hP hD hS => ?_)
  have hP : va_P D zC [(x, .inr (0, [.ref q0, .ref q1, .ref q2, .null])), (q0, .inl (c0, (16, .inl (fun _ => 0)))), (q1, .inl (c1, (16, .inl (fun _ => 0)))), (q2, .inl (c2, (256, .inl (fun j => ((fun _ => 0 : Nat → Int8) j).toInt32))))] H := hP
  have hD : va_D A [(x, .inr (0, [.ref q0, .ref q1, .ref q2, .null])), (q0, .inl (c0, (16, .inl (fun _ => 0)))), (q1, .inl (c1, (16, .inl (fun _ => 0)))), (q2, .inl (c2, (256, .inl (fun j => ((fun _ => 0 : Nat → Int8) j).toInt32))))] := hD
  refine lv_aload_n hx hb d_X1_29 rfl (lv_at hl 0 rfl) ?_
  refine lv_sipush (v := 256) hx hb d_X1_30 (by decide) ?_
  refine va_newa (atype := .byte) (ty := .byte) (N' := 256) (a0 := (256, .inl (fun j => ((fun _ => 0 : Nat → Int8) j).toInt32))) hx hb (zw_at hts gx_byte) rfl hK hP hD hS hA (fun _ => rfl) (by decide) (by decide) (by decide) (Nat.le_of_ble_eq_true rfl) (Nat.le_of_ble_eq_true rfl) d_X1_33 (fun q3 c3 H hK hP hD hS => ?_)
  have hP : va_P D zC [(x, .inr (0, [.ref q0, .ref q1, .ref q2, .null])), (q0, .inl (c0, (16, .inl (fun _ => 0)))), (q1, .inl (c1, (16, .inl (fun _ => 0)))), (q2, .inl (c2, (256, .inl (fun j => ((fun _ => 0 : Nat → Int8) j).toInt32)))), (q3, .inl (c3, (256, .inl (fun j => ((fun _ => 0 : Nat → Int8) j).toInt32))))] H := hP
  have hD : va_D A [(x, .inr (0, [.ref q0, .ref q1, .ref q2, .null])), (q0, .inl (c0, (16, .inl (fun _ => 0)))), (q1, .inl (c1, (16, .inl (fun _ => 0)))), (q2, .inl (c2, (256, .inl (fun j => ((fun _ => 0 : Nat → Int8) j).toInt32)))), (q3, .inl (c3, (256, .inl (fun j => ((fun _ => 0 : Nat → Int8) j).toInt32))))] := hD
  have hK : va_K D zC [(c0, .int), (c1, .int), (c2, .byte), (c3, .byte)] s := hK
  refine W.widen (k := 4) (n := 544) (Nat.le_of_ble_eq_true rfl) (Nat.le_of_ble_eq_true rfl) ?_
  refine va_putF (D := D) (ci := 0) (v := .ref q3) (ty := .array .byte) (C := zc_X) (T := zf_X) (N := 4) hx hb hts hin zt_X zo_X zn_X hown hK hP hD hS 0 rfl rfl 3 (by decide) (zw_at hts zl_X3) (fun _ h9 => h9) rfl hnm rfl (by decide +kernel) rfl rfl (Nat.le_of_ble_eq_true rfl) d_X1_35 (fun H locs hP hD hS => ?_)
  have hP : va_P D zC [(x, .inr (0, [.ref q0, .ref q1, .ref q2, .ref q3])), (q0, .inl (c0, (16, .inl (fun _ => 0)))), (q1, .inl (c1, (16, .inl (fun _ => 0)))), (q2, .inl (c2, (256, .inl (fun j => ((fun _ => 0 : Nat → Int8) j).toInt32)))), (q3, .inl (c3, (256, .inl (fun j => ((fun _ => 0 : Nat → Int8) j).toInt32))))] H := hP
  have hD : va_D A [(x, .inr (0, [.ref q0, .ref q1, .ref q2, .ref q3])), (q0, .inl (c0, (16, .inl (fun _ => 0)))), (q1, .inl (c1, (16, .inl (fun _ => 0)))), (q2, .inl (c2, (256, .inl (fun j => ((fun _ => 0 : Nat → Int8) j).toInt32)))), (q3, .inl (c3, (256, .inl (fun j => ((fun _ => 0 : Nat → Int8) j).toInt32))))] := hD
  obtain rfl : c0 = c1 := Option.some.inj ((hK.2 0 _ rfl).2.symm.trans (hK.2 1 _ rfl).2)
  obtain rfl : c2 = c3 := Option.some.inj ((hK.2 2 _ rfl).2.symm.trans (hK.2 3 _ rfl).2)
  exact W.vret hx hb hr (fun t ht hW => ⟨⟨(), rfl, trivial, _, _, q0, q1, q2, q3, by rw [ht]; exact hP, va_K.moved hW.alike (hK.sub [0, 2] rfl), hD⟩, hS.F ht⟩) hS.2.2 d_X1_38
theorem zr_z : zr (fun _ => 0) = fun _ => false := by
  funext j
  exact b_0 _
theorem zo_z : zo (fun _ => 0) = fun _ => false := by
  funext j
  exact BitVec.getLsbD_zero
set_option maxHeartbeats 4000000 in
set_option maxRecDepth 100000 in
theorem c_M1 (l : Launch) (D : va_G) (x sz : Nat) : Met l y_M1 (zw (.code y_M1 b_M1 1 none)) (rmv 1 6 5184) (va_Pc [.ref x] (fun U => U.heap.size = sz ∧ va_P D zC [(x, .inr (1, [.int 0, .null, .null, .null, .null, .null, .null]))] U.heap ∧ va_K D zC [] U ∧ va_D (fun _ => True) [(x, .inr (1, [.int 0, .null, .null, .null, .null, .null, .null]))])) (va_Qv (fun _ : Unit => True) (fun _ t => ∃ (cZ : ClassId) (b0 b1 b2 b3 b4 b5 : Nat), va_P D zC (MW cZ x b0 b1 b2 b3 b4 b5 0 (zr (fun _ => 0)) (zr (fun _ => 0)) (zo (fun _ => 0)) (zo (fun _ => 0)) (fun _ => false) (fun _ => false)) t.heap ∧ va_K D zC (mT cZ) t ∧ va_D (va_A [(x, .inr (1, [.int 0, .null, .null, .null, .null, .null, .null]))] sz) (MW cZ x b0 b1 b2 b3 b4 b5 0 (zr (fun _ => 0)) (zr (fun _ => 0)) (zo (fun _ => 0)) (zo (fun _ => 0)) (fun _ => false) (fun _ => false))) (va_A [(x, .inr (1, [.int 0, .null, .null, .null, .null, .null, .null]))] sz)) 6 5184 (va_A [(x, .inr (1, [.int 0, .null, .null, .null, .null, .null, .null]))] sz) := by
  refine zm_met (b := b_M1) [.ref x] zy_M (Nat.le_of_ble_eq_true rfl) ?_
  intro p e s m below meth c ls S hr hlk hnm hl hB
  obtain ⟨hx, hb, hml, hown, hts⟩ := id S
  obtain ⟨hsz, hP, hK, hD0⟩ := hB
  subst hsz
  have hD := hD0.self (sz := s.heap.size)
  generalize hAe : va_A [(x, .inr (1, [.int 0, .null, .null, .null, .null, .null, .null]))] s.heap.size = A at hD ⊢
  have hA : ∀ q : Nat, s.heap.size ≤ q → A q := fun q h => by rw [← hAe]; exact Or.inr h
  have hS : va_S A s.heap s.heap [] := va_S.rf
  have hin : ∀ w ∈ u_ws zc_M zf_M 7, w ∈ zw (.code y_M1 b_M1 1 none) := fun w h => List.mem_cons_of_mem _ (zu_M w h)
  have hl : lv_has ls 1 [(0, .ref x)] := hl
  refine lv_aload_n hx hb d_M1_0 rfl (lv_at hl 0 rfl) ?_
  refine W.objInit hx hb hown (zw_at hts gx_objM) (zw_at hts gx_obji) (zw_at hts gx_objc) rfl (by rw [hml]; exact hl.1) rfl d_M1_1 (Nat.le_of_ble_eq_true rfl) (Nat.le_of_ble_eq_true rfl) ?_
  refine W.eq (g2 := F0 m 4 ls []) rfl ?_
  refine lv_aload_n hx hb d_M1_4 rfl (lv_at hl 0 rfl) ?_
  refine lv_sipush (v := 512) hx hb d_M1_5 (by decide) ?_
  refine va_newa (atype := .boolean) (ty := .boolean) (N' := 512) (a0 := (512, .inl (fun j => zb ((fun _ => false : Nat → Bool) j)))) hx hb (zw_at hts gx_bool) rfl hK hP hD hS hA (fun _ => rfl) (by decide) (by decide) (by decide) (Nat.le_of_ble_eq_true rfl) (Nat.le_of_ble_eq_true rfl) d_M1_8 (fun q1 c1 H hK hP hD hS => ?_)
  have hP : va_P D zC [(x, .inr (1, [.int 0, .null, .null, .null, .null, .null, .null])), (q1, .inl (c1, (512, .inl (fun j => zb ((fun _ => false : Nat → Bool) j)))))] H := hP
  have hD : va_D A [(x, .inr (1, [.int 0, .null, .null, .null, .null, .null, .null])), (q1, .inl (c1, (512, .inl (fun j => zb ((fun _ => false : Nat → Bool) j)))))] := hD
  have hK : va_K D zC [(c1, .boolean)] s := hK
  refine W.widen (k := 1) (n := 512) (Nat.le_of_ble_eq_true rfl) (Nat.le_of_ble_eq_true rfl) ?_
  refine va_putF (D := D) (ci := 1) (v := .ref q1) (ty := .array .boolean) (C := zc_M) (T := zf_M) (N := 7) hx hb hts hin zt_M zo_M zn_M hown hK hP hD hS 0 rfl rfl 1 (by decide) (zw_at hts zl_M1) (fun _ h9 => h9) rfl hnm rfl (by decide +kernel) rfl rfl (Nat.le_of_ble_eq_true rfl) d_M1_10 (fun H locs hP hD hS => ?_)
  have hP : va_P D zC [(x, .inr (1, [.int 0, .ref q1, .null, .null, .null, .null, .null])), (q1, .inl (c1, (512, .inl (fun j => zb ((fun _ => false : Nat → Bool) j)))))] H := hP
  have hD : va_D A [(x, .inr (1, [.int 0, .ref q1, .null, .null, .null, .null, .null])), (q1, .inl (c1, (512, .inl (fun j => zb ((fun _ => false : Nat → Bool) j)))))] := hD
  refine lv_aload_n hx hb d_M1_13 rfl (lv_at hl 0 rfl) ?_
  refine lv_sipush (v := 512) hx hb d_M1_14 (by decide) ?_
  refine va_newa (atype := .boolean) (ty := .boolean) (N' := 512) (a0 := (512, .inl (fun j => zb ((fun _ => false : Nat → Bool) j)))) hx hb (zw_at hts gx_bool) rfl hK hP hD hS hA (fun _ => rfl) (by decide) (by decide) (by decide) (Nat.le_of_ble_eq_true rfl) (Nat.le_of_ble_eq_true rfl) d_M1_17 (fun q2 c2 H hK hP hD hS => ?_)
  have hP : va_P D zC [(x, .inr (1, [.int 0, .ref q1, .null, .null, .null, .null, .null])), (q1, .inl (c1, (512, .inl (fun j => zb ((fun _ => false : Nat → Bool) j))))), (q2, .inl (c2, (512, .inl (fun j => zb ((fun _ => false : Nat → Bool) j)))))] H := hP
  have hD : va_D A [(x, .inr (1, [.int 0, .ref q1, .null, .null, .null, .null, .null])), (q1, .inl (c1, (512, .inl (fun j => zb ((fun _ => false : Nat → Bool) j))))), (q2, .inl (c2, (512, .inl (fun j => zb ((fun _ => false : Nat → Bool) j)))))] := hD
  have hK : va_K D zC [(c1, .boolean), (c2, .boolean)] s := hK
  refine W.widen (k := 2) (n := 1024) (Nat.le_of_ble_eq_true rfl) (Nat.le_of_ble_eq_true rfl) ?_
  refine va_putF (D := D) (ci := 1) (v := .ref q2) (ty := .array .boolean) (C := zc_M) (T := zf_M) (N := 7) hx hb hts hin zt_M zo_M zn_M hown hK hP hD hS 0 rfl rfl 2 (by decide) (zw_at hts zl_M2) (fun _ h9 => h9) rfl hnm rfl (by decide +kernel) rfl rfl (Nat.le_of_ble_eq_true rfl) d_M1_19 (fun H locs hP hD hS => ?_)
  have hP : va_P D zC [(x, .inr (1, [.int 0, .ref q1, .ref q2, .null, .null, .null, .null])), (q1, .inl (c1, (512, .inl (fun j => zb ((fun _ => false : Nat → Bool) j))))), (q2, .inl (c2, (512, .inl (fun j => zb ((fun _ => false : Nat → Bool) j)))))] H := hP
  have hD : va_D A [(x, .inr (1, [.int 0, .ref q1, .ref q2, .null, .null, .null, .null])), (q1, .inl (c1, (512, .inl (fun j => zb ((fun _ => false : Nat → Bool) j))))), (q2, .inl (c2, (512, .inl (fun j => zb ((fun _ => false : Nat → Bool) j)))))] := hD
  refine lv_aload_n hx hb d_M1_22 rfl (lv_at hl 0 rfl) ?_
  refine lv_sipush (v := 2048) hx hb d_M1_23 (by decide) ?_
  refine va_newa (atype := .boolean) (ty := .boolean) (N' := 2048) (a0 := (2048, .inl (fun j => zb ((fun _ => false : Nat → Bool) j)))) hx hb (zw_at hts gx_bool) rfl hK hP hD hS hA (fun _ => rfl) (by decide) (by decide) (by decide) (Nat.le_of_ble_eq_true rfl) (Nat.le_of_ble_eq_true rfl) d_M1_26 (fun q3 c3 H hK hP hD hS => ?_)
  have hP : va_P D zC [(x, .inr (1, [.int 0, .ref q1, .ref q2, .null, .null, .null, .null])), (q1, .inl (c1, (512, .inl (fun j => zb ((fun _ => false : Nat → Bool) j))))), (q2, .inl (c2, (512, .inl (fun j => zb ((fun _ => false : Nat → Bool) j))))), (q3, .inl (c3, (2048, .inl (fun j => zb ((fun _ => false : Nat → Bool) j)))))] H := hP
  have hD : va_D A [(x, .inr (1, [.int 0, .ref q1, .ref q2, .null, .null, .null, .null])), (q1, .inl (c1, (512, .inl (fun j => zb ((fun _ => false : Nat → Bool) j))))), (q2, .inl (c2, (512, .inl (fun j => zb ((fun _ => false : Nat → Bool) j))))), (q3, .inl (c3, (2048, .inl (fun j => zb ((fun _ => false : Nat → Bool) j)))))] := hD
  have hK : va_K D zC [(c1, .boolean), (c2, .boolean), (c3, .boolean)] s := hK
  refine W.widen (k := 3) (n := 3072) (Nat.le_of_ble_eq_true rfl) (Nat.le_of_ble_eq_true rfl) ?_
  refine va_putF (D := D) (ci := 1) (v := .ref q3) (ty := .array .boolean) (C := zc_M) (T := zf_M) (N := 7) hx hb hts hin zt_M zo_M zn_M hown hK hP hD hS 0 rfl rfl 3 (by decide) (zw_at hts zl_M3) (fun _ h9 => h9) rfl hnm rfl (by decide +kernel) rfl rfl (Nat.le_of_ble_eq_true rfl) d_M1_28 (fun H locs hP hD hS => ?_)
  have hP : va_P D zC [(x, .inr (1, [.int 0, .ref q1, .ref q2, .ref q3, .null, .null, .null])), (q1, .inl (c1, (512, .inl (fun j => zb ((fun _ => false : Nat → Bool) j))))), (q2, .inl (c2, (512, .inl (fun j => zb ((fun _ => false : Nat → Bool) j))))), (q3, .inl (c3, (2048, .inl (fun j => zb ((fun _ => false : Nat → Bool) j)))))] H := hP
  have hD : va_D A [(x, .inr (1, [.int 0, .ref q1, .ref q2, .ref q3, .null, .null, .null])), (q1, .inl (c1, (512, .inl (fun j => zb ((fun _ => false : Nat → Bool) j))))), (q2, .inl (c2, (512, .inl (fun j => zb ((fun _ => false : Nat → Bool) j))))), (q3, .inl (c3, (2048, .inl (fun j => zb ((fun _ => false : Nat → Bool) j)))))] := hD
  refine lv_aload_n hx hb d_M1_31 rfl (lv_at hl 0 rfl) ?_
  refine lv_sipush (v := 2048) hx hb d_M1_32 (by decide) ?_
  refine va_newa (atype := .boolean) (ty := .boolean) (N' := 2048) (a0 := (2048, .inl (fun j => zb ((fun _ => false : Nat → Bool) j)))) hx hb (zw_at hts gx_bool) rfl hK hP hD hS hA (fun _ => rfl) (by decide) (by decide) (by decide) (Nat.le_of_ble_eq_true rfl) (Nat.le_of_ble_eq_true rfl) d_M1_35 (fun q4 c4 H hK hP hD hS => ?_)
  have hP : va_P D zC [(x, .inr (1, [.int 0, .ref q1, .ref q2, .ref q3, .null, .null, .null])), (q1, .inl (c1, (512, .inl (fun j => zb ((fun _ => false : Nat → Bool) j))))), (q2, .inl (c2, (512, .inl (fun j => zb ((fun _ => false : Nat → Bool) j))))), (q3, .inl (c3, (2048, .inl (fun j => zb ((fun _ => false : Nat → Bool) j))))), (q4, .inl (c4, (2048, .inl (fun j => zb ((fun _ => false : Nat → Bool) j)))))] H := hP
  have hD : va_D A [(x, .inr (1, [.int 0, .ref q1, .ref q2, .ref q3, .null, .null, .null])), (q1, .inl (c1, (512, .inl (fun j => zb ((fun _ => false : Nat → Bool) j))))), (q2, .inl (c2, (512, .inl (fun j => zb ((fun _ => false : Nat → Bool) j))))), (q3, .inl (c3, (2048, .inl (fun j => zb ((fun _ => false : Nat → Bool) j))))), (q4, .inl (c4, (2048, .inl (fun j => zb ((fun _ => false : Nat → Bool) j)))))] := hD
  have hK : va_K D zC [(c1, .boolean), (c2, .boolean), (c3, .boolean), (c4, .boolean)] s := hK
  refine W.widen (k := 4) (n := 5120) (Nat.le_of_ble_eq_true rfl) (Nat.le_of_ble_eq_true rfl) ?_
  refine va_putF (D := D) (ci := 1) (v := .ref q4) (ty := .array .boolean) (C := zc_M) (T := zf_M) (N := 7) hx hb hts hin zt_M zo_M zn_M hown hK hP hD hS 0 rfl rfl 4 (by decide) (zw_at hts zl_M4) (fun _ h9 => h9) rfl hnm rfl (by decide +kernel) rfl rfl (Nat.le_of_ble_eq_true rfl) d_M1_37 (fun H locs hP hD hS => ?_)
  have hP : va_P D zC [(x, .inr (1, [.int 0, .ref q1, .ref q2, .ref q3, .ref q4, .null, .null])), (q1, .inl (c1, (512, .inl (fun j => zb ((fun _ => false : Nat → Bool) j))))), (q2, .inl (c2, (512, .inl (fun j => zb ((fun _ => false : Nat → Bool) j))))), (q3, .inl (c3, (2048, .inl (fun j => zb ((fun _ => false : Nat → Bool) j))))), (q4, .inl (c4, (2048, .inl (fun j => zb ((fun _ => false : Nat → Bool) j)))))] H := hP
  have hD : va_D A [(x, .inr (1, [.int 0, .ref q1, .ref q2, .ref q3, .ref q4, .null, .null])), (q1, .inl (c1, (512, .inl (fun j => zb ((fun _ => false : Nat → Bool) j))))), (q2, .inl (c2, (512, .inl (fun j => zb ((fun _ => false : Nat → Bool) j))))), (q3, .inl (c3, (2048, .inl (fun j => zb ((fun _ => false : Nat → Bool) j))))), (q4, .inl (c4, (2048, .inl (fun j => zb ((fun _ => false : Nat → Bool) j)))))] := hD
  refine lv_aload_n hx hb d_M1_40 rfl (lv_at hl 0 rfl) ?_
  refine lv_bipush (v := 32) hx hb d_M1_41 (by decide) ?_
  refine va_newa (atype := .boolean) (ty := .boolean) (N' := 32) (a0 := (32, .inl (fun j => zb ((fun _ => false : Nat → Bool) j)))) hx hb (zw_at hts gx_bool) rfl hK hP hD hS hA (fun _ => rfl) (by decide) (by decide) (by decide) (Nat.le_of_ble_eq_true rfl) (Nat.le_of_ble_eq_true rfl) d_M1_43 (fun q5 c5 H hK hP hD hS => ?_)
  have hP : va_P D zC [(x, .inr (1, [.int 0, .ref q1, .ref q2, .ref q3, .ref q4, .null, .null])), (q1, .inl (c1, (512, .inl (fun j => zb ((fun _ => false : Nat → Bool) j))))), (q2, .inl (c2, (512, .inl (fun j => zb ((fun _ => false : Nat → Bool) j))))), (q3, .inl (c3, (2048, .inl (fun j => zb ((fun _ => false : Nat → Bool) j))))), (q4, .inl (c4, (2048, .inl (fun j => zb ((fun _ => false : Nat → Bool) j))))), (q5, .inl (c5, (32, .inl (fun j => zb ((fun _ => false : Nat → Bool) j)))))] H := hP
  have hD : va_D A [(x, .inr (1, [.int 0, .ref q1, .ref q2, .ref q3, .ref q4, .null, .null])), (q1, .inl (c1, (512, .inl (fun j => zb ((fun _ => false : Nat → Bool) j))))), (q2, .inl (c2, (512, .inl (fun j => zb ((fun _ => false : Nat → Bool) j))))), (q3, .inl (c3, (2048, .inl (fun j => zb ((fun _ => false : Nat → Bool) j))))), (q4, .inl (c4, (2048, .inl (fun j => zb ((fun _ => false : Nat → Bool) j))))), (q5, .inl (c5, (32, .inl (fun j => zb ((fun _ => false : Nat → Bool) j)))))] := hD
  have hK : va_K D zC [(c1, .boolean), (c2, .boolean), (c3, .boolean), (c4, .boolean), (c5, .boolean)] s := hK
  refine W.widen (k := 5) (n := 5152) (Nat.le_of_ble_eq_true rfl) (Nat.le_of_ble_eq_true rfl) ?_
  refine va_putF (D := D) (ci := 1) (v := .ref q5) (ty := .array .boolean) (C := zc_M) (T := zf_M) (N := 7) hx hb hts hin zt_M zo_M zn_M hown hK hP hD hS 0 rfl rfl 5 (by decide) (zw_at hts zl_M5) (fun _ h9 => h9) rfl hnm rfl (by decide +kernel) rfl rfl (Nat.le_of_ble_eq_true rfl) d_M1_45 (fun H locs hP hD hS => ?_)
  have hP : va_P D zC [(x, .inr (1, [.int 0, .ref q1, .ref q2, .ref q3, .ref q4, .ref q5, .null])), (q1, .inl (c1, (512, .inl (fun j => zb ((fun _ => false : Nat → Bool) j))))), (q2, .inl (c2, (512, .inl (fun j => zb ((fun _ => false : Nat → Bool) j))))), (q3, .inl (c3, (2048, .inl (fun j => zb ((fun _ => false : Nat → Bool) j))))), (q4, .inl (c4, (2048, .inl (fun j => zb ((fun _ => false : Nat → Bool) j))))), (q5, .inl (c5, (32, .inl (fun j => zb ((fun _ => false : Nat → Bool) j)))))] H := hP
  have hD : va_D A [(x, .inr (1, [.int 0, .ref q1, .ref q2, .ref q3, .ref q4, .ref q5, .null])), (q1, .inl (c1, (512, .inl (fun j => zb ((fun _ => false : Nat → Bool) j))))), (q2, .inl (c2, (512, .inl (fun j => zb ((fun _ => false : Nat → Bool) j))))), (q3, .inl (c3, (2048, .inl (fun j => zb ((fun _ => false : Nat → Bool) j))))), (q4, .inl (c4, (2048, .inl (fun j => zb ((fun _ => false : Nat → Bool) j))))), (q5, .inl (c5, (32, .inl (fun j => zb ((fun _ => false : Nat → Bool) j)))))] := hD
  refine lv_aload_n hx hb d_M1_48 rfl (lv_at hl 0 rfl) ?_
  refine lv_bipush (v := 32) hx hb d_M1_49 (by decide) ?_
  refine va_newa (atype := .boolean) (ty := .boolean) (N' := 32) (a0 := (32, .inl (fun j => zb ((fun _ => false : Nat → Bool) j)))) hx hb (zw_at hts gx_bool) rfl hK hP hD hS hA (fun _ => rfl) (by decide) (by decide) (by decide) (Nat.le_of_ble_eq_true rfl) (Nat.le_of_ble_eq_true rfl) d_M1_51 (fun q6 c6 H hK hP hD hS => ?_)
  have hP : va_P D zC [(x, .inr (1, [.int 0, .ref q1, .ref q2, .ref q3, .ref q4, .ref q5, .null])), (q1, .inl (c1, (512, .inl (fun j => zb ((fun _ => false : Nat → Bool) j))))), (q2, .inl (c2, (512, .inl (fun j => zb ((fun _ => false : Nat → Bool) j))))), (q3, .inl (c3, (2048, .inl (fun j => zb ((fun _ => false : Nat → Bool) j))))), (q4, .inl (c4, (2048, .inl (fun j => zb ((fun _ => false : Nat → Bool) j))))), (q5, .inl (c5, (32, .inl (fun j => zb ((fun _ => false : Nat → Bool) j))))), (q6, .inl (c6, (32, .inl (fun j => zb ((fun _ => false : Nat → Bool) j)))))] H := hP
  have hD : va_D A [(x, .inr (1, [.int 0, .ref q1, .ref q2, .ref q3, .ref q4, .ref q5, .null])), (q1, .inl (c1, (512, .inl (fun j => zb ((fun _ => false : Nat → Bool) j))))), (q2, .inl (c2, (512, .inl (fun j => zb ((fun _ => false : Nat → Bool) j))))), (q3, .inl (c3, (2048, .inl (fun j => zb ((fun _ => false : Nat → Bool) j))))), (q4, .inl (c4, (2048, .inl (fun j => zb ((fun _ => false : Nat → Bool) j))))), (q5, .inl (c5, (32, .inl (fun j => zb ((fun _ => false : Nat → Bool) j))))), (q6, .inl (c6, (32, .inl (fun j => zb ((fun _ => false : Nat → Bool) j)))))] := hD
  have hK : va_K D zC [(c1, .boolean), (c2, .boolean), (c3, .boolean), (c4, .boolean), (c5, .boolean), (c6, .boolean)] s := hK
  refine W.widen (k := 6) (n := 5184) (Nat.le_of_ble_eq_true rfl) (Nat.le_of_ble_eq_true rfl) ?_
  refine va_putF (D := D) (ci := 1) (v := .ref q6) (ty := .array .boolean) (C := zc_M) (T := zf_M) (N := 7) hx hb hts hin zt_M zo_M zn_M hown hK hP hD hS 0 rfl rfl 6 (by decide) (zw_at hts zl_M6) (fun _ h9 => h9) rfl hnm rfl (by decide +kernel) rfl rfl (Nat.le_of_ble_eq_true rfl) d_M1_53 (fun H locs hP hD hS => ?_)
  have hP : va_P D zC [(x, .inr (1, [.int 0, .ref q1, .ref q2, .ref q3, .ref q4, .ref q5, .ref q6])), (q1, .inl (c1, (512, .inl (fun j => zb ((fun _ => false : Nat → Bool) j))))), (q2, .inl (c2, (512, .inl (fun j => zb ((fun _ => false : Nat → Bool) j))))), (q3, .inl (c3, (2048, .inl (fun j => zb ((fun _ => false : Nat → Bool) j))))), (q4, .inl (c4, (2048, .inl (fun j => zb ((fun _ => false : Nat → Bool) j))))), (q5, .inl (c5, (32, .inl (fun j => zb ((fun _ => false : Nat → Bool) j))))), (q6, .inl (c6, (32, .inl (fun j => zb ((fun _ => false : Nat → Bool) j)))))] H := hP
  have hD : va_D A [(x, .inr (1, [.int 0, .ref q1, .ref q2, .ref q3, .ref q4, .ref q5, .ref q6])), (q1, .inl (c1, (512, .inl (fun j => zb ((fun _ => false : Nat → Bool) j))))), (q2, .inl (c2, (512, .inl (fun j => zb ((fun _ => false : Nat → Bool) j))))), (q3, .inl (c3, (2048, .inl (fun j => zb ((fun _ => false : Nat → Bool) j))))), (q4, .inl (c4, (2048, .inl (fun j => zb ((fun _ => false : Nat → Bool) j))))), (q5, .inl (c5, (32, .inl (fun j => zb ((fun _ => false : Nat → Bool) j))))), (q6, .inl (c6, (32, .inl (fun j => zb ((fun _ => false : Nat → Bool) j)))))] := hD
  obtain rfl : c1 = c2 := Option.some.inj ((hK.2 0 _ rfl).2.symm.trans (hK.2 1 _ rfl).2)
  obtain rfl : c1 = c3 := Option.some.inj ((hK.2 0 _ rfl).2.symm.trans (hK.2 2 _ rfl).2)
  obtain rfl : c1 = c4 := Option.some.inj ((hK.2 0 _ rfl).2.symm.trans (hK.2 3 _ rfl).2)
  obtain rfl : c1 = c5 := Option.some.inj ((hK.2 0 _ rfl).2.symm.trans (hK.2 4 _ rfl).2)
  obtain rfl : c1 = c6 := Option.some.inj ((hK.2 0 _ rfl).2.symm.trans (hK.2 5 _ rfl).2)
  exact W.vret hx hb hr (fun t ht hW => ⟨⟨(), rfl, trivial, _, q1, q2, q3, q4, q5, q6, by rw [ht, zr_z, zo_z]; exact hP, va_K.moved hW.alike (hK.sub [0] rfl), by rw [zr_z, zo_z]; exact hD⟩, hS.F ht⟩) hS.2.2 d_M1_56
end
section
/-! THE CLAIM OUT OF ONE WALK OF THE LAW'S BODY. Your part is whole_start (and what it stands on); all else here is the same for every law, but numbers. -/
def R_law : String := "ShadowMathLaw"
def lw_P (b : Addr) (xs : List Int32) (args : Array Value) (s : State) : Prop := args = #[.ref b] ∧ s.IntsAt b xs ∧ xs.length ≤ 2560 ∧ (Jvm.Cond.and given_1 narrow_1).before args s = true
def lw_Q (_ : Array Value) (s : State) (o : Outcome) (t : State) : Prop := o = .returned (some (.int 1)) ∧ Framed s o t [] 1040 13950
def lw_Z (below : List Frame) (a : Array Value) (s : State) : State → Prop := fun t => ∃ o, t.status = .running ∧ Ended t below o ∧ lw_Q a s o t
/-- the law's own end, with 1 on the stack, nothing written that was there before, its room as the claim has it -/
theorem lw_ret {p : Program} {l : Launch} {e : Env} {s : State} {m : MethodId} {below : List Frame} {meth : Method} {c : Code} {b : Nat} (hx : p.tables.exec = Jvm.exec) (hb : c.code = code) (hr : meth.sig.returnType = ret) (hlocks : meth.locks = false) {pc : Nat} {H : Heap} {ls : Array Slot} (hdg : decode code pc = .ok (.ireturn, 1)) : W p l e room_1 s m #[Value.ref b] below meth c H [] 1040 13950 (lw_Z below #[Value.ref b] s) (F0 m pc ls [.int 1]) := by
  intro T hT X
  obtain ⟨fs, hret, hrun, hended, hW, hframe⟩ := X.leave (v := some (.int 1)) (hlocks := hlocks) (fun h => by rw [hr] at h; cases h)
  have hmeth' : T.vm.method? m = some meth := X.method'
  refine ⟨T.setFrames fs, ?_, .returned (some (.int 1)), hrun, hended, rfl, ⟨_, rfl⟩, hW, hframe⟩
  jvm_step X.here [X.here.top, hx, hb, hdg, hmeth', hr, ret, narrow_b1]
  (try refine ⟨rfl, ?_⟩); (try refine ⟨rfl, ?_⟩)
  first | (intro acts; rw [hret _ acts rfl rfl rfl]) | rw [hret _ _ rfl rfl rfl]
  exact Steps.refl _
/-- what holds at the law's entry: the machine, the code, the tables' words (any of lw_tbl by 'hts w (by decide +kernel)'), the script of L ints xs at the cell b, what the Statement gives of the start (any of its parts by flat_of_before) -/
def lw_At (p : Program) (s : State) (m : MethodId) (meth : Method) (c : Code) (b L : Nat) (xs : Nat → Int32) : Prop :=
  p.tables.exec = Jvm.exec ∧ c.code = code ∧ meth.sig.returnType = ret ∧ c.maxLocals = 7 ∧ s.vm.findClass R_law = some m.cls ∧ (∀ w ∈ lw_tbl, w.before #[Value.ref b] s = true) ∧ va_X b L xs s s.heap ∧ b < s.heap.size ∧ meth.locks = false ∧ (Jvm.Cond.and given_1 narrow_1).before #[Value.ref b] s = true

theorem zd_nd {A : Nat → Prop} {ws : va_W} {L : List Nat} (hD : va_D A ws) (hL : ws.map (fun q => q.1) = L) : L.Nodup := by
  subst hL
  refine List.pairwise_iff_getElem.mpr (fun i j hi hj hij h => ?_)
  rw [List.getElem_map, List.getElem_map] at h
  rw [List.length_map] at hi hj
  have e1 : ws[i]? = some ws[i] := List.getElem?_eq_getElem hi
  have e2 : ws[j]? = some ws[j] := List.getElem?_eq_getElem hj
  have h3 := hD.1 i j _ _ e1 e2 h
  omega
theorem zd_A {A : Nat → Prop} {ws : va_W} {L : List Nat} (hD : va_D A ws) (hL : ws.map (fun q => q.1) = L) : ∀ q ∈ L, A q := by
  subst hL
  intro q hq
  obtain ⟨z, hz, rfl⟩ := List.mem_map.mp hq
  obtain ⟨k, hk⟩ := List.getElem?_of_mem hz
  exact hD.2 k z hk
theorem law_D {s : State} {b : Nat} (hts : ∀ w ∈ lw_tbl, w.before #[Value.ref b] s = true) : ∃ D : va_G, va_K D zC [] s := by
  obtain ⟨cX, iX, kX⟩ := u_known (ws := lw_tbl) (C := zc_X) (T := zf_X) (N := 4) (n := 4) hts (fun w h => gw_sub _ (zu_X w h)) (hts _ (gw_sub _ gx_inX))
  obtain ⟨cM, iM, kM⟩ := u_known (ws := lw_tbl) (C := zc_M) (T := zf_M) (N := 7) (n := 7) hts (fun w h => gw_sub _ (zu_M w h)) (hts _ (gw_sub _ gx_inM))
  refine ⟨(fun k => if k = 0 then cX else cM, fun k => if k = 0 then iX else iM), fun c q hq => ?_, fun k q hk => by cases hk⟩
  match c, hq with
  | 0, hq => cases hq; exact kX
  | 1, hq => cases hq; exact kM
theorem law_E {s : State} {b : Nat} (hts : ∀ w ∈ lw_tbl, w.before #[Value.ref b] s = true) (hgv : (Jvm.Cond.and given_1 narrow_1).before #[Value.ref b] s = true) : zx_E s := by
  have hs := flat_of_before _ hgv
  intro w hw
  have h1 : w.before #[Value.ref b] s = true := by
    have h2 : w ∈ lw_tbl ∨ w ∈ flatC (Jvm.Cond.and given_1 narrow_1) := by
      revert hw
      revert w
      decide +kernel
    rcases h2 with h | h
    · exact hts w h
    · exact hs w h
  simp only [zx_W, List.mem_cons, List.not_mem_nil, or_false] at hw
  rcases hw with rfl | rfl | rfl | rfl | rfl | rfl | rfl | rfl | rfl <;> exact h1
theorem law_N {s : State} {b : Nat} (hgv : (Jvm.Cond.and given_1 narrow_1).before #[Value.ref b] s = true) : va_Nc zx_io zx_ia s := va_Nc.of (flat_of_before _ hgv (.not (.castable zx_io zx_ia)) (by decide +kernel))
theorem zl_pre {s : State} {H : Heap} {D : va_G} {tys : List (ClassId × FieldType)} {ws : va_W} {locs : List Loc} {As : List Value} (hE : zx_E s) (hN : va_Nc zx_io zx_ia s) (hS : va_S (fun q => s.heap.size ≤ q) s.heap H locs) (hP : va_P D zC ws H) (hK : va_K D zC tys s) : PreS s H (va_Pc As (zl_B D tys ws H.size)) As :=
  ⟨zl_blind, fun U hU hW => ⟨rfl, by rw [hU], zx_moved hE hW (fun a cell h => by
    have hlt := (Array.getElem?_eq_some_iff.mp h).1
    rw [hU, hS.2.1 a hlt (by omega)]; exact h), va_Nc.moved hW.alike hN, by rw [hU]; exact hP, va_K.moved hW.alike hK⟩⟩
theorem zi_inc5 (k : Nat) : nI k + Int32.ofInt 5 = nI (k + 5) := nI_add k 5
theorem zl_cmp {L k : Nat} (hL : L ≤ 2560) (hk : 5 * k ≤ L) : (nI L - 5 < nI (5 * k)) ↔ L < 5 * k + 5 := by
  rw [Int32.lt_iff_toInt_lt, show (5 : Int32) = nI 5 from rfl, pk_sub_toInt (by omega) (by omega), nI_toInt (by omega)]
  omega
theorem zq_eq {fo : Nat → Int64} {g : Bool} {y : Int32} (h : g = true) : (if g then vp_updL fo (0 : Int32).toNatClampNeg y.toInt64 else fo) (0 : Int32).toNatClampNeg = (if g then y else 0).toInt64 := by
  subst h
  rw [if_pos rfl, if_pos rfl]
  exact pk_uLs
section ZSL
variable {p : Program} {l : Launch} {e : Env} {R : Room} {s : State} {m : MethodId} {args : Array Value} {below : List Frame} {meth : Method} {c : Code} {H : Heap} {locs : List Loc} {cells slots : Nat} {Q : State → Prop}
theorem zs_ld {cc : ByteArray} {b L pc j : Nat} {xs : Nat → Int32} {ls : Array Slot} {rest : List Value} {A : Nat → Prop} {H0 : Heap} (hx : p.tables.exec = Jvm.exec) (hb : c.code = cc) (hX : va_X b L xs s H0) (hbl : b < H0.size) (hbA : ¬ A b) (hS : va_S A H0 H locs) (hj : j < L) (hL : L < 2 ^ 31) (hdg : decode cc pc = .ok (.iaload, 1))
    (kk : W p l e R s m args below meth c H locs cells slots Q (F0 m (pc + 1) ls (.int (xs j) :: rest))) : W p l e R s m args below meth c H locs cells slots Q (F0 m pc ls (.int (nI j) :: .ref b :: rest)) := by
  refine va_sld hx hb hX hbl hbA hS (vp_in_nI hj hL) hdg ?_
  rw [nI_clamp (by omega)]
  exact kk
end ZSL
end
section
set_option maxHeartbeats 8000000 in
set_option maxRecDepth 100000 in
theorem whole_start {p : Program} {e : Env} {s : State} {m : MethodId} {below : List Frame} {meth : Method} {c : Code} (l : Launch) (hfl : l.flags = flags0) {b L : Nat} {xs : Nat → Int32} (hL : L ≤ 2560) (C0 : lw_At p s m meth c b L xs) : W p l e room_1 s m #[Value.ref b] below meth c s.heap [] 0 0 (lw_Z below #[Value.ref b] s) (entryFrame m ([Value.ref b] : List Value).toArray 7) := by
  obtain ⟨hx, hb, hr, hml, hown, hts0, hX0, hbl, hlk, hgv⟩ := C0
  have hts : ∀ w ∈ zw (Cond.initialized "ShadowMathLaw"), w.before #[Value.ref b] s = true := fun w hw => hts0 w (by rcases List.mem_cons.mp hw with rfl | h; exact List.mem_of_getElem? (i := 16) (by decide +kernel); exact gw_sub _ h)
  have S : CallFix p m c code 7 s #[Value.ref b] (zw (Cond.initialized "ShadowMathLaw")) "ShadowMathLaw" := ⟨hx, hb, hml, hown, hts⟩
  obtain ⟨D, hK⟩ := law_D hts0
  have hE := law_E hts0 hgv
  have hN := law_N hgv
  have hA : ∀ q : Nat, s.heap.size ≤ q → (fun q => s.heap.size ≤ q) q := fun q h => h
  have hS : va_S (fun q => s.heap.size ≤ q) s.heap s.heap [] := va_S.rf
  have hbA : ¬ (fun q => s.heap.size ≤ q) b := fun h => absurd hbl (Nat.not_lt.mpr h)
  have hP : va_P D zC [] s.heap := fun k q h => by cases h
  have hD : va_D (fun q => s.heap.size ≤ q) [] := ⟨fun i j x y h => (by cases h), fun k q h => (by cases h)⟩
  have hl := lv_entry ([.ref b]) (n := 7) (Nat.le_of_ble_eq_true rfl)
  rw [lg_entry_eq]
  generalize (lg_sl ([.ref b]) ++ List.replicate (7 - (lg_sl ([.ref b])).length) Slot.unset).toArray = ls at hl ⊢
  have hl : lv_has ls 7 [(0, .ref b)] := hl
  refine va_new (ci := 0) (fs := [.null, .null, .null, .null]) (C := zc_X) (T := zf_X) (N := 4) hx hb hts (fun w h => List.mem_cons_of_mem _ (zu_X w h)) zt_X zo_X hown (zw_at hts gx_clX) (zw_at hts gx_inX) (zw_at hts gx_iniX) hK hP hD hS hA rfl (fun j hj => by rcases (show j = 0 ∨ j = 1 ∨ j = 2 ∨ j = 3 by omega) with rfl | rfl | rfl | rfl <;> rfl) (Nat.le_of_ble_eq_true rfl) (Nat.le_of_ble_eq_true rfl) d_L12_0 (fun x H hP hD hS => ?_)
  have hP : va_P D zC [(x, .inr (0, [.null, .null, .null, .null]))] H := hP
  have hD : va_D (fun q => s.heap.size ≤ q) [(x, .inr (0, [.null, .null, .null, .null]))] := hD
  refine lv_dup hx hb d_L12_3 rfl ?_
  have hK0 := hK
  have hPc := hP.sub (ws' := [(x, .inr (0, [.null, .null, .null, .null]))]) [0] rfl
  have hDc := hD.sub (ws' := [(x, .inr (0, [.null, .null, .null, .null]))]) [0] (by decide) rfl
  have hFc := va_free (wc := [(x, .inr (0, [.null, .null, .null, .null]))]) hD hS hA [0] rfl
  refine va_callv (va_runI (As := []) (rest := [.ref x]) S (c_X1 l D x H.size) ⟨zc_B S.2.2.2.2 k_L44.1 ⟨Nat.le_of_ble_eq_true rfl, Nat.le_of_ble_eq_true rfl⟩, rfl, zw_at hts k_L44.2⟩ ⟨fun a U g mk q => by obtain ⟨q0, q1, qP, qK, qD⟩ := q; exact ⟨q0, q1, qP, va_K.moved (u := U) (U := U.calling g mk a) (Vm.Alike.refl U.vm) qK, qD⟩, fun U hU hW => ⟨rfl, by rw [hU], by rw [hU]; exact hPc, va_K.moved hW.alike hK0, hDc.weaken (fun _ _ _ _ => trivial)⟩⟩ rfl rfl hl.1 rfl (lv_room (Nat.le_of_ble_eq_true rfl)) d_L12_4 ⟨Nat.le_of_ble_eq_true rfl, Nat.le_of_ble_eq_true rfl⟩) hS (fun q _ h => hFc q h) hFc (fun u t H1 locs ht hvm hw9 hB hz1 hk1 hS => ?_)
  obtain ⟨cI, cB, a0, a1, a2, a3, hP1, hK1, hD1⟩ := hB
  rw [ht] at hP1
  have hK1 := va_K.moved hvm.symm hK1
  obtain ⟨hP, hD⟩ := va_join (wr := []) (w1 := (XW cI cB x a0 a1 a2 a3 (fun _ => 0) (fun _ => 0) (fun _ => 0) (fun _ => 0))) hP hD [0] [] rfl rfl (by decide) (by decide) hk1 hFc hP1 hD1
  clear ht hvm hk1 hz1 hP1 hD1 hPc hDc hFc
  generalize H1 = H at hP hS ⊢
  have hKX : va_K D zC (xT cI cB) s := hK1
  refine W.widen (k := 5) (n := 548) (Nat.le_of_ble_eq_true rfl) (Nat.le_of_ble_eq_true rfl) ?_
  refine lv_astore_n hx hb d_L12_7 rfl hl (by decide) rfl (fun ls hl => ?_)
  have hl : lv_has ls 7 [(1, .ref x), (0, .ref b)] := hl
  refine va_new (ci := 1) (fs := [.int 0, .null, .null, .null, .null, .null, .null]) (C := zc_M) (T := zf_M) (N := 7) hx hb hts (fun w h => List.mem_cons_of_mem _ (zu_M w h)) zt_M zo_M hown (zw_at hts gx_clM) (zw_at hts gx_inM) (zw_at hts gx_iniM) hK hP hD hS hA rfl (fun j hj => by rcases (show j = 0 ∨ j = 1 ∨ j = 2 ∨ j = 3 ∨ j = 4 ∨ j = 5 ∨ j = 6 by omega) with rfl | rfl | rfl | rfl | rfl | rfl | rfl <;> rfl) (Nat.le_of_ble_eq_true rfl) (Nat.le_of_ble_eq_true rfl) d_L12_8 (fun mo H hP hD hS => ?_)
  have hP : va_P D zC (XW cI cB x a0 a1 a2 a3 (fun _ => 0) (fun _ => 0) (fun _ => 0) (fun _ => 0) ++ [(mo, .inr (1, [.int 0, .null, .null, .null, .null, .null, .null]))]) H := hP
  have hD : va_D (fun q => s.heap.size ≤ q) (XW cI cB x a0 a1 a2 a3 (fun _ => 0) (fun _ => 0) (fun _ => 0) (fun _ => 0) ++ [(mo, .inr (1, [.int 0, .null, .null, .null, .null, .null, .null]))]) := hD
  refine lv_dup hx hb d_L12_11 rfl ?_
  have hPc := hP.sub (ws' := [(mo, .inr (1, [.int 0, .null, .null, .null, .null, .null, .null]))]) [5] rfl
  have hDc := hD.sub (ws' := [(mo, .inr (1, [.int 0, .null, .null, .null, .null, .null, .null]))]) [5] (by decide) rfl
  have hFc := va_free (wc := [(mo, .inr (1, [.int 0, .null, .null, .null, .null, .null, .null]))]) hD hS hA [5] rfl
  refine va_callv (va_runI (As := []) (rest := [.ref mo]) S (c_M1 l D mo H.size) ⟨zc_B S.2.2.2.2 k_L47.1 ⟨Nat.le_of_ble_eq_true rfl, Nat.le_of_ble_eq_true rfl⟩, rfl, zw_at hts k_L47.2⟩ ⟨fun a U g mk q => by obtain ⟨q0, q1, qP, qK, qD⟩ := q; exact ⟨q0, q1, qP, va_K.moved (u := U) (U := U.calling g mk a) (Vm.Alike.refl U.vm) qK, qD⟩, fun U hU hW => ⟨rfl, by rw [hU], by rw [hU]; exact hPc, va_K.moved hW.alike hK0, hDc.weaken (fun _ _ _ _ => trivial)⟩⟩ rfl rfl hl.1 rfl (lv_room (Nat.le_of_ble_eq_true rfl)) d_L12_12 ⟨Nat.le_of_ble_eq_true rfl, Nat.le_of_ble_eq_true rfl⟩) hS (fun q _ h => hFc q h) hFc (fun u t H1 locs ht hvm hw9 hB hz1 hk1 hS => ?_)
  obtain ⟨cZ, b0, b1, b2, b3, b4, b5, hP1, hK1, hD1⟩ := hB
  rw [ht] at hP1
  have hK1 := va_K.moved hvm.symm hK1
  obtain ⟨hP, hD⟩ := va_join (wr := (XW cI cB x a0 a1 a2 a3 (fun _ => 0) (fun _ => 0) (fun _ => 0) (fun _ => 0))) (w1 := (MW cZ mo b0 b1 b2 b3 b4 b5 0 (zr (fun _ => 0)) (zr (fun _ => 0)) (zo (fun _ => 0)) (zo (fun _ => 0)) (fun _ => false) (fun _ => false))) hP hD [5] [0, 1, 2, 3, 4] rfl rfl (by decide) (by decide) hk1 hFc hP1 hD1
  clear ht hvm hk1 hz1 hP1 hD1 hPc hDc hFc
  generalize H1 = H at hP hS ⊢
  have hKM : va_K D zC (mT cZ) s := hK1
  refine W.widen (k := 12) (n := 5739) (Nat.le_of_ble_eq_true rfl) (Nat.le_of_ble_eq_true rfl) ?_
  refine lv_astore_n hx hb d_L12_15 rfl hl (by decide) rfl (fun ls hl => ?_)
  have hl : lv_has ls 7 [(2, .ref mo), (1, .ref x), (0, .ref b)] := hl
  refine lv_iconst (v := 1) hx hb d_L12_16 (by decide) ?_
  refine va_newa (atype := .long) (ty := .long) (N' := 1) (a0 := (1, .inr (.inl (fun _ => 0)))) hx hb (zw_at hts gx_long) rfl hK hP hD hS hA (fun _ => rfl) (by decide) (by decide) (by decide) (Nat.le_of_ble_eq_true rfl) (Nat.le_of_ble_eq_true rfl) d_L12_17 (fun ou cL H hKO hP hD hS => ?_)
  have hKO : va_K D zC [(cL, .long)] s := hKO
  have hnd : ([x, a0, a1, a2, a3] ++ ([mo, b0, b1, b2, b3, b4, b5] ++ [ou])).Nodup := zd_nd hD rfl
  have hAd : ∀ q ∈ [x, a0, a1, a2, a3] ++ ([mo, b0, b1, b2, b3, b4, b5] ++ [ou]), s.heap.size ≤ q := zd_A hD rfl
  obtain ⟨ndX, nd2, d1⟩ := List.nodup_append.mp hnd
  obtain ⟨ndM, -, d2⟩ := List.nodup_append.mp nd2
  have hXm : ∀ q ∈ [mo, b0, b1, b2, b3, b4, b5], q ∉ [x, a0, a1, a2, a3] := fun q hq h => d1 q h q (List.mem_append_left _ hq) rfl
  have hXo : ∀ q ∈ [ou], q ∉ [x, a0, a1, a2, a3] := fun q hq h => d1 q h q (List.mem_append_right _ hq) rfl
  have hMx : ∀ q ∈ [x, a0, a1, a2, a3], q ∉ [mo, b0, b1, b2, b3, b4, b5] := fun q hq h => d1 q hq q (List.mem_append_left _ h) rfl
  have hMo : ∀ q ∈ [ou], q ∉ [mo, b0, b1, b2, b3, b4, b5] := fun q hq h => d2 q h q hq rfl
  have hOx : ∀ q ∈ [x, a0, a1, a2, a3], q ∉ [ou] := fun q hq h => d1 q hq q (List.mem_append_right _ h) rfl
  have hOm : ∀ q ∈ [mo, b0, b1, b2, b3, b4, b5], q ∉ [ou] := fun q hq h => d2 q hq q h rfl
  have hAM : ∀ q, q ∈ [mo, b0, b1, b2, b3, b4, b5] → s.heap.size ≤ q := fun q h => hAd q (List.mem_append_right _ (List.mem_append_left _ h))
  have hAX : ∀ q, q ∈ [x, a0, a1, a2, a3] → s.heap.size ≤ q := fun q h => hAd q (List.mem_append_left _ h)
  have hAO : ∀ q, q ∈ [ou] → s.heap.size ≤ q := fun q h => hAd q (List.mem_append_right _ (List.mem_append_right _ h))
  have hXx : va_P D zC (XW cI cB x a0 a1 a2 a3 (fun _ => 0) (fun _ => 0) (fun _ => 0) (fun _ => 0)) H := hP.sub [0, 1, 2, 3, 4] rfl
  have hM : va_P D zC (MW cZ mo b0 b1 b2 b3 b4 b5 0 (zr (fun _ => 0)) (zr (fun _ => 0)) (zo (fun _ => 0)) (zo (fun _ => 0)) (fun _ => false) (fun _ => false)) H := hP.sub [5, 6, 7, 8, 9, 10, 11] rfl
  have hO : va_P D zC [(ou, .inl (cL, 1, .inr (.inl (fun _ => 0))))] H := hP.sub [12] rfl
  refine lv_astore_n hx hb d_L12_19 rfl hl (by decide) rfl (fun ls hl => ?_)
  have hl : lv_has ls 7 [(3, .ref ou), (2, .ref mo), (1, .ref x), (0, .ref b)] := hl
  refine lv_iconst (v := 0) hx hb d_L12_20 (by decide) ?_
  refine lv_istore hx hb d_L12_21 hl (by decide) rfl (fun ls hl => ?_)
  have hl : lv_has ls 7 [(4, .int 0), (3, .ref ou), (2, .ref mo), (1, .ref x), (0, .ref b)] := hl
  clear hP hD
  refine zl_loopC (fun k H locs ls => 5 * k ≤ L ∧ va_S (fun q => s.heap.size ≤ q) s.heap H locs ∧ ∃ (v n : Nat → Int32) (mm hh : Nat → Int8) (er : Int32) (f4 f5 : Nat → Bool) (fo : Nat → Int64), va_P D zC (XW cI cB x a0 a1 a2 a3 v n mm hh) H ∧ va_P D zC (MW cZ mo b0 b1 b2 b3 b4 b5 er (zr v) (zr n) (zo mm) (zo hh) f4 f5) H ∧ va_P D zC [(ou, .inl (cL, 1, .inr (.inl fo)))] H ∧ lv_has ls 7 [(4, .int (nI (5 * k))), (3, .ref ou), (2, .ref mo), (1, .ref x), (0, .ref b)]) 23 512 (fun k => 13 + k) (fun k => 5740 + 6 * k) (fun k H locs ls h => by have := h.1; omega) ?_ 0 _ _ _ ⟨by omega, hS, _, _, _, _, _, _, _, _, hXx, hM, hO, hl⟩
  clear hXx hM hO hS hl
  intro k H locs ls hI ih
  obtain ⟨hk, hS, v, n, mm, hh, er, f4, f5, fo, hXx, hM, hO, hl⟩ := hI
  refine lv_iload hx hb d_L12_23 (lv_at hl 0 rfl) ?_
  refine lv_aload_n hx hb d_L12_25 rfl (lv_at hl 4 rfl) ?_
  refine va_slen hx hb hX0 hbl hbA hS d_L12_26 ?_
  show W p l e room_1 s m _ below meth c H locs _ _ _ (F0 m 27 ls [.int (nI L), .int (nI (5 * k))])
  refine lv_iconst (v := 5) hx hb d_L12_27 (by decide) ?_
  refine lv_isub hx hb d_L12_28 ?_
  refine lv_icmp_gt (tgt := 671) hx hb d_L12_29 (by decide) (fun hc => ?_) (fun hc => ?_)
  · refine lv_iconst (v := 1) hx hb d_L12_671 (by decide) ?_
    refine va_forget (fun q hq => hS.2.2 q hq) ?_
    refine W.widen (k := 1040) (n := 13950) (by omega) (by omega) ?_
    exact lw_ret hx hb hr hlk d_L12_672
  · have hk2 : 5 * k + 5 ≤ L := Nat.not_lt.mp (mt (zl_cmp hL hk).mpr hc)
    refine lv_aload_n hx hb d_L12_32 rfl (lv_at hl 4 rfl) ?_
    refine lv_iload hx hb d_L12_33 (lv_at hl 0 rfl) ?_
    refine zs_ld hx hb hX0 hbl hbA hS (j := 5 * k) (by omega) (by omega) d_L12_35 ?_
    refine lv_bipush (v := 15) hx hb d_L12_36 (by decide) ?_
    refine lv_iand hx hb d_L12_38 ?_
    obtain ⟨j9, hj9, ej9⟩ := pk_andE (xs (5 * k)) (m := 15) 4 (by decide)
    refine lv_topi (fun zz ez => ?_)
    obtain rfl : zz = (nI j9) := ez.trans (ej9)
    have hj9 : j9 < 16 := hj9
    obtain rfl | rfl | rfl | rfl | rfl | rfl | rfl | rfl | rfl | rfl | hj : j9 = 0 ∨ j9 = 1 ∨ j9 = 2 ∨ j9 = 3 ∨ j9 = 4 ∨ j9 = 5 ∨ j9 = 6 ∨ j9 = 7 ∨ j9 = 8 ∨ j9 = 9 ∨ 10 ≤ j9 := by omega
    · refine lv_tableIn (tgt := 92) hx hb d_L12_39 (by decide) (by decide) rfl (by decide) ?_
      refine lv_aload_n hx hb d_L12_92 rfl (lv_at hl 3 rfl) ?_
      refine lv_aload_n hx hb d_L12_93 rfl (lv_at hl 4 rfl) ?_
      refine lv_iload hx hb d_L12_94 (lv_at hl 0 rfl) ?_
      refine lv_iconst (v := 1) hx hb d_L12_96 (by decide) ?_
      refine lv_iadd hx hb d_L12_97 ?_
      refine lv_topi (fun zz ez => ?_)
      obtain rfl : zz = (nI (5 * k + 1)) := ez.trans (nI_add _ 1)
      refine zs_ld hx hb hX0 hbl hbA hS (j := 5 * k + 1) (by omega) (by omega) d_L12_98 ?_
      refine lv_aload_n hx hb d_L12_99 rfl (lv_at hl 4 rfl) ?_
      refine lv_iload hx hb d_L12_100 (lv_at hl 0 rfl) ?_
      refine lv_iconst (v := 2) hx hb d_L12_102 (by decide) ?_
      refine lv_iadd hx hb d_L12_103 ?_
      refine lv_topi (fun zz ez => ?_)
      obtain rfl : zz = (nI (5 * k + 2)) := ez.trans (nI_add _ 2)
      refine zs_ld hx hb hX0 hbl hbA hS (j := 5 * k + 2) (by omega) (by omega) d_L12_104 ?_
      refine lv_aload_n hx hb d_L12_105 rfl (lv_at hl 4 rfl) ?_
      refine lv_iload hx hb d_L12_106 (lv_at hl 0 rfl) ?_
      refine lv_iconst (v := 3) hx hb d_L12_108 (by decide) ?_
      refine lv_iadd hx hb d_L12_109 ?_
      refine lv_topi (fun zz ez => ?_)
      obtain rfl : zz = (nI (5 * k + 3)) := ez.trans (nI_add _ 3)
      refine zs_ld hx hb hX0 hbl hbA hS (j := 5 * k + 3) (by omega) (by omega) d_L12_110 ?_
      refine va_calli (zc_W (As := [.ref x, .int (xs (5 * k + 1)), .int (xs (5 * k + 2)), .int (xs (5 * k + 3))]) (rest := []) S k_L48 (c_L3 l hfl D cI cB x a0 a1 a2 a3 ndX v n mm hh (xs (5 * k + 1)) (xs (5 * k + 2)) (xs (5 * k + 3)) H.size) (zl_pre hE hN hS hXx hKX) ⟨rfl, rfl⟩ ⟨Nat.le_of_ble_eq_true rfl, Nat.le_of_ble_eq_true rfl⟩ rfl rfl hl.1 rfl (lv_room (Nat.le_of_ble_eq_true rfl)) d_L12_111 ⟨by show 13 + k + 1 ≤ 1040; omega, by show 5740 + 6 * k + 6 ≤ 13950; omega⟩) hS (fun q hq h => h.elim (hAX q) (fun h => Nat.le_trans hS.1 h)) (fun q h => h.elim (hAX q) (fun h => Nat.le_trans hS.1 h)) (fun r9 u9 t9 H1 locs ht hvm hr9 hB hz1 hk1 hS => ?_)
      subst hr9
      rw [ht] at hB
      have hM := zk_keep hM hk1 (fun q hq hlt h => h.elim (hXm q hq) (fun h => absurd hlt (Nat.not_lt.mpr h)))
      have hO := zk_keep hO hk1 (fun q hq hlt h => h.elim (hXo q hq) (fun h => absurd hlt (Nat.not_lt.mpr h)))
      have hXx := hB
      clear hB hk1 hz1 hvm ht
      generalize H1 = H at hM hO hXx hS ⊢
      refine W.cs (cells' := 13 + (k + 1)) (slots' := 5740 + 6 * (k + 1)) (by omega) (by omega) ?_
      refine lv_istore hx hb d_L12_114 hl (by decide) rfl (fun ls hl => ?_)
      have hl : lv_has ls 7 [(5, .int (zb (!zk_16 (xs (5 * k + 1))))), (4, .int (nI (5 * k))), (3, .ref ou), (2, .ref mo), (1, .ref x), (0, .ref b)] := hl
      refine lv_aload_n hx hb d_L12_116 rfl (lv_at hl 3 rfl) ?_
      refine lv_aload_n hx hb d_L12_117 rfl (lv_at hl 5 rfl) ?_
      refine lv_iload hx hb d_L12_118 (lv_at hl 1 rfl) ?_
      refine lv_iconst (v := 1) hx hb d_L12_120 (by decide) ?_
      refine lv_iadd hx hb d_L12_121 ?_
      refine lv_topi (fun zz ez => ?_)
      obtain rfl : zz = (nI (5 * k + 1)) := ez.trans (nI_add _ 1)
      refine zs_ld hx hb hX0 hbl hbA hS (j := 5 * k + 1) (by omega) (by omega) d_L12_122 ?_
      refine lv_aload_n hx hb d_L12_123 rfl (lv_at hl 5 rfl) ?_
      refine lv_iload hx hb d_L12_124 (lv_at hl 1 rfl) ?_
      refine lv_iconst (v := 2) hx hb d_L12_126 (by decide) ?_
      refine lv_iadd hx hb d_L12_127 ?_
      refine lv_topi (fun zz ez => ?_)
      obtain rfl : zz = (nI (5 * k + 2)) := ez.trans (nI_add _ 2)
      refine zs_ld hx hb hX0 hbl hbA hS (j := 5 * k + 2) (by omega) (by omega) d_L12_128 ?_
      refine lv_aload_n hx hb d_L12_129 rfl (lv_at hl 5 rfl) ?_
      refine lv_iload hx hb d_L12_130 (lv_at hl 1 rfl) ?_
      refine lv_iconst (v := 3) hx hb d_L12_132 (by decide) ?_
      refine lv_iadd hx hb d_L12_133 ?_
      refine lv_topi (fun zz ez => ?_)
      obtain rfl : zz = (nI (5 * k + 3)) := ez.trans (nI_add _ 3)
      refine zs_ld hx hb hX0 hbl hbA hS (j := 5 * k + 3) (by omega) (by omega) d_L12_134 ?_
      refine zc_VL (C := zc_M) S k_L53 (t_M8 l D cZ mo b0 b1 b2 b3 b4 b5 ndM er v n mm hh f4 f5 (xs (5 * k + 1)) (xs (5 * k + 2)) (xs (5 * k + 3))) rfl (mw_pre hKM hM) ⟨Nat.le_of_ble_eq_true rfl, Nat.le_of_ble_eq_true rfl⟩ ⟨rfl, rfl⟩ rfl hl.1 rfl (Nat.le_of_ble_eq_true rfl) d_L12_135 ⟨by show 13 + (k + 1) ≤ 1040; omega, by show 5740 + 6 * (k + 1) ≤ 13950; omega⟩ hS hAM (fun rv H1 locs hq hz2 hk2 hS => ?_)
      obtain ⟨rfl, g4, g5, hM⟩ := hq
      have hXx := zk_keep hXx (fun q _ h => hk2 q h) (fun q hq _ => hMx q hq)
      have hO := zk_keep hO (fun q _ h => hk2 q h) (fun q hq _ => hMo q hq)
      clear hk2 hz2
      generalize H1 = H at hM hO hXx hS ⊢
      refine lv_aload_n hx hb d_L12_138 rfl (lv_at hl 3 rfl) ?_
      refine zc_Vi (C := zc_M) S k_L54 (c_M2 l D cZ mo b0 b1 b2 b3 b4 b5 ndM (zb (!zk_16 (xs (5 * k + 1)))) (zr (if zk_16 (xs (5 * k + 1)) then zs v (nt (xs (5 * k + 1))) (xs (5 * k + 2)) else v)) (zr (if zk_16 (xs (5 * k + 1)) then zs n (nt (xs (5 * k + 1))) (xs (5 * k + 3)) else n)) (zo mm) (zo hh) g4 g5) rfl (mw_pre hKM hM) ⟨Nat.le_of_ble_eq_true rfl, Nat.le_of_ble_eq_true rfl⟩ ⟨rfl, rfl⟩ rfl hl.1 rfl (Nat.le_of_ble_eq_true rfl) d_L12_139 ⟨by show 13 + (k + 1) ≤ 1040; omega, by show 5740 + 6 * (k + 1) ≤ 13950; omega⟩ ?_
      refine lv_iload hx hb d_L12_142 (lv_at hl 0 rfl) ?_
      refine lv_icmp_eq (tgt := 149) hx hb d_L12_144 (by decide) (fun hq => ?_) (fun hq => absurd rfl hq)
      refine lv_goto (tgt := 665) hx hb d_L12_149 (by decide) ?_
      refine lv_iinc (k := 1) (v := (nI ((5 * k) + 5))) hx hb d_L12_665 hl rfl (zi_inc5 _) (by decide) rfl (fun ls hl => ?_)
      have hl : lv_has ls 7 [(4, .int (nI ((5 * k) + 5))), (5, .int (zb (!zk_16 (xs (5 * k + 1))))), (3, .ref ou), (2, .ref mo), (1, .ref x), (0, .ref b)] := hl
      refine lv_goto (tgt := 23) hx hb d_L12_668 (by decide) ?_
      exact ih _ _ _ ⟨by omega, hS, (if zk_16 (xs (5 * k + 1)) then zs v (nt (xs (5 * k + 1))) (xs (5 * k + 2)) else v), (if zk_16 (xs (5 * k + 1)) then zs n (nt (xs (5 * k + 1))) (xs (5 * k + 3)) else n), mm, hh, (zb (!zk_16 (xs (5 * k + 1)))), g4, g5, fo, hXx, hM, hO, lv_sub hl [0, 2, 3, 4, 5] rfl⟩
    · refine lv_tableIn (tgt := 152) hx hb d_L12_39 (by decide) (by decide) rfl (by decide) ?_
      refine lv_aload_n hx hb d_L12_152 rfl (lv_at hl 3 rfl) ?_
      refine lv_aload_n hx hb d_L12_153 rfl (lv_at hl 4 rfl) ?_
      refine lv_iload hx hb d_L12_154 (lv_at hl 0 rfl) ?_
      refine lv_iconst (v := 1) hx hb d_L12_156 (by decide) ?_
      refine lv_iadd hx hb d_L12_157 ?_
      refine lv_topi (fun zz ez => ?_)
      obtain rfl : zz = (nI (5 * k + 1)) := ez.trans (nI_add _ 1)
      refine zs_ld hx hb hX0 hbl hbA hS (j := 5 * k + 1) (by omega) (by omega) d_L12_158 ?_
      refine lv_aload_n hx hb d_L12_159 rfl (lv_at hl 4 rfl) ?_
      refine lv_iload hx hb d_L12_160 (lv_at hl 0 rfl) ?_
      refine lv_iconst (v := 2) hx hb d_L12_162 (by decide) ?_
      refine lv_iadd hx hb d_L12_163 ?_
      refine lv_topi (fun zz ez => ?_)
      obtain rfl : zz = (nI (5 * k + 2)) := ez.trans (nI_add _ 2)
      refine zs_ld hx hb hX0 hbl hbA hS (j := 5 * k + 2) (by omega) (by omega) d_L12_164 ?_
      refine lv_aload_n hx hb d_L12_165 rfl (lv_at hl 4 rfl) ?_
      refine lv_iload hx hb d_L12_166 (lv_at hl 0 rfl) ?_
      refine lv_iconst (v := 3) hx hb d_L12_168 (by decide) ?_
      refine lv_iadd hx hb d_L12_169 ?_
      refine lv_topi (fun zz ez => ?_)
      obtain rfl : zz = (nI (5 * k + 3)) := ez.trans (nI_add _ 3)
      refine zs_ld hx hb hX0 hbl hbA hS (j := 5 * k + 3) (by omega) (by omega) d_L12_170 ?_
      refine lv_aload_n hx hb d_L12_171 rfl (lv_at hl 4 rfl) ?_
      refine lv_iload hx hb d_L12_172 (lv_at hl 0 rfl) ?_
      refine lv_iconst (v := 4) hx hb d_L12_174 (by decide) ?_
      refine lv_iadd hx hb d_L12_175 ?_
      refine lv_topi (fun zz ez => ?_)
      obtain rfl : zz = (nI (5 * k + 4)) := ez.trans (nI_add _ 4)
      refine zs_ld hx hb hX0 hbl hbA hS (j := 5 * k + 4) (by omega) (by omega) d_L12_176 ?_
      refine va_calli (zc_W (As := [.ref x, .int (xs (5 * k + 1)), .int (xs (5 * k + 2)), .int (xs (5 * k + 3)), .int (xs (5 * k + 4))]) (rest := []) S k_L58 (c_L4 l hfl D cI cB x a0 a1 a2 a3 ndX v n mm hh (xs (5 * k + 1)) (xs (5 * k + 2)) (xs (5 * k + 3)) (xs (5 * k + 4)) H.size) (zl_pre hE hN hS hXx hKX) ⟨rfl, rfl⟩ ⟨Nat.le_of_ble_eq_true rfl, Nat.le_of_ble_eq_true rfl⟩ rfl rfl hl.1 rfl (lv_room (Nat.le_of_ble_eq_true rfl)) d_L12_177 ⟨by show 13 + k + 1 ≤ 1040; omega, by show 5740 + 6 * k + 6 ≤ 13950; omega⟩) hS (fun q hq h => h.elim (hAX q) (fun h => Nat.le_trans hS.1 h)) (fun q h => h.elim (hAX q) (fun h => Nat.le_trans hS.1 h)) (fun r9 u9 t9 H1 locs ht hvm hr9 hB hz1 hk1 hS => ?_)
      subst hr9
      rw [ht] at hB
      have hM := zk_keep hM hk1 (fun q hq hlt h => h.elim (hXm q hq) (fun h => absurd hlt (Nat.not_lt.mpr h)))
      have hO := zk_keep hO hk1 (fun q hq hlt h => h.elim (hXo q hq) (fun h => absurd hlt (Nat.not_lt.mpr h)))
      have hXx := hB
      clear hB hk1 hz1 hvm ht
      generalize H1 = H at hM hO hXx hS ⊢
      refine W.cs (cells' := 13 + (k + 1)) (slots' := 5740 + 6 * (k + 1)) (by omega) (by omega) ?_
      refine lv_istore hx hb d_L12_180 hl (by decide) rfl (fun ls hl => ?_)
      have hl : lv_has ls 7 [(5, .int (kop (xs (5 * k + 1)) (xs (5 * k + 2)) (xs (5 * k + 3)) (xs (5 * k + 4)))), (4, .int (nI (5 * k))), (3, .ref ou), (2, .ref mo), (1, .ref x), (0, .ref b)] := hl
      refine lv_aload_n hx hb d_L12_182 rfl (lv_at hl 3 rfl) ?_
      refine lv_aload_n hx hb d_L12_183 rfl (lv_at hl 5 rfl) ?_
      refine lv_iload hx hb d_L12_184 (lv_at hl 1 rfl) ?_
      refine lv_iconst (v := 1) hx hb d_L12_186 (by decide) ?_
      refine lv_iadd hx hb d_L12_187 ?_
      refine lv_topi (fun zz ez => ?_)
      obtain rfl : zz = (nI (5 * k + 1)) := ez.trans (nI_add _ 1)
      refine zs_ld hx hb hX0 hbl hbA hS (j := 5 * k + 1) (by omega) (by omega) d_L12_188 ?_
      refine lv_aload_n hx hb d_L12_189 rfl (lv_at hl 5 rfl) ?_
      refine lv_iload hx hb d_L12_190 (lv_at hl 1 rfl) ?_
      refine lv_iconst (v := 2) hx hb d_L12_192 (by decide) ?_
      refine lv_iadd hx hb d_L12_193 ?_
      refine lv_topi (fun zz ez => ?_)
      obtain rfl : zz = (nI (5 * k + 2)) := ez.trans (nI_add _ 2)
      refine zs_ld hx hb hX0 hbl hbA hS (j := 5 * k + 2) (by omega) (by omega) d_L12_194 ?_
      refine lv_aload_n hx hb d_L12_195 rfl (lv_at hl 5 rfl) ?_
      refine lv_iload hx hb d_L12_196 (lv_at hl 1 rfl) ?_
      refine lv_iconst (v := 3) hx hb d_L12_198 (by decide) ?_
      refine lv_iadd hx hb d_L12_199 ?_
      refine lv_topi (fun zz ez => ?_)
      obtain rfl : zz = (nI (5 * k + 3)) := ez.trans (nI_add _ 3)
      refine zs_ld hx hb hX0 hbl hbA hS (j := 5 * k + 3) (by omega) (by omega) d_L12_200 ?_
      refine lv_aload_n hx hb d_L12_201 rfl (lv_at hl 5 rfl) ?_
      refine lv_iload hx hb d_L12_202 (lv_at hl 1 rfl) ?_
      refine lv_iconst (v := 4) hx hb d_L12_204 (by decide) ?_
      refine lv_iadd hx hb d_L12_205 ?_
      refine lv_topi (fun zz ez => ?_)
      obtain rfl : zz = (nI (5 * k + 4)) := ez.trans (nI_add _ 4)
      refine zs_ld hx hb hX0 hbl hbA hS (j := 5 * k + 4) (by omega) (by omega) d_L12_206 ?_
      refine zc_VL (C := zc_M) S k_L61 (t_M14 l D cZ mo b0 b1 b2 b3 b4 b5 ndM er v n mm hh f4 f5 (xs (5 * k + 1)) (xs (5 * k + 2)) (xs (5 * k + 3)) (xs (5 * k + 4))) rfl (mw_pre hKM hM) ⟨Nat.le_of_ble_eq_true rfl, Nat.le_of_ble_eq_true rfl⟩ ⟨rfl, rfl⟩ rfl hl.1 rfl (Nat.le_of_ble_eq_true rfl) d_L12_207 ⟨by show 13 + (k + 1) ≤ 1040; omega, by show 5740 + 6 * (k + 1) ≤ 13950; omega⟩ hS hAM (fun rv H1 locs hq hz2 hk2 hS => ?_)
      obtain ⟨rfl, g4, g5, hM⟩ := hq
      have hXx := zk_keep hXx (fun q _ h => hk2 q h) (fun q hq _ => hMx q hq)
      have hO := zk_keep hO (fun q _ h => hk2 q h) (fun q hq _ => hMo q hq)
      clear hk2 hz2
      generalize H1 = H at hM hO hXx hS ⊢
      refine lv_aload_n hx hb d_L12_210 rfl (lv_at hl 3 rfl) ?_
      refine zc_Vi (C := zc_M) S k_L54 (c_M2 l D cZ mo b0 b1 b2 b3 b4 b5 ndM (kop (xs (5 * k + 1)) (xs (5 * k + 2)) (xs (5 * k + 3)) (xs (5 * k + 4))) (zr (if kok (xs (5 * k + 1)) (xs (5 * k + 2)) (xs (5 * k + 3)) (xs (5 * k + 4)) then zs v (nt (xs (5 * k + 2))) (oV (nt (xs (5 * k + 1))) (v (nt (xs (5 * k + 3)))) (v (nt (xs (5 * k + 4)))) (v (nt (xs (5 * k + 2))))) else v)) (zr (if kok (xs (5 * k + 1)) (xs (5 * k + 2)) (xs (5 * k + 3)) (xs (5 * k + 4)) then zs n (nt (xs (5 * k + 2))) (oN (nt (xs (5 * k + 1))) (v (nt (xs (5 * k + 3)))) (v (nt (xs (5 * k + 4)))) (n (nt (xs (5 * k + 3)))) (n (nt (xs (5 * k + 4)))) (v (nt (xs (5 * k + 2)))) (n (nt (xs (5 * k + 2))))) else n)) (zo mm) (zo hh) g4 g5) rfl (mw_pre hKM hM) ⟨Nat.le_of_ble_eq_true rfl, Nat.le_of_ble_eq_true rfl⟩ ⟨rfl, rfl⟩ rfl hl.1 rfl (Nat.le_of_ble_eq_true rfl) d_L12_211 ⟨by show 13 + (k + 1) ≤ 1040; omega, by show 5740 + 6 * (k + 1) ≤ 13950; omega⟩ ?_
      refine lv_iload hx hb d_L12_214 (lv_at hl 0 rfl) ?_
      refine lv_icmp_eq (tgt := 221) hx hb d_L12_216 (by decide) (fun hq => ?_) (fun hq => absurd rfl hq)
      refine lv_goto (tgt := 665) hx hb d_L12_221 (by decide) ?_
      refine lv_iinc (k := 1) (v := (nI ((5 * k) + 5))) hx hb d_L12_665 hl rfl (zi_inc5 _) (by decide) rfl (fun ls hl => ?_)
      have hl : lv_has ls 7 [(4, .int (nI ((5 * k) + 5))), (5, .int (kop (xs (5 * k + 1)) (xs (5 * k + 2)) (xs (5 * k + 3)) (xs (5 * k + 4)))), (3, .ref ou), (2, .ref mo), (1, .ref x), (0, .ref b)] := hl
      refine lv_goto (tgt := 23) hx hb d_L12_668 (by decide) ?_
      exact ih _ _ _ ⟨by omega, hS, (if kok (xs (5 * k + 1)) (xs (5 * k + 2)) (xs (5 * k + 3)) (xs (5 * k + 4)) then zs v (nt (xs (5 * k + 2))) (oV (nt (xs (5 * k + 1))) (v (nt (xs (5 * k + 3)))) (v (nt (xs (5 * k + 4)))) (v (nt (xs (5 * k + 2))))) else v), (if kok (xs (5 * k + 1)) (xs (5 * k + 2)) (xs (5 * k + 3)) (xs (5 * k + 4)) then zs n (nt (xs (5 * k + 2))) (oN (nt (xs (5 * k + 1))) (v (nt (xs (5 * k + 3)))) (v (nt (xs (5 * k + 4)))) (n (nt (xs (5 * k + 3)))) (n (nt (xs (5 * k + 4)))) (v (nt (xs (5 * k + 2)))) (n (nt (xs (5 * k + 2))))) else n), mm, hh, (kop (xs (5 * k + 1)) (xs (5 * k + 2)) (xs (5 * k + 3)) (xs (5 * k + 4))), g4, g5, fo, hXx, hM, hO, lv_sub hl [0, 2, 3, 4, 5] rfl⟩
    · refine lv_tableIn (tgt := 224) hx hb d_L12_39 (by decide) (by decide) rfl (by decide) ?_
      refine lv_aload_n hx hb d_L12_224 rfl (lv_at hl 3 rfl) ?_
      refine lv_aload_n hx hb d_L12_225 rfl (lv_at hl 4 rfl) ?_
      refine lv_iload hx hb d_L12_226 (lv_at hl 0 rfl) ?_
      refine lv_iconst (v := 1) hx hb d_L12_228 (by decide) ?_
      refine lv_iadd hx hb d_L12_229 ?_
      refine lv_topi (fun zz ez => ?_)
      obtain rfl : zz = (nI (5 * k + 1)) := ez.trans (nI_add _ 1)
      refine zs_ld hx hb hX0 hbl hbA hS (j := 5 * k + 1) (by omega) (by omega) d_L12_230 ?_
      refine lv_aload_n hx hb d_L12_231 rfl (lv_at hl 4 rfl) ?_
      refine lv_iload hx hb d_L12_232 (lv_at hl 0 rfl) ?_
      refine lv_iconst (v := 2) hx hb d_L12_234 (by decide) ?_
      refine lv_iadd hx hb d_L12_235 ?_
      refine lv_topi (fun zz ez => ?_)
      obtain rfl : zz = (nI (5 * k + 2)) := ez.trans (nI_add _ 2)
      refine zs_ld hx hb hX0 hbl hbA hS (j := 5 * k + 2) (by omega) (by omega) d_L12_236 ?_
      refine lv_aload_n hx hb d_L12_237 rfl (lv_at hl 4 rfl) ?_
      refine lv_iload hx hb d_L12_238 (lv_at hl 0 rfl) ?_
      refine lv_iconst (v := 3) hx hb d_L12_240 (by decide) ?_
      refine lv_iadd hx hb d_L12_241 ?_
      refine lv_topi (fun zz ez => ?_)
      obtain rfl : zz = (nI (5 * k + 3)) := ez.trans (nI_add _ 3)
      refine zs_ld hx hb hX0 hbl hbA hS (j := 5 * k + 3) (by omega) (by omega) d_L12_242 ?_
      refine va_calli (zc_W (As := [.ref x, .int (xs (5 * k + 1)), .int (xs (5 * k + 2)), .int (xs (5 * k + 3))]) (rest := []) S k_L62 (c_L5 l hfl D cI cB x a0 a1 a2 a3 ndX v n mm hh (xs (5 * k + 1)) (xs (5 * k + 2)) (xs (5 * k + 3)) H.size) (zl_pre hE hN hS hXx hKX) ⟨rfl, rfl⟩ ⟨Nat.le_of_ble_eq_true rfl, Nat.le_of_ble_eq_true rfl⟩ rfl rfl hl.1 rfl (lv_room (Nat.le_of_ble_eq_true rfl)) d_L12_243 ⟨by show 13 + k + 1 ≤ 1040; omega, by show 5740 + 6 * k + 6 ≤ 13950; omega⟩) hS (fun q hq h => h.elim (hAX q) (fun h => Nat.le_trans hS.1 h)) (fun q h => h.elim (hAX q) (fun h => Nat.le_trans hS.1 h)) (fun r9 u9 t9 H1 locs ht hvm hr9 hB hz1 hk1 hS => ?_)
      subst hr9
      rw [ht] at hB
      have hM := zk_keep hM hk1 (fun q hq hlt h => h.elim (hXm q hq) (fun h => absurd hlt (Nat.not_lt.mpr h)))
      have hO := zk_keep hO hk1 (fun q hq hlt h => h.elim (hXo q hq) (fun h => absurd hlt (Nat.not_lt.mpr h)))
      have hXx := hB
      clear hB hk1 hz1 hvm ht
      generalize H1 = H at hM hO hXx hS ⊢
      refine W.cs (cells' := 13 + (k + 1)) (slots' := 5740 + 6 * (k + 1)) (by omega) (by omega) ?_
      refine lv_istore hx hb d_L12_246 hl (by decide) rfl (fun ls hl => ?_)
      have hl : lv_has ls 7 [(5, .int (kme (xs (5 * k + 1)) (xs (5 * k + 2)) (xs (5 * k + 3)))), (4, .int (nI (5 * k))), (3, .ref ou), (2, .ref mo), (1, .ref x), (0, .ref b)] := hl
      refine lv_aload_n hx hb d_L12_248 rfl (lv_at hl 3 rfl) ?_
      refine lv_aload_n hx hb d_L12_249 rfl (lv_at hl 5 rfl) ?_
      refine lv_iload hx hb d_L12_250 (lv_at hl 1 rfl) ?_
      refine lv_iconst (v := 1) hx hb d_L12_252 (by decide) ?_
      refine lv_iadd hx hb d_L12_253 ?_
      refine lv_topi (fun zz ez => ?_)
      obtain rfl : zz = (nI (5 * k + 1)) := ez.trans (nI_add _ 1)
      refine zs_ld hx hb hX0 hbl hbA hS (j := 5 * k + 1) (by omega) (by omega) d_L12_254 ?_
      refine lv_aload_n hx hb d_L12_255 rfl (lv_at hl 5 rfl) ?_
      refine lv_iload hx hb d_L12_256 (lv_at hl 1 rfl) ?_
      refine lv_iconst (v := 2) hx hb d_L12_258 (by decide) ?_
      refine lv_iadd hx hb d_L12_259 ?_
      refine lv_topi (fun zz ez => ?_)
      obtain rfl : zz = (nI (5 * k + 2)) := ez.trans (nI_add _ 2)
      refine zs_ld hx hb hX0 hbl hbA hS (j := 5 * k + 2) (by omega) (by omega) d_L12_260 ?_
      refine lv_aload_n hx hb d_L12_261 rfl (lv_at hl 5 rfl) ?_
      refine lv_iload hx hb d_L12_262 (lv_at hl 1 rfl) ?_
      refine lv_iconst (v := 3) hx hb d_L12_264 (by decide) ?_
      refine lv_iadd hx hb d_L12_265 ?_
      refine lv_topi (fun zz ez => ?_)
      obtain rfl : zz = (nI (5 * k + 3)) := ez.trans (nI_add _ 3)
      refine zs_ld hx hb hX0 hbl hbA hS (j := 5 * k + 3) (by omega) (by omega) d_L12_266 ?_
      refine zc_VL (C := zc_M) S k_L64 (t_M19 l D cZ mo b0 b1 b2 b3 b4 b5 ndM er v n mm hh f4 f5 (xs (5 * k + 1)) (xs (5 * k + 2)) (xs (5 * k + 3))) rfl (mw_pre hKM hM) ⟨Nat.le_of_ble_eq_true rfl, Nat.le_of_ble_eq_true rfl⟩ ⟨rfl, rfl⟩ rfl hl.1 rfl (Nat.le_of_ble_eq_true rfl) d_L12_267 ⟨by show 13 + (k + 1) ≤ 1040; omega, by show 5740 + 6 * (k + 1) ≤ 13950; omega⟩ hS hAM (fun rv H1 locs hq hz2 hk2 hS => ?_)
      obtain ⟨rfl, g4, g5, hM⟩ := hq
      have hXx := zk_keep hXx (fun q _ h => hk2 q h) (fun q hq _ => hMx q hq)
      have hO := zk_keep hO (fun q _ h => hk2 q h) (fun q hq _ => hMo q hq)
      clear hk2 hz2
      generalize H1 = H at hM hO hXx hS ⊢
      refine lv_aload_n hx hb d_L12_270 rfl (lv_at hl 3 rfl) ?_
      refine zc_Vi (C := zc_M) S k_L54 (c_M2 l D cZ mo b0 b1 b2 b3 b4 b5 ndM (kme (xs (5 * k + 1)) (xs (5 * k + 2)) (xs (5 * k + 3))) (zr v) (zr n) (zo (if kmo (xs (5 * k + 1)) (xs (5 * k + 2)) (xs (5 * k + 3)) then zst mm (nt (xs (5 * k + 2))) (nt (xs (5 * k + 3))) (v (nt (xs (5 * k + 1)))) else mm)) (zo (if kmo (xs (5 * k + 1)) (xs (5 * k + 2)) (xs (5 * k + 3)) then zst hh (nt (xs (5 * k + 2))) (nt (xs (5 * k + 3))) (n (nt (xs (5 * k + 1)))) else hh)) g4 g5) rfl (mw_pre hKM hM) ⟨Nat.le_of_ble_eq_true rfl, Nat.le_of_ble_eq_true rfl⟩ ⟨rfl, rfl⟩ rfl hl.1 rfl (Nat.le_of_ble_eq_true rfl) d_L12_271 ⟨by show 13 + (k + 1) ≤ 1040; omega, by show 5740 + 6 * (k + 1) ≤ 13950; omega⟩ ?_
      refine lv_iload hx hb d_L12_274 (lv_at hl 0 rfl) ?_
      refine lv_icmp_eq (tgt := 281) hx hb d_L12_276 (by decide) (fun hq => ?_) (fun hq => absurd rfl hq)
      refine lv_goto (tgt := 665) hx hb d_L12_281 (by decide) ?_
      refine lv_iinc (k := 1) (v := (nI ((5 * k) + 5))) hx hb d_L12_665 hl rfl (zi_inc5 _) (by decide) rfl (fun ls hl => ?_)
      have hl : lv_has ls 7 [(4, .int (nI ((5 * k) + 5))), (5, .int (kme (xs (5 * k + 1)) (xs (5 * k + 2)) (xs (5 * k + 3)))), (3, .ref ou), (2, .ref mo), (1, .ref x), (0, .ref b)] := hl
      refine lv_goto (tgt := 23) hx hb d_L12_668 (by decide) ?_
      exact ih _ _ _ ⟨by omega, hS, v, n, (if kmo (xs (5 * k + 1)) (xs (5 * k + 2)) (xs (5 * k + 3)) then zst mm (nt (xs (5 * k + 2))) (nt (xs (5 * k + 3))) (v (nt (xs (5 * k + 1)))) else mm), (if kmo (xs (5 * k + 1)) (xs (5 * k + 2)) (xs (5 * k + 3)) then zst hh (nt (xs (5 * k + 2))) (nt (xs (5 * k + 3))) (n (nt (xs (5 * k + 1)))) else hh), (kme (xs (5 * k + 1)) (xs (5 * k + 2)) (xs (5 * k + 3))), g4, g5, fo, hXx, hM, hO, lv_sub hl [0, 2, 3, 4, 5] rfl⟩
    · refine lv_tableIn (tgt := 284) hx hb d_L12_39 (by decide) (by decide) rfl (by decide) ?_
      refine lv_aload_n hx hb d_L12_284 rfl (lv_at hl 3 rfl) ?_
      refine lv_aload_n hx hb d_L12_285 rfl (lv_at hl 4 rfl) ?_
      refine lv_iload hx hb d_L12_286 (lv_at hl 0 rfl) ?_
      refine lv_iconst (v := 1) hx hb d_L12_288 (by decide) ?_
      refine lv_iadd hx hb d_L12_289 ?_
      refine lv_topi (fun zz ez => ?_)
      obtain rfl : zz = (nI (5 * k + 1)) := ez.trans (nI_add _ 1)
      refine zs_ld hx hb hX0 hbl hbA hS (j := 5 * k + 1) (by omega) (by omega) d_L12_290 ?_
      refine lv_aload_n hx hb d_L12_291 rfl (lv_at hl 4 rfl) ?_
      refine lv_iload hx hb d_L12_292 (lv_at hl 0 rfl) ?_
      refine lv_iconst (v := 2) hx hb d_L12_294 (by decide) ?_
      refine lv_iadd hx hb d_L12_295 ?_
      refine lv_topi (fun zz ez => ?_)
      obtain rfl : zz = (nI (5 * k + 2)) := ez.trans (nI_add _ 2)
      refine zs_ld hx hb hX0 hbl hbA hS (j := 5 * k + 2) (by omega) (by omega) d_L12_296 ?_
      refine lv_aload_n hx hb d_L12_297 rfl (lv_at hl 4 rfl) ?_
      refine lv_iload hx hb d_L12_298 (lv_at hl 0 rfl) ?_
      refine lv_iconst (v := 3) hx hb d_L12_300 (by decide) ?_
      refine lv_iadd hx hb d_L12_301 ?_
      refine lv_topi (fun zz ez => ?_)
      obtain rfl : zz = (nI (5 * k + 3)) := ez.trans (nI_add _ 3)
      refine zs_ld hx hb hX0 hbl hbA hS (j := 5 * k + 3) (by omega) (by omega) d_L12_302 ?_
      refine lv_aload_n hx hb d_L12_303 rfl (lv_at hl 4 rfl) ?_
      refine lv_iload hx hb d_L12_304 (lv_at hl 0 rfl) ?_
      refine lv_iconst (v := 4) hx hb d_L12_306 (by decide) ?_
      refine lv_iadd hx hb d_L12_307 ?_
      refine lv_topi (fun zz ez => ?_)
      obtain rfl : zz = (nI (5 * k + 4)) := ez.trans (nI_add _ 4)
      refine zs_ld hx hb hX0 hbl hbA hS (j := 5 * k + 4) (by omega) (by omega) d_L12_308 ?_
      refine zd_if_eq hx hb d_L12_309 d_L12_312 d_L12_313 d_L12_316 ?_
      refine va_calli (zc_W (As := [.ref x, .int (xs (5 * k + 1)), .int (xs (5 * k + 2)), .int (xs (5 * k + 3)), .int (zb (decide (¬ (xs (5 * k + 4)) = 0)))]) (rest := []) S k_L65 (c_L6 l hfl D cI cB x a0 a1 a2 a3 ndX v n mm hh (xs (5 * k + 1)) (xs (5 * k + 2)) (xs (5 * k + 3)) (decide (¬ (xs (5 * k + 4)) = 0)) H.size) (zl_pre hE hN hS hXx hKX) ⟨rfl, rfl⟩ ⟨Nat.le_of_ble_eq_true rfl, Nat.le_of_ble_eq_true rfl⟩ rfl rfl hl.1 rfl (lv_room (Nat.le_of_ble_eq_true rfl)) d_L12_317 ⟨by show 13 + k + 1 ≤ 1040; omega, by show 5740 + 6 * k + 6 ≤ 13950; omega⟩) hS (fun q hq h => h.elim (hAX q) (fun h => Nat.le_trans hS.1 h)) (fun q h => h.elim (hAX q) (fun h => Nat.le_trans hS.1 h)) (fun r9 u9 t9 H1 locs ht hvm hr9 hB hz1 hk1 hS => ?_)
      subst hr9
      rw [ht] at hB
      have hM := zk_keep hM hk1 (fun q hq hlt h => h.elim (hXm q hq) (fun h => absurd hlt (Nat.not_lt.mpr h)))
      have hO := zk_keep hO hk1 (fun q hq hlt h => h.elim (hXo q hq) (fun h => absurd hlt (Nat.not_lt.mpr h)))
      have hXx := hB
      clear hB hk1 hz1 hvm ht
      generalize H1 = H at hM hO hXx hS ⊢
      refine W.cs (cells' := 13 + (k + 1)) (slots' := 5740 + 6 * (k + 1)) (by omega) (by omega) ?_
      refine lv_istore hx hb d_L12_320 hl (by decide) rfl (fun ls hl => ?_)
      have hl : lv_has ls 7 [(5, .int (kme (xs (5 * k + 1)) (xs (5 * k + 2)) (xs (5 * k + 3)))), (4, .int (nI (5 * k))), (3, .ref ou), (2, .ref mo), (1, .ref x), (0, .ref b)] := hl
      refine lv_aload_n hx hb d_L12_322 rfl (lv_at hl 3 rfl) ?_
      refine lv_aload_n hx hb d_L12_323 rfl (lv_at hl 5 rfl) ?_
      refine lv_iload hx hb d_L12_324 (lv_at hl 1 rfl) ?_
      refine lv_iconst (v := 1) hx hb d_L12_326 (by decide) ?_
      refine lv_iadd hx hb d_L12_327 ?_
      refine lv_topi (fun zz ez => ?_)
      obtain rfl : zz = (nI (5 * k + 1)) := ez.trans (nI_add _ 1)
      refine zs_ld hx hb hX0 hbl hbA hS (j := 5 * k + 1) (by omega) (by omega) d_L12_328 ?_
      refine lv_aload_n hx hb d_L12_329 rfl (lv_at hl 5 rfl) ?_
      refine lv_iload hx hb d_L12_330 (lv_at hl 1 rfl) ?_
      refine lv_iconst (v := 2) hx hb d_L12_332 (by decide) ?_
      refine lv_iadd hx hb d_L12_333 ?_
      refine lv_topi (fun zz ez => ?_)
      obtain rfl : zz = (nI (5 * k + 2)) := ez.trans (nI_add _ 2)
      refine zs_ld hx hb hX0 hbl hbA hS (j := 5 * k + 2) (by omega) (by omega) d_L12_334 ?_
      refine lv_aload_n hx hb d_L12_335 rfl (lv_at hl 5 rfl) ?_
      refine lv_iload hx hb d_L12_336 (lv_at hl 1 rfl) ?_
      refine lv_iconst (v := 3) hx hb d_L12_338 (by decide) ?_
      refine lv_iadd hx hb d_L12_339 ?_
      refine lv_topi (fun zz ez => ?_)
      obtain rfl : zz = (nI (5 * k + 3)) := ez.trans (nI_add _ 3)
      refine zs_ld hx hb hX0 hbl hbA hS (j := 5 * k + 3) (by omega) (by omega) d_L12_340 ?_
      refine lv_aload_n hx hb d_L12_341 rfl (lv_at hl 5 rfl) ?_
      refine lv_iload hx hb d_L12_342 (lv_at hl 1 rfl) ?_
      refine lv_iconst (v := 4) hx hb d_L12_344 (by decide) ?_
      refine lv_iadd hx hb d_L12_345 ?_
      refine lv_topi (fun zz ez => ?_)
      obtain rfl : zz = (nI (5 * k + 4)) := ez.trans (nI_add _ 4)
      refine zs_ld hx hb hX0 hbl hbA hS (j := 5 * k + 4) (by omega) (by omega) d_L12_346 ?_
      refine zd_if_eq hx hb d_L12_347 d_L12_350 d_L12_351 d_L12_354 ?_
      refine zc_VL (C := zc_M) S k_L68 (t_M20 l D cZ mo b0 b1 b2 b3 b4 b5 ndM er v n mm hh f4 f5 (xs (5 * k + 1)) (xs (5 * k + 2)) (xs (5 * k + 3)) (decide (¬ (xs (5 * k + 4)) = 0))) rfl (mw_pre hKM hM) ⟨Nat.le_of_ble_eq_true rfl, Nat.le_of_ble_eq_true rfl⟩ ⟨rfl, rfl⟩ rfl hl.1 rfl (Nat.le_of_ble_eq_true rfl) d_L12_355 ⟨by show 13 + (k + 1) ≤ 1040; omega, by show 5740 + 6 * (k + 1) ≤ 13950; omega⟩ hS hAM (fun rv H1 locs hq hz2 hk2 hS => ?_)
      obtain ⟨rfl, g4, g5, hM⟩ := hq
      have hXx := zk_keep hXx (fun q _ h => hk2 q h) (fun q hq _ => hMx q hq)
      have hO := zk_keep hO (fun q _ h => hk2 q h) (fun q hq _ => hMo q hq)
      clear hk2 hz2
      generalize H1 = H at hM hO hXx hS ⊢
      refine lv_aload_n hx hb d_L12_358 rfl (lv_at hl 3 rfl) ?_
      refine zc_Vi (C := zc_M) S k_L54 (c_M2 l D cZ mo b0 b1 b2 b3 b4 b5 ndM (kme (xs (5 * k + 1)) (xs (5 * k + 2)) (xs (5 * k + 3))) (zr (if kmo (xs (5 * k + 1)) (xs (5 * k + 2)) (xs (5 * k + 3)) then zs v (nt (xs (5 * k + 1))) (zjo mm (nt (xs (5 * k + 2))) (nt (xs (5 * k + 3))) (decide (¬ (xs (5 * k + 4)) = 0))) else v)) (zr (if kmo (xs (5 * k + 1)) (xs (5 * k + 2)) (xs (5 * k + 3)) then zs n (nt (xs (5 * k + 1))) (zjo hh (nt (xs (5 * k + 2))) (nt (xs (5 * k + 3))) (decide (¬ (xs (5 * k + 4)) = 0))) else n)) (zo mm) (zo hh) g4 g5) rfl (mw_pre hKM hM) ⟨Nat.le_of_ble_eq_true rfl, Nat.le_of_ble_eq_true rfl⟩ ⟨rfl, rfl⟩ rfl hl.1 rfl (Nat.le_of_ble_eq_true rfl) d_L12_359 ⟨by show 13 + (k + 1) ≤ 1040; omega, by show 5740 + 6 * (k + 1) ≤ 13950; omega⟩ ?_
      refine lv_iload hx hb d_L12_362 (lv_at hl 0 rfl) ?_
      refine lv_icmp_eq (tgt := 369) hx hb d_L12_364 (by decide) (fun hq => ?_) (fun hq => absurd rfl hq)
      refine lv_goto (tgt := 665) hx hb d_L12_369 (by decide) ?_
      refine lv_iinc (k := 1) (v := (nI ((5 * k) + 5))) hx hb d_L12_665 hl rfl (zi_inc5 _) (by decide) rfl (fun ls hl => ?_)
      have hl : lv_has ls 7 [(4, .int (nI ((5 * k) + 5))), (5, .int (kme (xs (5 * k + 1)) (xs (5 * k + 2)) (xs (5 * k + 3)))), (3, .ref ou), (2, .ref mo), (1, .ref x), (0, .ref b)] := hl
      refine lv_goto (tgt := 23) hx hb d_L12_668 (by decide) ?_
      exact ih _ _ _ ⟨by omega, hS, (if kmo (xs (5 * k + 1)) (xs (5 * k + 2)) (xs (5 * k + 3)) then zs v (nt (xs (5 * k + 1))) (zjo mm (nt (xs (5 * k + 2))) (nt (xs (5 * k + 3))) (decide (¬ (xs (5 * k + 4)) = 0))) else v), (if kmo (xs (5 * k + 1)) (xs (5 * k + 2)) (xs (5 * k + 3)) then zs n (nt (xs (5 * k + 1))) (zjo hh (nt (xs (5 * k + 2))) (nt (xs (5 * k + 3))) (decide (¬ (xs (5 * k + 4)) = 0))) else n), mm, hh, (kme (xs (5 * k + 1)) (xs (5 * k + 2)) (xs (5 * k + 3))), g4, g5, fo, hXx, hM, hO, lv_sub hl [0, 2, 3, 4, 5] rfl⟩
    · refine lv_tableIn (tgt := 372) hx hb d_L12_39 (by decide) (by decide) rfl (by decide) ?_
      refine lv_aload_n hx hb d_L12_372 rfl (lv_at hl 3 rfl) ?_
      refine lv_aload_n hx hb d_L12_373 rfl (lv_at hl 4 rfl) ?_
      refine lv_iload hx hb d_L12_374 (lv_at hl 0 rfl) ?_
      refine lv_iconst (v := 1) hx hb d_L12_376 (by decide) ?_
      refine lv_iadd hx hb d_L12_377 ?_
      refine lv_topi (fun zz ez => ?_)
      obtain rfl : zz = (nI (5 * k + 1)) := ez.trans (nI_add _ 1)
      refine zs_ld hx hb hX0 hbl hbA hS (j := 5 * k + 1) (by omega) (by omega) d_L12_378 ?_
      refine lv_aload_n hx hb d_L12_379 rfl (lv_at hl 1 rfl) ?_
      refine va_calli (zc_W (As := [.ref x, .int (xs (5 * k + 1)), .ref ou]) (rest := []) S k_L69 (c_L7 l hfl D cI cB x a0 a1 a2 a3 ndX v n mm hh cL ou fo (xs (5 * k + 1)) H.size) (zl_pre hE hN hS (hXx.app hO) (hKX.app hKO)) ⟨rfl, rfl⟩ ⟨Nat.le_of_ble_eq_true rfl, Nat.le_of_ble_eq_true rfl⟩ rfl rfl hl.1 rfl (lv_room (Nat.le_of_ble_eq_true rfl)) d_L12_380 ⟨by show 13 + k + 1 ≤ 1040; omega, by show 5740 + 6 * k + 6 ≤ 13950; omega⟩) hS (fun q hq h => h.elim (hAO q) (fun h => Nat.le_trans hS.1 h)) (fun q h => h.elim (hAO q) (fun h => Nat.le_trans hS.1 h)) (fun r9 u9 t9 H1 locs ht hvm hr9 hB hz1 hk1 hS => ?_)
      subst hr9
      rw [ht] at hB
      have hM := zk_keep hM hk1 (fun q hq hlt h => h.elim (hOm q hq) (fun h => absurd hlt (Nat.not_lt.mpr h)))
      have hXx := zk_keep hXx hk1 (fun q hq hlt h => h.elim (hOx q hq) (fun h => absurd hlt (Nat.not_lt.mpr h)))
      have hO := hB
      clear hB hk1 hz1 hvm ht
      generalize H1 = H at hM hO hXx hS ⊢
      refine W.cs (cells' := 13 + (k + 1)) (slots' := 5740 + 6 * (k + 1)) (by omega) (by omega) ?_
      refine lv_istore hx hb d_L12_383 hl (by decide) rfl (fun ls hl => ?_)
      have hl : lv_has ls 7 [(5, .int (zb (!zk_16 (xs (5 * k + 1))))), (4, .int (nI (5 * k))), (3, .ref ou), (2, .ref mo), (1, .ref x), (0, .ref b)] := hl
      refine lv_aload_n hx hb d_L12_385 rfl (lv_at hl 3 rfl) ?_
      refine lv_aload_n hx hb d_L12_386 rfl (lv_at hl 5 rfl) ?_
      refine lv_iload hx hb d_L12_387 (lv_at hl 1 rfl) ?_
      refine lv_iconst (v := 1) hx hb d_L12_389 (by decide) ?_
      refine lv_iadd hx hb d_L12_390 ?_
      refine lv_topi (fun zz ez => ?_)
      obtain rfl : zz = (nI (5 * k + 1)) := ez.trans (nI_add _ 1)
      refine zs_ld hx hb hX0 hbl hbA hS (j := 5 * k + 1) (by omega) (by omega) d_L12_391 ?_
      refine zc_VL (C := zc_M) S k_L72 (t_M21 l D cZ mo b0 b1 b2 b3 b4 b5 ndM er v n mm hh f4 f5 (xs (5 * k + 1))) rfl (mw_pre hKM hM) ⟨Nat.le_of_ble_eq_true rfl, Nat.le_of_ble_eq_true rfl⟩ ⟨rfl, rfl⟩ rfl hl.1 rfl (Nat.le_of_ble_eq_true rfl) d_L12_392 ⟨by show 13 + (k + 1) ≤ 1040; omega, by show 5740 + 6 * (k + 1) ≤ 13950; omega⟩ hS hAM (fun rv H1 locs hq hz2 hk2 hS => ?_)
      obtain ⟨rfl, g4, g5, hM⟩ := hq
      have hXx := zk_keep hXx (fun q _ h => hk2 q h) (fun q hq _ => hMx q hq)
      have hO := zk_keep hO (fun q _ h => hk2 q h) (fun q hq _ => hMo q hq)
      clear hk2 hz2
      generalize H1 = H at hM hO hXx hS ⊢
      refine lv_istore hx hb d_L12_395 hl (by decide) rfl (fun ls hl => ?_)
      have hl : lv_has ls 7 [(6, .int (if zk_16 (xs (5 * k + 1)) then v (nt (xs (5 * k + 1))) else 0)), (5, .int (zb (!zk_16 (xs (5 * k + 1))))), (4, .int (nI (5 * k))), (3, .ref ou), (2, .ref mo), (1, .ref x), (0, .ref b)] := hl
      refine lv_aload_n hx hb d_L12_397 rfl (lv_at hl 4 rfl) ?_
      refine zc_Vi (C := zc_M) S k_L54 (c_M2 l D cZ mo b0 b1 b2 b3 b4 b5 ndM (zb (!zk_16 (xs (5 * k + 1)))) (zr v) (zr n) (zo mm) (zo hh) g4 g5) rfl (mw_pre hKM hM) ⟨Nat.le_of_ble_eq_true rfl, Nat.le_of_ble_eq_true rfl⟩ ⟨rfl, rfl⟩ rfl hl.1 rfl (Nat.le_of_ble_eq_true rfl) d_L12_398 ⟨by show 13 + (k + 1) ≤ 1040; omega, by show 5740 + 6 * (k + 1) ≤ 13950; omega⟩ ?_
      refine lv_iload hx hb d_L12_401 (lv_at hl 1 rfl) ?_
      refine lv_icmp_eq (tgt := 408) hx hb d_L12_403 (by decide) (fun hq => ?_) (fun hq => absurd rfl hq)
      refine lv_iload hx hb d_L12_408 (lv_at hl 1 rfl) ?_
      refine lv_if_ne (tgt := 425) hx hb d_L12_410 (by decide) (fun hd9 => ?_) (fun hd9 => ?_)
      · refine lv_goto (tgt := 665) hx hb d_L12_425 (by decide) ?_
        refine lv_iinc (k := 2) (v := (nI ((5 * k) + 5))) hx hb d_L12_665 hl rfl (zi_inc5 _) (by decide) rfl (fun ls hl => ?_)
        have hl : lv_has ls 7 [(4, .int (nI ((5 * k) + 5))), (6, .int (if zk_16 (xs (5 * k + 1)) then v (nt (xs (5 * k + 1))) else 0)), (5, .int (zb (!zk_16 (xs (5 * k + 1))))), (3, .ref ou), (2, .ref mo), (1, .ref x), (0, .ref b)] := hl
        refine lv_goto (tgt := 23) hx hb d_L12_668 (by decide) ?_
        exact ih _ _ _ ⟨by omega, hS, v, n, mm, hh, (zb (!zk_16 (xs (5 * k + 1)))), g4, g5, (if zk_16 (xs (5 * k + 1)) then vp_updL fo (0 : Int32).toNatClampNeg (v (nt (xs (5 * k + 1)))).toInt64 else fo), hXx, hM, hO, lv_sub hl [0, 3, 4, 5, 6] rfl⟩
      · have hgd : zk_16 (xs (5 * k + 1)) = true := by simpa using (zb_0 _).mp hd9
        refine lv_aload_n hx hb d_L12_413 rfl (lv_at hl 3 rfl) ?_
        refine lv_iconst (v := 0) hx hb d_L12_414 (by decide) ?_
        refine va_lald hx hb hKO hO 0 0 rfl rfl (vp_in_nI (n := 0) (N := 1) (by decide) (by decide)) d_L12_415 ?_
        refine lv_iload hx hb d_L12_416 (lv_at hl 0 rfl) ?_
        refine lv_i2l hx hb d_L12_418 rfl ?_
        refine W.lcmp hx hb d_L12_419 ?_
        refine lv_if_eq (tgt := 425) hx hb d_L12_420 (by decide) (fun hq => ?_) (fun hq => absurd ((lg_cmp_eq _ _).mpr (zq_eq hgd)) hq)
        refine lv_goto (tgt := 665) hx hb d_L12_425 (by decide) ?_
        refine lv_iinc (k := 2) (v := (nI ((5 * k) + 5))) hx hb d_L12_665 hl rfl (zi_inc5 _) (by decide) rfl (fun ls hl => ?_)
        have hl : lv_has ls 7 [(4, .int (nI ((5 * k) + 5))), (6, .int (if zk_16 (xs (5 * k + 1)) then v (nt (xs (5 * k + 1))) else 0)), (5, .int (zb (!zk_16 (xs (5 * k + 1))))), (3, .ref ou), (2, .ref mo), (1, .ref x), (0, .ref b)] := hl
        refine lv_goto (tgt := 23) hx hb d_L12_668 (by decide) ?_
        exact ih _ _ _ ⟨by omega, hS, v, n, mm, hh, (zb (!zk_16 (xs (5 * k + 1)))), g4, g5, (if zk_16 (xs (5 * k + 1)) then vp_updL fo (0 : Int32).toNatClampNeg (v (nt (xs (5 * k + 1)))).toInt64 else fo), hXx, hM, hO, lv_sub hl [0, 3, 4, 5, 6] rfl⟩
    · refine lv_tableIn (tgt := 428) hx hb d_L12_39 (by decide) (by decide) rfl (by decide) ?_
      refine lv_aload_n hx hb d_L12_428 rfl (lv_at hl 3 rfl) ?_
      refine lv_aload_n hx hb d_L12_429 rfl (lv_at hl 4 rfl) ?_
      refine lv_iload hx hb d_L12_430 (lv_at hl 0 rfl) ?_
      refine lv_iconst (v := 1) hx hb d_L12_432 (by decide) ?_
      refine lv_iadd hx hb d_L12_433 ?_
      refine lv_topi (fun zz ez => ?_)
      obtain rfl : zz = (nI (5 * k + 1)) := ez.trans (nI_add _ 1)
      refine zs_ld hx hb hX0 hbl hbA hS (j := 5 * k + 1) (by omega) (by omega) d_L12_434 ?_
      refine lv_aload_n hx hb d_L12_435 rfl (lv_at hl 1 rfl) ?_
      refine va_calli (zc_W (As := [.ref x, .int (xs (5 * k + 1)), .ref ou]) (rest := []) S k_L73 (c_L8 l hfl D cI cB x a0 a1 a2 a3 ndX v n mm hh cL ou fo (xs (5 * k + 1)) H.size) (zl_pre hE hN hS (hXx.app hO) (hKX.app hKO)) ⟨rfl, rfl⟩ ⟨Nat.le_of_ble_eq_true rfl, Nat.le_of_ble_eq_true rfl⟩ rfl rfl hl.1 rfl (lv_room (Nat.le_of_ble_eq_true rfl)) d_L12_436 ⟨by show 13 + k + 1 ≤ 1040; omega, by show 5740 + 6 * k + 6 ≤ 13950; omega⟩) hS (fun q hq h => h.elim (hAO q) (fun h => Nat.le_trans hS.1 h)) (fun q h => h.elim (hAO q) (fun h => Nat.le_trans hS.1 h)) (fun r9 u9 t9 H1 locs ht hvm hr9 hB hz1 hk1 hS => ?_)
      subst hr9
      rw [ht] at hB
      have hM := zk_keep hM hk1 (fun q hq hlt h => h.elim (hOm q hq) (fun h => absurd hlt (Nat.not_lt.mpr h)))
      have hXx := zk_keep hXx hk1 (fun q hq hlt h => h.elim (hOx q hq) (fun h => absurd hlt (Nat.not_lt.mpr h)))
      have hO := hB
      clear hB hk1 hz1 hvm ht
      generalize H1 = H at hM hO hXx hS ⊢
      refine W.cs (cells' := 13 + (k + 1)) (slots' := 5740 + 6 * (k + 1)) (by omega) (by omega) ?_
      refine lv_istore hx hb d_L12_439 hl (by decide) rfl (fun ls hl => ?_)
      have hl : lv_has ls 7 [(5, .int (zb (!zk_16 (xs (5 * k + 1))))), (4, .int (nI (5 * k))), (3, .ref ou), (2, .ref mo), (1, .ref x), (0, .ref b)] := hl
      refine lv_aload_n hx hb d_L12_441 rfl (lv_at hl 3 rfl) ?_
      refine lv_aload_n hx hb d_L12_442 rfl (lv_at hl 5 rfl) ?_
      refine lv_iload hx hb d_L12_443 (lv_at hl 1 rfl) ?_
      refine lv_iconst (v := 1) hx hb d_L12_445 (by decide) ?_
      refine lv_iadd hx hb d_L12_446 ?_
      refine lv_topi (fun zz ez => ?_)
      obtain rfl : zz = (nI (5 * k + 1)) := ez.trans (nI_add _ 1)
      refine zs_ld hx hb hX0 hbl hbA hS (j := 5 * k + 1) (by omega) (by omega) d_L12_447 ?_
      refine zc_VL (C := zc_M) S k_L75 (t_M22 l D cZ mo b0 b1 b2 b3 b4 b5 ndM er v n mm hh f4 f5 (xs (5 * k + 1))) rfl (mw_pre hKM hM) ⟨Nat.le_of_ble_eq_true rfl, Nat.le_of_ble_eq_true rfl⟩ ⟨rfl, rfl⟩ rfl hl.1 rfl (Nat.le_of_ble_eq_true rfl) d_L12_448 ⟨by show 13 + (k + 1) ≤ 1040; omega, by show 5740 + 6 * (k + 1) ≤ 13950; omega⟩ hS hAM (fun rv H1 locs hq hz2 hk2 hS => ?_)
      obtain ⟨rfl, g4, g5, hM⟩ := hq
      have hXx := zk_keep hXx (fun q _ h => hk2 q h) (fun q hq _ => hMx q hq)
      have hO := zk_keep hO (fun q _ h => hk2 q h) (fun q hq _ => hMo q hq)
      clear hk2 hz2
      generalize H1 = H at hM hO hXx hS ⊢
      refine lv_istore hx hb d_L12_451 hl (by decide) rfl (fun ls hl => ?_)
      have hl : lv_has ls 7 [(6, .int (if zk_16 (xs (5 * k + 1)) then n (nt (xs (5 * k + 1))) else 0)), (5, .int (zb (!zk_16 (xs (5 * k + 1))))), (4, .int (nI (5 * k))), (3, .ref ou), (2, .ref mo), (1, .ref x), (0, .ref b)] := hl
      refine lv_aload_n hx hb d_L12_453 rfl (lv_at hl 4 rfl) ?_
      refine zc_Vi (C := zc_M) S k_L54 (c_M2 l D cZ mo b0 b1 b2 b3 b4 b5 ndM (zb (!zk_16 (xs (5 * k + 1)))) (zr v) (zr n) (zo mm) (zo hh) g4 g5) rfl (mw_pre hKM hM) ⟨Nat.le_of_ble_eq_true rfl, Nat.le_of_ble_eq_true rfl⟩ ⟨rfl, rfl⟩ rfl hl.1 rfl (Nat.le_of_ble_eq_true rfl) d_L12_454 ⟨by show 13 + (k + 1) ≤ 1040; omega, by show 5740 + 6 * (k + 1) ≤ 13950; omega⟩ ?_
      refine lv_iload hx hb d_L12_457 (lv_at hl 1 rfl) ?_
      refine lv_icmp_eq (tgt := 464) hx hb d_L12_459 (by decide) (fun hq => ?_) (fun hq => absurd rfl hq)
      refine lv_iload hx hb d_L12_464 (lv_at hl 1 rfl) ?_
      refine lv_if_ne (tgt := 481) hx hb d_L12_466 (by decide) (fun hd9 => ?_) (fun hd9 => ?_)
      · refine lv_goto (tgt := 665) hx hb d_L12_481 (by decide) ?_
        refine lv_iinc (k := 2) (v := (nI ((5 * k) + 5))) hx hb d_L12_665 hl rfl (zi_inc5 _) (by decide) rfl (fun ls hl => ?_)
        have hl : lv_has ls 7 [(4, .int (nI ((5 * k) + 5))), (6, .int (if zk_16 (xs (5 * k + 1)) then n (nt (xs (5 * k + 1))) else 0)), (5, .int (zb (!zk_16 (xs (5 * k + 1))))), (3, .ref ou), (2, .ref mo), (1, .ref x), (0, .ref b)] := hl
        refine lv_goto (tgt := 23) hx hb d_L12_668 (by decide) ?_
        exact ih _ _ _ ⟨by omega, hS, v, n, mm, hh, (zb (!zk_16 (xs (5 * k + 1)))), g4, g5, (if zk_16 (xs (5 * k + 1)) then vp_updL fo (0 : Int32).toNatClampNeg (n (nt (xs (5 * k + 1)))).toInt64 else fo), hXx, hM, hO, lv_sub hl [0, 3, 4, 5, 6] rfl⟩
      · have hgd : zk_16 (xs (5 * k + 1)) = true := by simpa using (zb_0 _).mp hd9
        refine lv_aload_n hx hb d_L12_469 rfl (lv_at hl 3 rfl) ?_
        refine lv_iconst (v := 0) hx hb d_L12_470 (by decide) ?_
        refine va_lald hx hb hKO hO 0 0 rfl rfl (vp_in_nI (n := 0) (N := 1) (by decide) (by decide)) d_L12_471 ?_
        refine lv_iload hx hb d_L12_472 (lv_at hl 0 rfl) ?_
        refine lv_i2l hx hb d_L12_474 rfl ?_
        refine W.lcmp hx hb d_L12_475 ?_
        refine lv_if_eq (tgt := 481) hx hb d_L12_476 (by decide) (fun hq => ?_) (fun hq => absurd ((lg_cmp_eq _ _).mpr (zq_eq hgd)) hq)
        refine lv_goto (tgt := 665) hx hb d_L12_481 (by decide) ?_
        refine lv_iinc (k := 2) (v := (nI ((5 * k) + 5))) hx hb d_L12_665 hl rfl (zi_inc5 _) (by decide) rfl (fun ls hl => ?_)
        have hl : lv_has ls 7 [(4, .int (nI ((5 * k) + 5))), (6, .int (if zk_16 (xs (5 * k + 1)) then n (nt (xs (5 * k + 1))) else 0)), (5, .int (zb (!zk_16 (xs (5 * k + 1))))), (3, .ref ou), (2, .ref mo), (1, .ref x), (0, .ref b)] := hl
        refine lv_goto (tgt := 23) hx hb d_L12_668 (by decide) ?_
        exact ih _ _ _ ⟨by omega, hS, v, n, mm, hh, (zb (!zk_16 (xs (5 * k + 1)))), g4, g5, (if zk_16 (xs (5 * k + 1)) then vp_updL fo (0 : Int32).toNatClampNeg (n (nt (xs (5 * k + 1)))).toInt64 else fo), hXx, hM, hO, lv_sub hl [0, 3, 4, 5, 6] rfl⟩
    · refine lv_tableIn (tgt := 484) hx hb d_L12_39 (by decide) (by decide) rfl (by decide) ?_
      refine lv_aload_n hx hb d_L12_484 rfl (lv_at hl 3 rfl) ?_
      refine lv_aload_n hx hb d_L12_485 rfl (lv_at hl 4 rfl) ?_
      refine lv_iload hx hb d_L12_486 (lv_at hl 0 rfl) ?_
      refine lv_iconst (v := 1) hx hb d_L12_488 (by decide) ?_
      refine lv_iadd hx hb d_L12_489 ?_
      refine lv_topi (fun zz ez => ?_)
      obtain rfl : zz = (nI (5 * k + 1)) := ez.trans (nI_add _ 1)
      refine zs_ld hx hb hX0 hbl hbA hS (j := 5 * k + 1) (by omega) (by omega) d_L12_490 ?_
      refine lv_aload_n hx hb d_L12_491 rfl (lv_at hl 1 rfl) ?_
      refine va_calli (zc_W (As := [.ref x, .int (xs (5 * k + 1)), .ref ou]) (rest := []) S k_L76 (c_L9 l hfl D cI cB x a0 a1 a2 a3 ndX v n mm hh cL ou fo (xs (5 * k + 1)) H.size) (zl_pre hE hN hS (hXx.app hO) (hKX.app hKO)) ⟨rfl, rfl⟩ ⟨Nat.le_of_ble_eq_true rfl, Nat.le_of_ble_eq_true rfl⟩ rfl rfl hl.1 rfl (lv_room (Nat.le_of_ble_eq_true rfl)) d_L12_492 ⟨by show 13 + k + 1 ≤ 1040; omega, by show 5740 + 6 * k + 6 ≤ 13950; omega⟩) hS (fun q hq h => h.elim (hAO q) (fun h => Nat.le_trans hS.1 h)) (fun q h => h.elim (hAO q) (fun h => Nat.le_trans hS.1 h)) (fun r9 u9 t9 H1 locs ht hvm hr9 hB hz1 hk1 hS => ?_)
      subst hr9
      rw [ht] at hB
      have hM := zk_keep hM hk1 (fun q hq hlt h => h.elim (hOm q hq) (fun h => absurd hlt (Nat.not_lt.mpr h)))
      have hXx := zk_keep hXx hk1 (fun q hq hlt h => h.elim (hOx q hq) (fun h => absurd hlt (Nat.not_lt.mpr h)))
      have hO := hB
      clear hB hk1 hz1 hvm ht
      generalize H1 = H at hM hO hXx hS ⊢
      refine W.cs (cells' := 13 + (k + 1)) (slots' := 5740 + 6 * (k + 1)) (by omega) (by omega) ?_
      refine lv_istore hx hb d_L12_495 hl (by decide) rfl (fun ls hl => ?_)
      have hl : lv_has ls 7 [(5, .int (zb (!zk_16 (xs (5 * k + 1))))), (4, .int (nI (5 * k))), (3, .ref ou), (2, .ref mo), (1, .ref x), (0, .ref b)] := hl
      refine lv_aload_n hx hb d_L12_497 rfl (lv_at hl 3 rfl) ?_
      refine lv_aload_n hx hb d_L12_498 rfl (lv_at hl 5 rfl) ?_
      refine lv_iload hx hb d_L12_499 (lv_at hl 1 rfl) ?_
      refine lv_iconst (v := 1) hx hb d_L12_501 (by decide) ?_
      refine lv_iadd hx hb d_L12_502 ?_
      refine lv_topi (fun zz ez => ?_)
      obtain rfl : zz = (nI (5 * k + 1)) := ez.trans (nI_add _ 1)
      refine zs_ld hx hb hX0 hbl hbA hS (j := 5 * k + 1) (by omega) (by omega) d_L12_503 ?_
      refine zc_VL (C := zc_M) S k_L78 (t_M23 l D cZ mo b0 b1 b2 b3 b4 b5 ndM er v n mm hh f4 f5 (xs (5 * k + 1))) rfl (mw_pre hKM hM) ⟨Nat.le_of_ble_eq_true rfl, Nat.le_of_ble_eq_true rfl⟩ ⟨rfl, rfl⟩ rfl hl.1 rfl (Nat.le_of_ble_eq_true rfl) d_L12_504 ⟨by show 13 + (k + 1) ≤ 1040; omega, by show 5740 + 6 * (k + 1) ≤ 13950; omega⟩ hS hAM (fun rv H1 locs hq hz2 hk2 hS => ?_)
      obtain ⟨rfl, g4, g5, hM⟩ := hq
      have hXx := zk_keep hXx (fun q _ h => hk2 q h) (fun q hq _ => hMx q hq)
      have hO := zk_keep hO (fun q _ h => hk2 q h) (fun q hq _ => hMo q hq)
      clear hk2 hz2
      generalize H1 = H at hM hO hXx hS ⊢
      refine lv_istore hx hb d_L12_507 hl (by decide) rfl (fun ls hl => ?_)
      have hl : lv_has ls 7 [(6, .int (if zk_16 (xs (5 * k + 1)) then zlw (v (nt (xs (5 * k + 1)))) (n (nt (xs (5 * k + 1)))) else 0)), (5, .int (zb (!zk_16 (xs (5 * k + 1))))), (4, .int (nI (5 * k))), (3, .ref ou), (2, .ref mo), (1, .ref x), (0, .ref b)] := hl
      refine lv_aload_n hx hb d_L12_509 rfl (lv_at hl 4 rfl) ?_
      refine zc_Vi (C := zc_M) S k_L54 (c_M2 l D cZ mo b0 b1 b2 b3 b4 b5 ndM (zb (!zk_16 (xs (5 * k + 1)))) (zr v) (zr n) (zo mm) (zo hh) g4 g5) rfl (mw_pre hKM hM) ⟨Nat.le_of_ble_eq_true rfl, Nat.le_of_ble_eq_true rfl⟩ ⟨rfl, rfl⟩ rfl hl.1 rfl (Nat.le_of_ble_eq_true rfl) d_L12_510 ⟨by show 13 + (k + 1) ≤ 1040; omega, by show 5740 + 6 * (k + 1) ≤ 13950; omega⟩ ?_
      refine lv_iload hx hb d_L12_513 (lv_at hl 1 rfl) ?_
      refine lv_icmp_eq (tgt := 520) hx hb d_L12_515 (by decide) (fun hq => ?_) (fun hq => absurd rfl hq)
      refine lv_iload hx hb d_L12_520 (lv_at hl 1 rfl) ?_
      refine lv_if_ne (tgt := 537) hx hb d_L12_522 (by decide) (fun hd9 => ?_) (fun hd9 => ?_)
      · refine lv_goto (tgt := 665) hx hb d_L12_537 (by decide) ?_
        refine lv_iinc (k := 2) (v := (nI ((5 * k) + 5))) hx hb d_L12_665 hl rfl (zi_inc5 _) (by decide) rfl (fun ls hl => ?_)
        have hl : lv_has ls 7 [(4, .int (nI ((5 * k) + 5))), (6, .int (if zk_16 (xs (5 * k + 1)) then zlw (v (nt (xs (5 * k + 1)))) (n (nt (xs (5 * k + 1)))) else 0)), (5, .int (zb (!zk_16 (xs (5 * k + 1))))), (3, .ref ou), (2, .ref mo), (1, .ref x), (0, .ref b)] := hl
        refine lv_goto (tgt := 23) hx hb d_L12_668 (by decide) ?_
        exact ih _ _ _ ⟨by omega, hS, v, n, mm, hh, (zb (!zk_16 (xs (5 * k + 1)))), g4, g5, (if zk_16 (xs (5 * k + 1)) then vp_updL fo (0 : Int32).toNatClampNeg (zlw (v (nt (xs (5 * k + 1)))) (n (nt (xs (5 * k + 1))))).toInt64 else fo), hXx, hM, hO, lv_sub hl [0, 3, 4, 5, 6] rfl⟩
      · have hgd : zk_16 (xs (5 * k + 1)) = true := by simpa using (zb_0 _).mp hd9
        refine lv_aload_n hx hb d_L12_525 rfl (lv_at hl 3 rfl) ?_
        refine lv_iconst (v := 0) hx hb d_L12_526 (by decide) ?_
        refine va_lald hx hb hKO hO 0 0 rfl rfl (vp_in_nI (n := 0) (N := 1) (by decide) (by decide)) d_L12_527 ?_
        refine lv_iload hx hb d_L12_528 (lv_at hl 0 rfl) ?_
        refine lv_i2l hx hb d_L12_530 rfl ?_
        refine W.lcmp hx hb d_L12_531 ?_
        refine lv_if_eq (tgt := 537) hx hb d_L12_532 (by decide) (fun hq => ?_) (fun hq => absurd ((lg_cmp_eq _ _).mpr (zq_eq hgd)) hq)
        refine lv_goto (tgt := 665) hx hb d_L12_537 (by decide) ?_
        refine lv_iinc (k := 2) (v := (nI ((5 * k) + 5))) hx hb d_L12_665 hl rfl (zi_inc5 _) (by decide) rfl (fun ls hl => ?_)
        have hl : lv_has ls 7 [(4, .int (nI ((5 * k) + 5))), (6, .int (if zk_16 (xs (5 * k + 1)) then zlw (v (nt (xs (5 * k + 1)))) (n (nt (xs (5 * k + 1)))) else 0)), (5, .int (zb (!zk_16 (xs (5 * k + 1))))), (3, .ref ou), (2, .ref mo), (1, .ref x), (0, .ref b)] := hl
        refine lv_goto (tgt := 23) hx hb d_L12_668 (by decide) ?_
        exact ih _ _ _ ⟨by omega, hS, v, n, mm, hh, (zb (!zk_16 (xs (5 * k + 1)))), g4, g5, (if zk_16 (xs (5 * k + 1)) then vp_updL fo (0 : Int32).toNatClampNeg (zlw (v (nt (xs (5 * k + 1)))) (n (nt (xs (5 * k + 1))))).toInt64 else fo), hXx, hM, hO, lv_sub hl [0, 3, 4, 5, 6] rfl⟩
    · refine lv_tableIn (tgt := 540) hx hb d_L12_39 (by decide) (by decide) rfl (by decide) ?_
      refine lv_aload_n hx hb d_L12_540 rfl (lv_at hl 3 rfl) ?_
      refine lv_aload_n hx hb d_L12_541 rfl (lv_at hl 4 rfl) ?_
      refine lv_iload hx hb d_L12_542 (lv_at hl 0 rfl) ?_
      refine lv_iconst (v := 1) hx hb d_L12_544 (by decide) ?_
      refine lv_iadd hx hb d_L12_545 ?_
      refine lv_topi (fun zz ez => ?_)
      obtain rfl : zz = (nI (5 * k + 1)) := ez.trans (nI_add _ 1)
      refine zs_ld hx hb hX0 hbl hbA hS (j := 5 * k + 1) (by omega) (by omega) d_L12_546 ?_
      refine lv_aload_n hx hb d_L12_547 rfl (lv_at hl 1 rfl) ?_
      refine va_calli (zc_W (As := [.ref x, .int (xs (5 * k + 1)), .ref ou]) (rest := []) S k_L79 (c_L10 l hfl D cI cB x a0 a1 a2 a3 ndX v n mm hh cL ou fo (xs (5 * k + 1)) H.size) (zl_pre hE hN hS (hXx.app hO) (hKX.app hKO)) ⟨rfl, rfl⟩ ⟨Nat.le_of_ble_eq_true rfl, Nat.le_of_ble_eq_true rfl⟩ rfl rfl hl.1 rfl (lv_room (Nat.le_of_ble_eq_true rfl)) d_L12_548 ⟨by show 13 + k + 1 ≤ 1040; omega, by show 5740 + 6 * k + 6 ≤ 13950; omega⟩) hS (fun q hq h => h.elim (hAO q) (fun h => Nat.le_trans hS.1 h)) (fun q h => h.elim (hAO q) (fun h => Nat.le_trans hS.1 h)) (fun r9 u9 t9 H1 locs ht hvm hr9 hB hz1 hk1 hS => ?_)
      subst hr9
      rw [ht] at hB
      have hM := zk_keep hM hk1 (fun q hq hlt h => h.elim (hOm q hq) (fun h => absurd hlt (Nat.not_lt.mpr h)))
      have hXx := zk_keep hXx hk1 (fun q hq hlt h => h.elim (hOx q hq) (fun h => absurd hlt (Nat.not_lt.mpr h)))
      have hO := hB
      clear hB hk1 hz1 hvm ht
      generalize H1 = H at hM hO hXx hS ⊢
      refine W.cs (cells' := 13 + (k + 1)) (slots' := 5740 + 6 * (k + 1)) (by omega) (by omega) ?_
      refine lv_istore hx hb d_L12_551 hl (by decide) rfl (fun ls hl => ?_)
      have hl : lv_has ls 7 [(5, .int (zb (!zk_16 (xs (5 * k + 1))))), (4, .int (nI (5 * k))), (3, .ref ou), (2, .ref mo), (1, .ref x), (0, .ref b)] := hl
      refine lv_aload_n hx hb d_L12_553 rfl (lv_at hl 3 rfl) ?_
      refine lv_aload_n hx hb d_L12_554 rfl (lv_at hl 5 rfl) ?_
      refine lv_iload hx hb d_L12_555 (lv_at hl 1 rfl) ?_
      refine lv_iconst (v := 1) hx hb d_L12_557 (by decide) ?_
      refine lv_iadd hx hb d_L12_558 ?_
      refine lv_topi (fun zz ez => ?_)
      obtain rfl : zz = (nI (5 * k + 1)) := ez.trans (nI_add _ 1)
      refine zs_ld hx hb hX0 hbl hbA hS (j := 5 * k + 1) (by omega) (by omega) d_L12_559 ?_
      refine zc_VL (C := zc_M) S k_L81 (t_M24 l D cZ mo b0 b1 b2 b3 b4 b5 ndM er v n mm hh f4 f5 (xs (5 * k + 1))) rfl (mw_pre hKM hM) ⟨Nat.le_of_ble_eq_true rfl, Nat.le_of_ble_eq_true rfl⟩ ⟨rfl, rfl⟩ rfl hl.1 rfl (Nat.le_of_ble_eq_true rfl) d_L12_560 ⟨by show 13 + (k + 1) ≤ 1040; omega, by show 5740 + 6 * (k + 1) ≤ 13950; omega⟩ hS hAM (fun rv H1 locs hq hz2 hk2 hS => ?_)
      obtain ⟨rfl, g4, g5, hM⟩ := hq
      have hXx := zk_keep hXx (fun q _ h => hk2 q h) (fun q hq _ => hMx q hq)
      have hO := zk_keep hO (fun q _ h => hk2 q h) (fun q hq _ => hMo q hq)
      clear hk2 hz2
      generalize H1 = H at hM hO hXx hS ⊢
      refine lv_istore hx hb d_L12_563 hl (by decide) rfl (fun ls hl => ?_)
      have hl : lv_has ls 7 [(6, .int (if zk_16 (xs (5 * k + 1)) then zhi (v (nt (xs (5 * k + 1)))) (n (nt (xs (5 * k + 1)))) else 0)), (5, .int (zb (!zk_16 (xs (5 * k + 1))))), (4, .int (nI (5 * k))), (3, .ref ou), (2, .ref mo), (1, .ref x), (0, .ref b)] := hl
      refine lv_aload_n hx hb d_L12_565 rfl (lv_at hl 4 rfl) ?_
      refine zc_Vi (C := zc_M) S k_L54 (c_M2 l D cZ mo b0 b1 b2 b3 b4 b5 ndM (zb (!zk_16 (xs (5 * k + 1)))) (zr v) (zr n) (zo mm) (zo hh) g4 g5) rfl (mw_pre hKM hM) ⟨Nat.le_of_ble_eq_true rfl, Nat.le_of_ble_eq_true rfl⟩ ⟨rfl, rfl⟩ rfl hl.1 rfl (Nat.le_of_ble_eq_true rfl) d_L12_566 ⟨by show 13 + (k + 1) ≤ 1040; omega, by show 5740 + 6 * (k + 1) ≤ 13950; omega⟩ ?_
      refine lv_iload hx hb d_L12_569 (lv_at hl 1 rfl) ?_
      refine lv_icmp_eq (tgt := 576) hx hb d_L12_571 (by decide) (fun hq => ?_) (fun hq => absurd rfl hq)
      refine lv_iload hx hb d_L12_576 (lv_at hl 1 rfl) ?_
      refine lv_if_ne (tgt := 593) hx hb d_L12_578 (by decide) (fun hd9 => ?_) (fun hd9 => ?_)
      · refine lv_goto (tgt := 665) hx hb d_L12_593 (by decide) ?_
        refine lv_iinc (k := 2) (v := (nI ((5 * k) + 5))) hx hb d_L12_665 hl rfl (zi_inc5 _) (by decide) rfl (fun ls hl => ?_)
        have hl : lv_has ls 7 [(4, .int (nI ((5 * k) + 5))), (6, .int (if zk_16 (xs (5 * k + 1)) then zhi (v (nt (xs (5 * k + 1)))) (n (nt (xs (5 * k + 1)))) else 0)), (5, .int (zb (!zk_16 (xs (5 * k + 1))))), (3, .ref ou), (2, .ref mo), (1, .ref x), (0, .ref b)] := hl
        refine lv_goto (tgt := 23) hx hb d_L12_668 (by decide) ?_
        exact ih _ _ _ ⟨by omega, hS, v, n, mm, hh, (zb (!zk_16 (xs (5 * k + 1)))), g4, g5, (if zk_16 (xs (5 * k + 1)) then vp_updL fo (0 : Int32).toNatClampNeg (zhi (v (nt (xs (5 * k + 1)))) (n (nt (xs (5 * k + 1))))).toInt64 else fo), hXx, hM, hO, lv_sub hl [0, 3, 4, 5, 6] rfl⟩
      · have hgd : zk_16 (xs (5 * k + 1)) = true := by simpa using (zb_0 _).mp hd9
        refine lv_aload_n hx hb d_L12_581 rfl (lv_at hl 3 rfl) ?_
        refine lv_iconst (v := 0) hx hb d_L12_582 (by decide) ?_
        refine va_lald hx hb hKO hO 0 0 rfl rfl (vp_in_nI (n := 0) (N := 1) (by decide) (by decide)) d_L12_583 ?_
        refine lv_iload hx hb d_L12_584 (lv_at hl 0 rfl) ?_
        refine lv_i2l hx hb d_L12_586 rfl ?_
        refine W.lcmp hx hb d_L12_587 ?_
        refine lv_if_eq (tgt := 593) hx hb d_L12_588 (by decide) (fun hq => ?_) (fun hq => absurd ((lg_cmp_eq _ _).mpr (zq_eq hgd)) hq)
        refine lv_goto (tgt := 665) hx hb d_L12_593 (by decide) ?_
        refine lv_iinc (k := 2) (v := (nI ((5 * k) + 5))) hx hb d_L12_665 hl rfl (zi_inc5 _) (by decide) rfl (fun ls hl => ?_)
        have hl : lv_has ls 7 [(4, .int (nI ((5 * k) + 5))), (6, .int (if zk_16 (xs (5 * k + 1)) then zhi (v (nt (xs (5 * k + 1)))) (n (nt (xs (5 * k + 1)))) else 0)), (5, .int (zb (!zk_16 (xs (5 * k + 1))))), (3, .ref ou), (2, .ref mo), (1, .ref x), (0, .ref b)] := hl
        refine lv_goto (tgt := 23) hx hb d_L12_668 (by decide) ?_
        exact ih _ _ _ ⟨by omega, hS, v, n, mm, hh, (zb (!zk_16 (xs (5 * k + 1)))), g4, g5, (if zk_16 (xs (5 * k + 1)) then vp_updL fo (0 : Int32).toNatClampNeg (zhi (v (nt (xs (5 * k + 1)))) (n (nt (xs (5 * k + 1))))).toInt64 else fo), hXx, hM, hO, lv_sub hl [0, 3, 4, 5, 6] rfl⟩
    · refine lv_tableIn (tgt := 596) hx hb d_L12_39 (by decide) (by decide) rfl (by decide) ?_
      refine lv_aload_n hx hb d_L12_596 rfl (lv_at hl 3 rfl) ?_
      refine lv_aload_n hx hb d_L12_597 rfl (lv_at hl 4 rfl) ?_
      refine lv_iload hx hb d_L12_598 (lv_at hl 0 rfl) ?_
      refine lv_iconst (v := 1) hx hb d_L12_600 (by decide) ?_
      refine lv_iadd hx hb d_L12_601 ?_
      refine lv_topi (fun zz ez => ?_)
      obtain rfl : zz = (nI (5 * k + 1)) := ez.trans (nI_add _ 1)
      refine zs_ld hx hb hX0 hbl hbA hS (j := 5 * k + 1) (by omega) (by omega) d_L12_602 ?_
      refine lv_aload_n hx hb d_L12_603 rfl (lv_at hl 1 rfl) ?_
      refine va_calli (zc_W (As := [.ref x, .int (xs (5 * k + 1)), .ref ou]) (rest := []) S k_L82 (c_L11 l hfl D cI cB x a0 a1 a2 a3 ndX v n mm hh cL ou fo (xs (5 * k + 1)) H.size) (zl_pre hE hN hS (hXx.app hO) (hKX.app hKO)) ⟨rfl, rfl⟩ ⟨Nat.le_of_ble_eq_true rfl, Nat.le_of_ble_eq_true rfl⟩ rfl rfl hl.1 rfl (lv_room (Nat.le_of_ble_eq_true rfl)) d_L12_604 ⟨by show 13 + k + 1 ≤ 1040; omega, by show 5740 + 6 * k + 6 ≤ 13950; omega⟩) hS (fun q hq h => h.elim (hAO q) (fun h => Nat.le_trans hS.1 h)) (fun q h => h.elim (hAO q) (fun h => Nat.le_trans hS.1 h)) (fun r9 u9 t9 H1 locs ht hvm hr9 hB hz1 hk1 hS => ?_)
      subst hr9
      rw [ht] at hB
      have hM := zk_keep hM hk1 (fun q hq hlt h => h.elim (hOm q hq) (fun h => absurd hlt (Nat.not_lt.mpr h)))
      have hXx := zk_keep hXx hk1 (fun q hq hlt h => h.elim (hOx q hq) (fun h => absurd hlt (Nat.not_lt.mpr h)))
      have hO := hB
      clear hB hk1 hz1 hvm ht
      generalize H1 = H at hM hO hXx hS ⊢
      refine W.cs (cells' := 13 + (k + 1)) (slots' := 5740 + 6 * (k + 1)) (by omega) (by omega) ?_
      refine lv_istore hx hb d_L12_607 hl (by decide) rfl (fun ls hl => ?_)
      have hl : lv_has ls 7 [(5, .int (zb (!k256 (xs (5 * k + 1))))), (4, .int (nI (5 * k))), (3, .ref ou), (2, .ref mo), (1, .ref x), (0, .ref b)] := hl
      refine lv_aload_n hx hb d_L12_609 rfl (lv_at hl 3 rfl) ?_
      refine lv_aload_n hx hb d_L12_610 rfl (lv_at hl 5 rfl) ?_
      refine lv_iload hx hb d_L12_611 (lv_at hl 1 rfl) ?_
      refine lv_iconst (v := 1) hx hb d_L12_613 (by decide) ?_
      refine lv_iadd hx hb d_L12_614 ?_
      refine lv_topi (fun zz ez => ?_)
      obtain rfl : zz = (nI (5 * k + 1)) := ez.trans (nI_add _ 1)
      refine zs_ld hx hb hX0 hbl hbA hS (j := 5 * k + 1) (by omega) (by omega) d_L12_615 ?_
      refine zc_VL (C := zc_M) S k_L84 (t_M25 l D cZ mo b0 b1 b2 b3 b4 b5 ndM er v n mm hh f4 f5 (xs (5 * k + 1))) rfl (mw_pre hKM hM) ⟨Nat.le_of_ble_eq_true rfl, Nat.le_of_ble_eq_true rfl⟩ ⟨rfl, rfl⟩ rfl hl.1 rfl (Nat.le_of_ble_eq_true rfl) d_L12_616 ⟨by show 13 + (k + 1) ≤ 1040; omega, by show 5740 + 6 * (k + 1) ≤ 13950; omega⟩ hS hAM (fun rv H1 locs hq hz2 hk2 hS => ?_)
      obtain ⟨rfl, g4, g5, hM⟩ := hq
      have hXx := zk_keep hXx (fun q _ h => hk2 q h) (fun q hq _ => hMx q hq)
      have hO := zk_keep hO (fun q _ h => hk2 q h) (fun q hq _ => hMo q hq)
      clear hk2 hz2
      generalize H1 = H at hM hO hXx hS ⊢
      refine lv_istore hx hb d_L12_619 hl (by decide) rfl (fun ls hl => ?_)
      have hl : lv_has ls 7 [(6, .int (if k256 (xs (5 * k + 1)) then zoc (mm (nt (xs (5 * k + 1)))) (hh (nt (xs (5 * k + 1)))) else 0)), (5, .int (zb (!k256 (xs (5 * k + 1))))), (4, .int (nI (5 * k))), (3, .ref ou), (2, .ref mo), (1, .ref x), (0, .ref b)] := hl
      refine lv_aload_n hx hb d_L12_621 rfl (lv_at hl 4 rfl) ?_
      refine zc_Vi (C := zc_M) S k_L54 (c_M2 l D cZ mo b0 b1 b2 b3 b4 b5 ndM (zb (!k256 (xs (5 * k + 1)))) (zr v) (zr n) (zo mm) (zo hh) g4 g5) rfl (mw_pre hKM hM) ⟨Nat.le_of_ble_eq_true rfl, Nat.le_of_ble_eq_true rfl⟩ ⟨rfl, rfl⟩ rfl hl.1 rfl (Nat.le_of_ble_eq_true rfl) d_L12_622 ⟨by show 13 + (k + 1) ≤ 1040; omega, by show 5740 + 6 * (k + 1) ≤ 13950; omega⟩ ?_
      refine lv_iload hx hb d_L12_625 (lv_at hl 1 rfl) ?_
      refine lv_icmp_eq (tgt := 632) hx hb d_L12_627 (by decide) (fun hq => ?_) (fun hq => absurd rfl hq)
      refine lv_iload hx hb d_L12_632 (lv_at hl 1 rfl) ?_
      refine lv_if_ne (tgt := 649) hx hb d_L12_634 (by decide) (fun hd9 => ?_) (fun hd9 => ?_)
      · refine lv_goto (tgt := 665) hx hb d_L12_649 (by decide) ?_
        refine lv_iinc (k := 2) (v := (nI ((5 * k) + 5))) hx hb d_L12_665 hl rfl (zi_inc5 _) (by decide) rfl (fun ls hl => ?_)
        have hl : lv_has ls 7 [(4, .int (nI ((5 * k) + 5))), (6, .int (if k256 (xs (5 * k + 1)) then zoc (mm (nt (xs (5 * k + 1)))) (hh (nt (xs (5 * k + 1)))) else 0)), (5, .int (zb (!k256 (xs (5 * k + 1))))), (3, .ref ou), (2, .ref mo), (1, .ref x), (0, .ref b)] := hl
        refine lv_goto (tgt := 23) hx hb d_L12_668 (by decide) ?_
        exact ih _ _ _ ⟨by omega, hS, v, n, mm, hh, (zb (!k256 (xs (5 * k + 1)))), g4, g5, (if k256 (xs (5 * k + 1)) then vp_updL fo (0 : Int32).toNatClampNeg (zoc (mm (nt (xs (5 * k + 1)))) (hh (nt (xs (5 * k + 1))))).toInt64 else fo), hXx, hM, hO, lv_sub hl [0, 3, 4, 5, 6] rfl⟩
      · have hgd : k256 (xs (5 * k + 1)) = true := by simpa using (zb_0 _).mp hd9
        refine lv_aload_n hx hb d_L12_637 rfl (lv_at hl 3 rfl) ?_
        refine lv_iconst (v := 0) hx hb d_L12_638 (by decide) ?_
        refine va_lald hx hb hKO hO 0 0 rfl rfl (vp_in_nI (n := 0) (N := 1) (by decide) (by decide)) d_L12_639 ?_
        refine lv_iload hx hb d_L12_640 (lv_at hl 0 rfl) ?_
        refine lv_i2l hx hb d_L12_642 rfl ?_
        refine W.lcmp hx hb d_L12_643 ?_
        refine lv_if_eq (tgt := 649) hx hb d_L12_644 (by decide) (fun hq => ?_) (fun hq => absurd ((lg_cmp_eq _ _).mpr (zq_eq hgd)) hq)
        refine lv_goto (tgt := 665) hx hb d_L12_649 (by decide) ?_
        refine lv_iinc (k := 2) (v := (nI ((5 * k) + 5))) hx hb d_L12_665 hl rfl (zi_inc5 _) (by decide) rfl (fun ls hl => ?_)
        have hl : lv_has ls 7 [(4, .int (nI ((5 * k) + 5))), (6, .int (if k256 (xs (5 * k + 1)) then zoc (mm (nt (xs (5 * k + 1)))) (hh (nt (xs (5 * k + 1)))) else 0)), (5, .int (zb (!k256 (xs (5 * k + 1))))), (3, .ref ou), (2, .ref mo), (1, .ref x), (0, .ref b)] := hl
        refine lv_goto (tgt := 23) hx hb d_L12_668 (by decide) ?_
        exact ih _ _ _ ⟨by omega, hS, v, n, mm, hh, (zb (!k256 (xs (5 * k + 1)))), g4, g5, (if k256 (xs (5 * k + 1)) then vp_updL fo (0 : Int32).toNatClampNeg (zoc (mm (nt (xs (5 * k + 1)))) (hh (nt (xs (5 * k + 1))))).toInt64 else fo), hXx, hM, hO, lv_sub hl [0, 3, 4, 5, 6] rfl⟩
    · refine lv_tableIn (tgt := 652) hx hb d_L12_39 (by decide) (by decide) rfl (by decide) ?_
      refine W.widen (k := 13 + (k + 1)) (n := 5740 + 6 * (k + 1)) (by omega) (by omega) ?_
      refine lv_aload_n hx hb d_L12_652 rfl (lv_at hl 3 rfl) ?_
      refine zc_Vi (C := zc_X) S k_L85 (c_X24 l D cI cB x a0 a1 a2 a3 ndX v n mm hh) rfl (xw_pre hKX hXx) ⟨Nat.le_of_ble_eq_true rfl, Nat.le_of_ble_eq_true rfl⟩ ⟨rfl, rfl⟩ rfl hl.1 rfl (Nat.le_of_ble_eq_true rfl) d_L12_653 ⟨by show 13 + (k + 1) ≤ 1040; omega, by show 5740 + 6 * (k + 1) ≤ 13950; omega⟩ ?_
      refine lv_aload_n hx hb d_L12_656 rfl (lv_at hl 2 rfl) ?_
      refine zc_VL (C := zc_M) S k_L88 (c_M26 l D cZ mo b0 b1 b2 b3 b4 b5 ndM er v n mm hh f4 f5) rfl (mw_pre hKM hM) ⟨Nat.le_of_ble_eq_true rfl, Nat.le_of_ble_eq_true rfl⟩ ⟨rfl, rfl⟩ rfl hl.1 rfl (Nat.le_of_ble_eq_true rfl) d_L12_657 ⟨by show 13 + (k + 1) ≤ 1040; omega, by show 5740 + 6 * (k + 1) ≤ 13950; omega⟩ hS hAM (fun rv H1 locs hq hz2 hk2 hS => ?_)
      obtain ⟨rfl, g4, g5, hM⟩ := hq
      have hXx := zk_keep hXx (fun q _ h => hk2 q h) (fun q hq _ => hMx q hq)
      have hO := zk_keep hO (fun q _ h => hk2 q h) (fun q hq _ => hMo q hq)
      clear hk2 hz2
      generalize H1 = H at hM hO hXx hS ⊢
      refine lv_icmp_eq (tgt := 665) hx hb d_L12_660 (by decide) (fun hq => ?_) (fun hq => absurd rfl hq)
      refine lv_iinc (k := 0) (v := (nI ((5 * k) + 5))) hx hb d_L12_665 hl rfl (zi_inc5 _) (by decide) rfl (fun ls hl => ?_)
      have hl : lv_has ls 7 [(4, .int (nI ((5 * k) + 5))), (3, .ref ou), (2, .ref mo), (1, .ref x), (0, .ref b)] := hl
      refine lv_goto (tgt := 23) hx hb d_L12_668 (by decide) ?_
      exact ih _ _ _ ⟨by omega, hS, v, n, mm, hh, 0, g4, g5, fo, hXx, hM, hO, lv_sub hl [0, 1, 2, 3, 4] rfl⟩
    · refine lv_tableOut (tgt := 665) hx hb d_L12_39 (Or.inr (by rw [nI_toInt (by omega)]; omega)) (by decide) ?_
      refine W.widen (k := 13 + (k + 1)) (n := 5740 + 6 * (k + 1)) (by omega) (by omega) ?_
      refine lv_iinc (k := 0) (v := (nI ((5 * k) + 5))) hx hb d_L12_665 hl rfl (zi_inc5 _) (by decide) rfl (fun ls hl => ?_)
      have hl : lv_has ls 7 [(4, .int (nI ((5 * k) + 5))), (3, .ref ou), (2, .ref mo), (1, .ref x), (0, .ref b)] := hl
      refine lv_goto (tgt := 23) hx hb d_L12_668 (by decide) ?_
      exact ih _ _ _ ⟨by omega, hS, v, n, mm, hh, er, f4, f5, fo, hXx, hM, hO, lv_sub hl [0, 1, 2, 3, 4] rfl⟩
end
section
set_option maxHeartbeats 4000000 in
theorem lw_walk (l : Launch) (hfl : l.flags = flags0) (b : Addr) (xs : List Int32) : MetFree l x (headSpec (Jvm.Cond.code x code maxLocals ret :: tables_1) room_1) (lw_P b xs) (fun _ _ _ _ _ => True) lw_Q := by
  refine MetFree.of_bodyS (code := code) (maxLocals := maxLocals) (ret := ret) (by decide) ?_ ?_
  · intro args s m h hn
    obtain ⟨meth, c, h1, h2, h3, h4, h5, h6, -, -⟩ := Cond.code_spec hn (atoms_spec (ws := Jvm.Cond.code x code maxLocals ret :: tables_1) h _ List.mem_cons_self)
    exact ⟨meth, c, h1, h2, h3, h4, h5, h6⟩
  · intro p e s m args below meth c s₁ B hml0 hP _
    obtain ⟨rfl, hx, hbd, hgv⟩ := hP
    obtain ⟨scr, harrAt, hlist, hof, hsmall⟩ := hx
    obtain ⟨hcb, hkn, -, -⟩ := State.arrayAt?_spec harrAt
    have hown : s.vm.findClass R_law = some m.cls := findClass_of_methodNamed B.named
    have hts0 : ∀ c ∈ (Jvm.Cond.code x code maxLocals ret :: tables_1), c.before #[Value.ref b] s = true := atoms_spec (ws := Jvm.Cond.code x code maxLocals ret :: tables_1) B.pre
    have hts : ∀ w ∈ lw_tbl, w.before #[Value.ref b] s = true := k2_hts_sels lw_privs (fun w hw => hts0 w (List.mem_cons_of_mem _ hw)) lw_privs_ok
    have hml : c.maxLocals = 7 := B.maxLocals_eq (hts0 _ List.mem_cons_self)
    have X₀ : Stand p l e room_1 s m #[Value.ref b] below meth c s₁ [] 0 0 := Stand.of_body B
    have hh0 : s₁.heap = s.heap := by rw [B.state]; rfl
    have hsz : scr.slots.size = xs.length := by rw [← Array.length_toList, hlist, List.length_map]
    have hval : ∀ j : Nat, j < xs.length → scr.slots[j]? = some (.int (xs.getD j 0)) := fun j hj => by
      rw [← Array.getElem?_toList, hlist]
      simp [hj]
    have hbl : b < s.heap.size := (Array.getElem?_eq_some_iff.mp hcb).1
    have hX : va_X b xs.length (fun j => xs.getD j 0) s s.heap := ⟨scr, hcb, hof, hkn, hsz, hval⟩
    have K : W p l e room_1 s m #[Value.ref b] below meth c s₁.heap [] 0 0 (lw_Z below #[Value.ref b] s) (entryFrame m ([Value.ref b] : List Value).toArray 7) := by
      rw [hh0]
      exact whole_start l hfl hbd ⟨B.exec, B.bytes, B.returns, hml, hown, hts, hX, hbl, B.notSynchronized, hgv⟩
    obtain ⟨t, a1, o, b1, b2, b3⟩ := K s₁ rfl X₀
    exact ⟨t, o, a1, b1, b2, b3⟩
theorem lw_pre_spec {args : Array Value} {s : State} (h : (Jvm.Cond.and given_1 narrow_1).before args s = true) (hr : rest_1_c.before args s = true) : ∃ (b : Addr) (xs : List Int32), lw_P b xs args s := by
  have hs := flat_of_before _ h
  have hq := flat_of_before _ hr
  have hc : (Cond.count 1).before args s = true := hs _ (by decide +kernel)
  have harr : (Cond.arrayOf (.arg 0) .int).before args s = true := hs _ (by decide +kernel)
  have hle : (Cond.le (.length (.arg 0)) (.int 2560)).before args s = true := hs _ (by decide +kernel)
  have hlen : (Cond.isInt (.length (.arg 0))).before args s = true := hq _ (by decide +kernel)
  have hall : (Cond.all (.arg 0) (.isInt (.elem (.arg 0) (.index 0)))).before args s = true := hq _ (by decide +kernel)
  obtain ⟨b, xs, hb, hx⟩ := State.ints_of_pre rfl harr hlen hall
  have hsm : xs.length < 2 ^ 31 := hx.choose_spec.2.2.2
  have hev : (Term.length (.arg 0)).eval args s none [] s = some (.int xs.length.toInt32) := hx.length_eval hb
  have hv := Cond.le_ints hev (show (Term.int 2560).eval args s none [] s = some (.int 2560) from rfl)
  have hd : xs.length.toInt32 ≤ 2560 := by
    simpa [Cond.before, Cond.holds, hv] using hle
  have hN : xs.length ≤ 2560 := (Int32.ofNat_le_ofNat hsm (by decide)).mp (show Int32.ofNat xs.length ≤ Int32.ofNat 2560 from hd)
  exact ⟨b, xs, Cond.one_arg hc (show args[0]? = some (.ref b) from hb), hx, hN, h⟩
theorem lw_comes (l : Launch) (hfl : l.flags = flags0) : Comes l x (Jvm.Cond.code x code maxLocals ret :: tables_1) room_1 (fun tb e args s => Calls_1 tb e args s ∧ rest_1 tb e args s ∧ Pre_1 tb e args s)
    (fun _ _ args s o t => lw_Q args s o t) := by
  intro p e ha hc hk s m args below hf hfit hheap happ hpre
  obtain ⟨b, xs, hP⟩ := lw_pre_spec hpre.2.2 hpre.2.1
  obtain ⟨k, o, h1, h2, h3, hQ⟩ := lw_walk l hfl b xs p e ha hc hk s m args below hf ((Spec.applies_iff_loose hf).mp happ).1 hP trivial
  exact ⟨k, o, h1, h2, h3, hQ⟩
theorem lw_frame {s t : State} {o : Outcome} {args : Array Value} (h : Framed s o t [] 1040 13950) :
    Framed s o t (fieldLocs frame_1_writes args s ++ arrayLocs frame_1_arrays args s ++ staticLocs frame_1_statics s) 1040 13950 := h
theorem lw_limb (L : Cond) (hL : ∀ (args : Array Value) (s t : State), L.after args s (.returned (some (.int 1))) t = true) :
    ArmFor flags0 classFile x code maxLocals ret World_1 tables_1 room_1 Calls_1 rest_1 Pre_1
      (fun tb e a s o t => postC L tb e a s o t ∧ Framed s o t (fieldLocs frame_1_writes a s ++ arrayLocs frame_1_arrays a s ++ staticLocs frame_1_statics s) 1040 13950) := by
  intro l hfl _ _ p e ha hc hk s m args below hf hfit hheap happ hpre
  obtain ⟨k, o, h1, h2, h3, rfl, hF⟩ := lw_comes l hfl p e ha hc hk s m args below hf hfit hheap happ hpre
  exact ⟨k, _, h1, h2, h3, hL args s _, lw_frame hF⟩
theorem i_vc : Claimed_1_1 ∧ Claimed_1_2 := ⟨lw_limb limb_1_1 (fun args s t => by simp [limb_1_1, Cond.after, Cond.holds, Cond.value]), lw_limb limb_1_2 (fun args s t => Cond.after_iff.mpr (by
  first | (rw [show limb_1_2 = Cond.eq .result (.int 1) from rfl, Cond.eq_ints (x := 1) (y := 1) rfl rfl]; simp; done) | (simp [limb_1_2, Cond.value, Term.eval]; done)))⟩
end
