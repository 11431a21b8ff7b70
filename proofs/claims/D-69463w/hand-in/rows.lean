section
def lw_okq (q : MethodName × Nat) : Prop := (q.1.cls ≠ "java/lang/invoke/MethodHandle" ∧ q.1.cls ≠ "java/lang/invoke/VarHandle") ∧ Cond.instantiable q.1.cls q.2 ∈ tables_1 ∧ Cond.privateMethod q.1 ∈ tables_1 ∧ Cond.instanceMethod q.1 ∈ tables_1
theorem lw_p0 : lw_okq (⟨"RequestCutter$Cutter", "cutsPlain", "([BII)Z"⟩, 6) := ⟨⟨by decide +kernel, by decide +kernel⟩, List.mem_of_getElem? (i := 20) (by decide +kernel), List.mem_of_getElem? (i := 100) (by decide +kernel), List.mem_of_getElem? (i := 101) (by decide +kernel)⟩
theorem lw_p1 : lw_okq (⟨"RequestCutter$Cutter", "isLine", "([BIILjava/lang/String;)Z"⟩, 6) := ⟨⟨by decide +kernel, by decide +kernel⟩, List.mem_of_getElem? (i := 20) (by decide +kernel), List.mem_of_getElem? (i := 106) (by decide +kernel), List.mem_of_getElem? (i := 107) (by decide +kernel)⟩
theorem lw_p2 : lw_okq (⟨"RequestCutterModel", "lay", "(I)V"⟩, 11) := ⟨⟨by decide +kernel, by decide +kernel⟩, List.mem_of_getElem? (i := 205) (by decide +kernel), List.mem_of_getElem? (i := 250) (by decide +kernel), List.mem_of_getElem? (i := 251) (by decide +kernel)⟩
theorem lw_p3 : lw_okq (⟨"RequestCutterModel", "go", "(I)V"⟩, 11) := ⟨⟨by decide +kernel, by decide +kernel⟩, List.mem_of_getElem? (i := 205) (by decide +kernel), List.mem_of_getElem? (i := 266) (by decide +kernel), List.mem_of_getElem? (i := 267) (by decide +kernel)⟩
theorem lw_p4 : lw_okq (⟨"RequestCutterModel", "cutTold", "()Z"⟩, 11) := ⟨⟨by decide +kernel, by decide +kernel⟩, List.mem_of_getElem? (i := 205) (by decide +kernel), List.mem_of_getElem? (i := 274) (by decide +kernel), List.mem_of_getElem? (i := 275) (by decide +kernel)⟩
theorem lw_p5 : lw_okq (⟨"RequestCutterModel", "line", "()I"⟩, 11) := ⟨⟨by decide +kernel, by decide +kernel⟩, List.mem_of_getElem? (i := 205) (by decide +kernel), List.mem_of_getElem? (i := 278) (by decide +kernel), List.mem_of_getElem? (i := 279) (by decide +kernel)⟩
theorem lw_p6 : lw_okq (⟨"RequestCutterModel", "told", "()Z"⟩, 11) := ⟨⟨by decide +kernel, by decide +kernel⟩, List.mem_of_getElem? (i := 205) (by decide +kernel), List.mem_of_getElem? (i := 284) (by decide +kernel), List.mem_of_getElem? (i := 285) (by decide +kernel)⟩
theorem lw_p7 : lw_okq (⟨"RequestCutterModel", "must", "(I)I"⟩, 11) := ⟨⟨by decide +kernel, by decide +kernel⟩, List.mem_of_getElem? (i := 205) (by decide +kernel), List.mem_of_getElem? (i := 288) (by decide +kernel), List.mem_of_getElem? (i := 289) (by decide +kernel)⟩
theorem lw_p8 : lw_okq (⟨"RequestCutterModel", "word", "(II)V"⟩, 11) := ⟨⟨by decide +kernel, by decide +kernel⟩, List.mem_of_getElem? (i := 205) (by decide +kernel), List.mem_of_getElem? (i := 292) (by decide +kernel), List.mem_of_getElem? (i := 293) (by decide +kernel)⟩
theorem lw_p9 : lw_okq (⟨"RequestCutterModel", "cutLine", "()Z"⟩, 11) := ⟨⟨by decide +kernel, by decide +kernel⟩, List.mem_of_getElem? (i := 205) (by decide +kernel), List.mem_of_getElem? (i := 296) (by decide +kernel), List.mem_of_getElem? (i := 297) (by decide +kernel)⟩
def lw_privs_1 : List (MethodName × Nat) := [(⟨"RequestCutter$Cutter", "cutsPlain", "([BII)Z"⟩, 6), (⟨"RequestCutter$Cutter", "isLine", "([BIILjava/lang/String;)Z"⟩, 6), (⟨"RequestCutterModel", "lay", "(I)V"⟩, 11), (⟨"RequestCutterModel", "go", "(I)V"⟩, 11), (⟨"RequestCutterModel", "cutTold", "()Z"⟩, 11), (⟨"RequestCutterModel", "line", "()I"⟩, 11), (⟨"RequestCutterModel", "told", "()Z"⟩, 11), (⟨"RequestCutterModel", "must", "(I)I"⟩, 11), (⟨"RequestCutterModel", "word", "(II)V"⟩, 11), (⟨"RequestCutterModel", "cutLine", "()Z"⟩, 11)]
theorem lw_r1 : ∀ q ∈ lw_privs_1, lw_okq q := List.forall_mem_cons.mpr ⟨lw_p0, List.forall_mem_cons.mpr ⟨lw_p1, List.forall_mem_cons.mpr ⟨lw_p2, List.forall_mem_cons.mpr ⟨lw_p3, List.forall_mem_cons.mpr ⟨lw_p4, List.forall_mem_cons.mpr ⟨lw_p5, List.forall_mem_cons.mpr ⟨lw_p6, List.forall_mem_cons.mpr ⟨lw_p7, List.forall_mem_cons.mpr ⟨lw_p8, List.forall_mem_cons.mpr ⟨lw_p9, fun _ h => absurd h List.not_mem_nil⟩⟩⟩⟩⟩⟩⟩⟩⟩⟩
def lw_privs : List (MethodName × Nat) := lw_privs_1
def lw_tbl : List Cond := k2_sels lw_privs ++ tables_1
theorem lw_privs_ok : ∀ q ∈ lw_privs, lw_okq q := lw_r1

def gd_tbl : List Cond := lw_tbl.filter goodWord
theorem gd_good : ∀ w ∈ gd_tbl, (w.onTables && w.keeps) = true ∨ ∃ ty, w = .arrayClass ty := fun w h => good_of_word (List.mem_filter.mp h).2
theorem gd_sub : ∀ w ∈ gd_tbl, w ∈ lw_tbl := fun w h => (List.mem_filter.mp h).1
theorem gd_t {w : Cond} {i : Nat} (h : tables_1[i]? = some w) (g : goodWord w = true) : w ∈ gd_tbl := List.mem_filter.mpr ⟨List.mem_append_right _ (List.mem_of_getElem? h), g⟩
theorem gd_s {w : Cond} {i : Nat} (h : (k2_sels lw_privs)[i]? = some w) (g : goodWord w = true) : w ∈ gd_tbl := List.mem_filter.mpr ⟨List.mem_append_left _ (List.mem_of_getElem? h), g⟩
def F_X : u_T := fun k => match k with
  | 0 => ("RequestCutter", "tape", "[B", true)
  | 1 => ("RequestCutter", "length", "I", false)
  | 2 => ("RequestCutter", "input", "[B", true)
  | 3 => ("RequestCutter", "many", "I", false)
  | 4 => ("RequestCutter", "cutter", "LRequestCutter$Cutter;", true)
  | 5 => ("RequestCutter", "kept", "[B", true)
  | 6 => ("RequestCutter", "words", "I", false)
  | _ => ("RequestCutter", "fault", "I", false)
def t_X : Nat → FieldType := fun k => match k with
  | 0 => .array .byte
  | 1 => .int
  | 2 => .array .byte
  | 3 => .int
  | 4 => .object "RequestCutter$Cutter"
  | 5 => .array .byte
  | 6 => .int
  | _ => .int
theorem n_X : ∀ a, a < 8 → ∀ b, b < 8 → a ≠ b → (F_X a).2.1 ≠ (F_X b).2.1 := by decide +kernel
theorem t_X_ok : ∀ k, k < 8 → parseFieldDescriptor (F_X k).2.2.1 = some (t_X k) := by decide +kernel
theorem i_X : ∀ w ∈ u_ws "RequestCutter" F_X 8, w ∈ gd_tbl := by decide +kernel
def F_C : u_T := fun k => match k with
  | 0 => ("RequestCutter$Cutter", "at", "[I", true)
  | 1 => ("RequestCutter$Cutter", "size", "[I", true)
  | 2 => ("RequestCutter$Cutter", "words", "I", false)
  | 3 => ("RequestCutter$Cutter", "end", "I", false)
  | 4 => ("RequestCutter$Cutter", "fault", "Ljava/lang/String;", false)
  | _ => ("RequestCutter$Cutter", "number", "I", false)
def t_C : Nat → FieldType := fun k => match k with
  | 0 => .array .int
  | 1 => .array .int
  | 2 => .int
  | 3 => .int
  | 4 => .object "java/lang/String"
  | _ => .int
theorem n_C : ∀ a, a < 6 → ∀ b, b < 6 → a ≠ b → (F_C a).2.1 ≠ (F_C b).2.1 := by decide +kernel
theorem t_C_ok : ∀ k, k < 6 → parseFieldDescriptor (F_C k).2.2.1 = some (t_C k) := by decide +kernel
theorem i_C : ∀ w ∈ u_ws "RequestCutter$Cutter" F_C 6, w ∈ gd_tbl := by decide +kernel
def F_M : u_T := fun k => match k with
  | 0 => ("RequestCutterModel", "tape", "[B", true)
  | 1 => ("RequestCutterModel", "input", "[B", true)
  | 2 => ("RequestCutterModel", "kept", "[B", true)
  | 3 => ("RequestCutterModel", "from", "[I", true)
  | 4 => ("RequestCutterModel", "long1", "[I", true)
  | 5 => ("RequestCutterModel", "taped", "I", false)
  | 6 => ("RequestCutterModel", "waits", "I", false)
  | 7 => ("RequestCutterModel", "words", "I", false)
  | 8 => ("RequestCutterModel", "keptSize", "I", false)
  | 9 => ("RequestCutterModel", "fault", "I", false)
  | _ => ("RequestCutterModel", "at", "I", false)
def t_M : Nat → FieldType := fun k => match k with
  | 0 => .array .byte
  | 1 => .array .byte
  | 2 => .array .byte
  | 3 => .array .int
  | 4 => .array .int
  | 5 => .int
  | 6 => .int
  | 7 => .int
  | 8 => .int
  | 9 => .int
  | _ => .int
theorem n_M : ∀ a, a < 11 → ∀ b, b < 11 → a ≠ b → (F_M a).2.1 ≠ (F_M b).2.1 := by decide +kernel
theorem t_M_ok : ∀ k, k < 11 → parseFieldDescriptor (F_M k).2.2.1 = some (t_M k) := by decide +kernel
theorem i_M : ∀ w ∈ u_ws "RequestCutterModel" F_M 11, w ∈ gd_tbl := by decide +kernel
abbrev kl : List vw_C := [("RequestCutter", F_X, 8), ("RequestCutter$Cutter", F_C, 6), ("RequestCutterModel", F_M, 11)]
theorem k_0 : Cond.initialized "RequestCutterLaw" ∈ gd_tbl := gd_t (i := 0) (by decide +kernel) (by decide +kernel)
theorem k_1 : Cond.initialized "RequestCutter" ∈ gd_tbl := gd_t (i := 1) (by decide +kernel) (by decide +kernel)
theorem k_2 : Cond.initialized "RequestCutter$Cutter" ∈ gd_tbl := gd_t (i := 2) (by decide +kernel) (by decide +kernel)
theorem k_3 : Cond.initialized "RequestCutterModel" ∈ gd_tbl := gd_t (i := 3) (by decide +kernel) (by decide +kernel)
theorem k_4 : Cond.initialized "java/lang/System" ∈ gd_tbl := gd_t (i := 4) (by decide +kernel) (by decide +kernel)
theorem k_5 : Cond.initialized "java/lang/Math" ∈ gd_tbl := gd_t (i := 5) (by decide +kernel) (by decide +kernel)
theorem k_6 : Cond.initialized "java/lang/String" ∈ gd_tbl := gd_t (i := 6) (by decide +kernel) (by decide +kernel)
theorem k_10 : Cond.classLink "RequestCutterLaw" 7 "RequestCutter" ∈ gd_tbl := gd_t (i := 10) (by decide +kernel) (by decide +kernel)
theorem k_11 : Cond.instantiable "RequestCutter" 8 ∈ gd_tbl := gd_t (i := 11) (by decide +kernel) (by decide +kernel)
theorem k_12 : Cond.methodLink "RequestCutterLaw" 9 ⟨"RequestCutter", "<init>", "()V"⟩ ∈ gd_tbl := gd_t (i := 12) (by decide +kernel) (by decide +kernel)
theorem k_13 : Cond.instanceMethod ⟨"RequestCutter", "<init>", "()V"⟩ ∈ gd_tbl := gd_t (i := 13) (by decide +kernel) (by decide +kernel)
theorem k_14 : Cond.code ⟨"RequestCutter", "<init>", "()V"⟩ prog_1_method_1_code 1 none ∈ gd_tbl := gd_t (i := 14) (by decide +kernel) (by decide +kernel)
theorem k_15 : Cond.methodLink "RequestCutter" 1 ⟨"java/lang/Object", "<init>", "()V"⟩ ∈ gd_tbl := gd_t (i := 15) (by decide +kernel) (by decide +kernel)
theorem k_16 : Cond.instanceMethod ⟨"java/lang/Object", "<init>", "()V"⟩ ∈ gd_tbl := gd_t (i := 16) (by decide +kernel) (by decide +kernel)
theorem k_17 : Cond.code ⟨"java/lang/Object", "<init>", "()V"⟩ object_method_1_code 1 none ∈ gd_tbl := gd_t (i := 17) (by decide +kernel) (by decide +kernel)
theorem k_18 : Cond.constant "RequestCutter" 13 65536 ∈ gd_tbl := gd_t (i := 18) (by decide +kernel) (by decide +kernel)
theorem k_19 : Cond.classLink "RequestCutter" 17 "RequestCutter$Cutter" ∈ gd_tbl := gd_t (i := 19) (by decide +kernel) (by decide +kernel)
theorem k_20 : Cond.instantiable "RequestCutter$Cutter" 6 ∈ gd_tbl := gd_t (i := 20) (by decide +kernel) (by decide +kernel)
theorem k_22 : Cond.instanceMethod ⟨"RequestCutter$Cutter", "<init>", "()V"⟩ ∈ gd_tbl := gd_t (i := 22) (by decide +kernel) (by decide +kernel)
theorem k_23 : Cond.code ⟨"RequestCutter$Cutter", "<init>", "()V"⟩ prog_2_method_1_code 1 none ∈ gd_tbl := gd_t (i := 23) (by decide +kernel) (by decide +kernel)
theorem k_24 : Cond.methodLink "RequestCutter$Cutter" 1 ⟨"java/lang/Object", "<init>", "()V"⟩ ∈ gd_tbl := gd_t (i := 24) (by decide +kernel) (by decide +kernel)
theorem k_25 : Cond.fieldLink "RequestCutter$Cutter" 7 "RequestCutter$Cutter" "at" "[I" ∈ gd_tbl := gd_t (i := 25) (by decide +kernel) (by decide +kernel)
theorem k_26 : Cond.fieldLink "RequestCutter" 82 "RequestCutter$Cutter" "at" "[I" ∈ gd_tbl := gd_t (i := 26) (by decide +kernel) (by decide +kernel)
theorem k_27 : Cond.fieldLink "RequestCutter$Cutter" 13 "RequestCutter$Cutter" "size" "[I" ∈ gd_tbl := gd_t (i := 27) (by decide +kernel) (by decide +kernel)
theorem k_28 : Cond.fieldLink "RequestCutter" 78 "RequestCutter$Cutter" "size" "[I" ∈ gd_tbl := gd_t (i := 28) (by decide +kernel) (by decide +kernel)
theorem k_29 : Cond.fieldLink "RequestCutter$Cutter" 27 "RequestCutter$Cutter" "words" "I" ∈ gd_tbl := gd_t (i := 29) (by decide +kernel) (by decide +kernel)
theorem k_30 : Cond.fieldLink "RequestCutter" 70 "RequestCutter$Cutter" "words" "I" ∈ gd_tbl := gd_t (i := 30) (by decide +kernel) (by decide +kernel)
theorem k_31 : Cond.fieldLink "RequestCutter$Cutter" 24 "RequestCutter$Cutter" "end" "I" ∈ gd_tbl := gd_t (i := 31) (by decide +kernel) (by decide +kernel)
theorem k_32 : Cond.fieldLink "RequestCutter" 71 "RequestCutter$Cutter" "end" "I" ∈ gd_tbl := gd_t (i := 32) (by decide +kernel) (by decide +kernel)
theorem k_33 : Cond.fieldLink "RequestCutter$Cutter" 16 "RequestCutter$Cutter" "fault" "Ljava/lang/String;" ∈ gd_tbl := gd_t (i := 33) (by decide +kernel) (by decide +kernel)
theorem k_34 : Cond.fieldLink "RequestCutter" 50 "RequestCutter$Cutter" "fault" "Ljava/lang/String;" ∈ gd_tbl := gd_t (i := 34) (by decide +kernel) (by decide +kernel)
theorem k_35 : Cond.fieldLink "RequestCutter$Cutter" 20 "RequestCutter$Cutter" "number" "I" ∈ gd_tbl := gd_t (i := 35) (by decide +kernel) (by decide +kernel)
theorem k_49 : Cond.arrayClass FieldType.byte ∈ gd_tbl := gd_t (i := 49) (by decide +kernel) (by decide +kernel)
theorem k_50 : Cond.arrayClass FieldType.int ∈ gd_tbl := gd_t (i := 50) (by decide +kernel) (by decide +kernel)
theorem k_51 : Cond.fieldLink "RequestCutter" 9 "RequestCutter" "tape" "[B" ∈ gd_tbl := gd_t (i := 51) (by decide +kernel) (by decide +kernel)
theorem k_52 : Cond.fieldLink "RequestCutter" 27 "RequestCutter" "length" "I" ∈ gd_tbl := gd_t (i := 52) (by decide +kernel) (by decide +kernel)
theorem k_53 : Cond.fieldLink "RequestCutter" 14 "RequestCutter" "input" "[B" ∈ gd_tbl := gd_t (i := 53) (by decide +kernel) (by decide +kernel)
theorem k_54 : Cond.fieldLink "RequestCutter" 31 "RequestCutter" "many" "I" ∈ gd_tbl := gd_t (i := 54) (by decide +kernel) (by decide +kernel)
theorem k_55 : Cond.fieldLink "RequestCutter" 20 "RequestCutter" "cutter" "LRequestCutter$Cutter;" ∈ gd_tbl := gd_t (i := 55) (by decide +kernel) (by decide +kernel)
theorem k_56 : Cond.fieldLink "RequestCutter" 24 "RequestCutter" "kept" "[B" ∈ gd_tbl := gd_t (i := 56) (by decide +kernel) (by decide +kernel)
theorem k_57 : Cond.fieldLink "RequestCutter" 40 "RequestCutter" "words" "I" ∈ gd_tbl := gd_t (i := 57) (by decide +kernel) (by decide +kernel)
theorem k_58 : Cond.fieldLink "RequestCutter" 43 "RequestCutter" "fault" "I" ∈ gd_tbl := gd_t (i := 58) (by decide +kernel) (by decide +kernel)
theorem k_76 : Cond.methodLink "RequestCutterLaw" 13 ⟨"RequestCutter", "feed", "(IIIII)Z"⟩ ∈ gd_tbl := gd_t (i := 76) (by decide +kernel) (by decide +kernel)
theorem k_77 : Cond.instanceMethod ⟨"RequestCutter", "feed", "(IIIII)Z"⟩ ∈ gd_tbl := gd_t (i := 77) (by decide +kernel) (by decide +kernel)
theorem k_78 : Cond.selects "RequestCutter" ⟨"RequestCutter", "feed", "(IIIII)Z"⟩ ⟨"RequestCutter", "feed", "(IIIII)Z"⟩ ∈ gd_tbl := gd_t (i := 78) (by decide +kernel) (by decide +kernel)
theorem k_79 : Cond.code ⟨"RequestCutter", "feed", "(IIIII)Z"⟩ prog_1_method_2_code 8 (some .boolean) ∈ gd_tbl := gd_t (i := 79) (by decide +kernel) (by decide +kernel)
theorem k_80 : Cond.methodLink "RequestCutterLaw" 18 ⟨"RequestCutter", "end", "(I)Z"⟩ ∈ gd_tbl := gd_t (i := 80) (by decide +kernel) (by decide +kernel)
theorem k_81 : Cond.instanceMethod ⟨"RequestCutter", "end", "(I)Z"⟩ ∈ gd_tbl := gd_t (i := 81) (by decide +kernel) (by decide +kernel)
theorem k_82 : Cond.selects "RequestCutter" ⟨"RequestCutter", "end", "(I)Z"⟩ ⟨"RequestCutter", "end", "(I)Z"⟩ ∈ gd_tbl := gd_t (i := 82) (by decide +kernel) (by decide +kernel)
theorem k_83 : Cond.code ⟨"RequestCutter", "end", "(I)Z"⟩ prog_1_method_3_code 2 (some .boolean) ∈ gd_tbl := gd_t (i := 83) (by decide +kernel) (by decide +kernel)
theorem k_84 : Cond.methodLink "RequestCutterLaw" 23 ⟨"RequestCutter", "arrive", "()I"⟩ ∈ gd_tbl := gd_t (i := 84) (by decide +kernel) (by decide +kernel)
theorem k_85 : Cond.instanceMethod ⟨"RequestCutter", "arrive", "()I"⟩ ∈ gd_tbl := gd_t (i := 85) (by decide +kernel) (by decide +kernel)
theorem k_86 : Cond.selects "RequestCutter" ⟨"RequestCutter", "arrive", "()I"⟩ ⟨"RequestCutter", "arrive", "()I"⟩ ∈ gd_tbl := gd_t (i := 86) (by decide +kernel) (by decide +kernel)
theorem k_87 : Cond.code ⟨"RequestCutter", "arrive", "()I"⟩ prog_1_method_4_code 2 (some .int) ∈ gd_tbl := gd_t (i := 87) (by decide +kernel) (by decide +kernel)
theorem k_88 : Cond.methodLink "RequestCutter" 34 ⟨"java/lang/System", "arraycopy", "(Ljava/lang/Object;ILjava/lang/Object;II)V"⟩ ∈ gd_tbl := gd_t (i := 88) (by decide +kernel) (by decide +kernel)
theorem k_89 : Cond.static ⟨"java/lang/System", "arraycopy", "(Ljava/lang/Object;ILjava/lang/Object;II)V"⟩ ∈ gd_tbl := gd_t (i := 89) (by decide +kernel) (by decide +kernel)
theorem k_90 : Cond.native ⟨"java/lang/System", "arraycopy", "(Ljava/lang/Object;ILjava/lang/Object;II)V"⟩ ∈ gd_tbl := gd_t (i := 90) (by decide +kernel) (by decide +kernel)
theorem k_91 : Cond.methodLink "RequestCutterLaw" 28 ⟨"RequestCutter", "cut", "()I"⟩ ∈ gd_tbl := gd_t (i := 91) (by decide +kernel) (by decide +kernel)
theorem k_92 : Cond.instanceMethod ⟨"RequestCutter", "cut", "()I"⟩ ∈ gd_tbl := gd_t (i := 92) (by decide +kernel) (by decide +kernel)
theorem k_93 : Cond.selects "RequestCutter" ⟨"RequestCutter", "cut", "()I"⟩ ⟨"RequestCutter", "cut", "()I"⟩ ∈ gd_tbl := gd_t (i := 93) (by decide +kernel) (by decide +kernel)
theorem k_94 : Cond.code ⟨"RequestCutter", "cut", "()I"⟩ prog_1_method_5_code 3 (some .int) ∈ gd_tbl := gd_t (i := 94) (by decide +kernel) (by decide +kernel)
theorem k_95 : Cond.methodLink "RequestCutter" 46 ⟨"RequestCutter$Cutter", "cuts", "([BII)Z"⟩ ∈ gd_tbl := gd_t (i := 95) (by decide +kernel) (by decide +kernel)
theorem k_96 : Cond.instanceMethod ⟨"RequestCutter$Cutter", "cuts", "([BII)Z"⟩ ∈ gd_tbl := gd_t (i := 96) (by decide +kernel) (by decide +kernel)
theorem k_97 : Cond.selects "RequestCutter$Cutter" ⟨"RequestCutter$Cutter", "cuts", "([BII)Z"⟩ ⟨"RequestCutter$Cutter", "cuts", "([BII)Z"⟩ ∈ gd_tbl := gd_t (i := 97) (by decide +kernel) (by decide +kernel)
theorem k_98 : Cond.code ⟨"RequestCutter$Cutter", "cuts", "([BII)Z"⟩ prog_2_method_3_code 8 (some .boolean) ∈ gd_tbl := gd_t (i := 98) (by decide +kernel) (by decide +kernel)
theorem k_99 : Cond.methodLink "RequestCutter$Cutter" 30 ⟨"RequestCutter$Cutter", "cutsPlain", "([BII)Z"⟩ ∈ gd_tbl := gd_t (i := 99) (by decide +kernel) (by decide +kernel)
theorem k_101 : Cond.instanceMethod ⟨"RequestCutter$Cutter", "cutsPlain", "([BII)Z"⟩ ∈ gd_tbl := gd_t (i := 101) (by decide +kernel) (by decide +kernel)
theorem k_102 : Cond.code ⟨"RequestCutter$Cutter", "cutsPlain", "([BII)Z"⟩ prog_2_method_4_code 7 (some .boolean) ∈ gd_tbl := gd_t (i := 102) (by decide +kernel) (by decide +kernel)
theorem k_105 : Cond.methodLink "RequestCutter$Cutter" 36 ⟨"RequestCutter$Cutter", "isLine", "([BIILjava/lang/String;)Z"⟩ ∈ gd_tbl := gd_t (i := 105) (by decide +kernel) (by decide +kernel)
theorem k_107 : Cond.instanceMethod ⟨"RequestCutter$Cutter", "isLine", "([BIILjava/lang/String;)Z"⟩ ∈ gd_tbl := gd_t (i := 107) (by decide +kernel) (by decide +kernel)
theorem k_108 : Cond.code ⟨"RequestCutter$Cutter", "isLine", "([BIILjava/lang/String;)Z"⟩ prog_2_method_2_code 9 (some .boolean) ∈ gd_tbl := gd_t (i := 108) (by decide +kernel) (by decide +kernel)
theorem k_112 : Cond.methodLink "RequestCutter$Cutter" 46 ⟨"java/lang/Math", "max", "(II)I"⟩ ∈ gd_tbl := gd_t (i := 112) (by decide +kernel) (by decide +kernel)
theorem k_113 : Cond.static ⟨"java/lang/Math", "max", "(II)I"⟩ ∈ gd_tbl := gd_t (i := 113) (by decide +kernel) (by decide +kernel)
theorem k_114 : Cond.code ⟨"java/lang/Math", "max", "(II)I"⟩ prog_5_method_65_code 2 (some .int) ∈ gd_tbl := gd_t (i := 114) (by decide +kernel) (by decide +kernel)
theorem k_115 : Cond.methodLink "RequestCutter" 53 ⟨"java/lang/String", "hashCode", "()I"⟩ ∈ gd_tbl := gd_t (i := 115) (by decide +kernel) (by decide +kernel)
theorem k_116 : Cond.instanceMethod ⟨"java/lang/String", "hashCode", "()I"⟩ ∈ gd_tbl := gd_t (i := 116) (by decide +kernel) (by decide +kernel)
theorem k_117 : Cond.selects "java/lang/String" ⟨"java/lang/String", "hashCode", "()I"⟩ ⟨"java/lang/String", "hashCode", "()I"⟩ ∈ gd_tbl := gd_t (i := 117) (by decide +kernel) (by decide +kernel)
theorem k_118 : Cond.code ⟨"java/lang/String", "hashCode", "()I"⟩ prog_6_method_78_code 2 (some .int) ∈ gd_tbl := gd_t (i := 118) (by decide +kernel) (by decide +kernel)
theorem k_119 : Cond.methodLink "java/lang/String" 492 ⟨"java/lang/String", "isLatin1", "()Z"⟩ ∈ gd_tbl := gd_t (i := 119) (by decide +kernel) (by decide +kernel)
theorem k_120 : Cond.instanceMethod ⟨"java/lang/String", "isLatin1", "()Z"⟩ ∈ gd_tbl := gd_t (i := 120) (by decide +kernel) (by decide +kernel)
theorem k_121 : Cond.selects "java/lang/String" ⟨"java/lang/String", "isLatin1", "()Z"⟩ ⟨"java/lang/String", "isLatin1", "()Z"⟩ ∈ gd_tbl := gd_t (i := 121) (by decide +kernel) (by decide +kernel)
theorem k_122 : Cond.code ⟨"java/lang/String", "isLatin1", "()Z"⟩ prog_6_method_154_code 1 (some .boolean) ∈ gd_tbl := gd_t (i := 122) (by decide +kernel) (by decide +kernel)
theorem k_123 : Cond.fieldLink "java/lang/String" 38 "java/lang/String" "COMPACT_STRINGS" "Z" ∈ gd_tbl := gd_t (i := 123) (by decide +kernel) (by decide +kernel)
theorem k_172 : Cond.methodLink "RequestCutter" 61 ⟨"java/lang/String", "equals", "(Ljava/lang/Object;)Z"⟩ ∈ gd_tbl := gd_t (i := 172) (by decide +kernel) (by decide +kernel)
theorem k_173 : Cond.instanceMethod ⟨"java/lang/String", "equals", "(Ljava/lang/Object;)Z"⟩ ∈ gd_tbl := gd_t (i := 173) (by decide +kernel) (by decide +kernel)
theorem k_174 : Cond.selects "java/lang/String" ⟨"java/lang/String", "equals", "(Ljava/lang/Object;)Z"⟩ ⟨"java/lang/String", "equals", "(Ljava/lang/Object;)Z"⟩ ∈ gd_tbl := gd_t (i := 174) (by decide +kernel) (by decide +kernel)
theorem k_175 : Cond.code ⟨"java/lang/String", "equals", "(Ljava/lang/Object;)Z"⟩ prog_6_method_66_code 3 (some .boolean) ∈ gd_tbl := gd_t (i := 175) (by decide +kernel) (by decide +kernel)
theorem k_176 : Cond.classLink "java/lang/String" 10 "java/lang/String" ∈ gd_tbl := gd_t (i := 176) (by decide +kernel) (by decide +kernel)
theorem k_183 : Cond.methodLink "RequestCutter" 74 ⟨"RequestCutter", "drop", "(I)Z"⟩ ∈ gd_tbl := gd_t (i := 183) (by decide +kernel) (by decide +kernel)
theorem k_184 : Cond.instanceMethod ⟨"RequestCutter", "drop", "(I)Z"⟩ ∈ gd_tbl := gd_t (i := 184) (by decide +kernel) (by decide +kernel)
theorem k_185 : Cond.selects "RequestCutter" ⟨"RequestCutter", "drop", "(I)Z"⟩ ⟨"RequestCutter", "drop", "(I)Z"⟩ ∈ gd_tbl := gd_t (i := 185) (by decide +kernel) (by decide +kernel)
theorem k_186 : Cond.code ⟨"RequestCutter", "drop", "(I)Z"⟩ prog_1_method_9_code 2 (some .boolean) ∈ gd_tbl := gd_t (i := 186) (by decide +kernel) (by decide +kernel)
theorem k_187 : Cond.methodLink "RequestCutterLaw" 32 ⟨"RequestCutter", "fault", "()I"⟩ ∈ gd_tbl := gd_t (i := 187) (by decide +kernel) (by decide +kernel)
theorem k_188 : Cond.instanceMethod ⟨"RequestCutter", "fault", "()I"⟩ ∈ gd_tbl := gd_t (i := 188) (by decide +kernel) (by decide +kernel)
theorem k_189 : Cond.selects "RequestCutter" ⟨"RequestCutter", "fault", "()I"⟩ ⟨"RequestCutter", "fault", "()I"⟩ ∈ gd_tbl := gd_t (i := 189) (by decide +kernel) (by decide +kernel)
theorem k_190 : Cond.code ⟨"RequestCutter", "fault", "()I"⟩ prog_1_method_6_code 1 (some .int) ∈ gd_tbl := gd_t (i := 190) (by decide +kernel) (by decide +kernel)
theorem k_191 : Cond.methodLink "RequestCutterLaw" 36 ⟨"RequestCutter", "size", "(I)I"⟩ ∈ gd_tbl := gd_t (i := 191) (by decide +kernel) (by decide +kernel)
theorem k_192 : Cond.instanceMethod ⟨"RequestCutter", "size", "(I)I"⟩ ∈ gd_tbl := gd_t (i := 192) (by decide +kernel) (by decide +kernel)
theorem k_193 : Cond.selects "RequestCutter" ⟨"RequestCutter", "size", "(I)I"⟩ ⟨"RequestCutter", "size", "(I)I"⟩ ∈ gd_tbl := gd_t (i := 193) (by decide +kernel) (by decide +kernel)
theorem k_194 : Cond.code ⟨"RequestCutter", "size", "(I)I"⟩ prog_1_method_7_code 2 (some .int) ∈ gd_tbl := gd_t (i := 194) (by decide +kernel) (by decide +kernel)
theorem k_195 : Cond.methodLink "RequestCutterLaw" 41 ⟨"RequestCutter", "byteOf", "(II)I"⟩ ∈ gd_tbl := gd_t (i := 195) (by decide +kernel) (by decide +kernel)
theorem k_196 : Cond.instanceMethod ⟨"RequestCutter", "byteOf", "(II)I"⟩ ∈ gd_tbl := gd_t (i := 196) (by decide +kernel) (by decide +kernel)
theorem k_197 : Cond.selects "RequestCutter" ⟨"RequestCutter", "byteOf", "(II)I"⟩ ⟨"RequestCutter", "byteOf", "(II)I"⟩ ∈ gd_tbl := gd_t (i := 197) (by decide +kernel) (by decide +kernel)
theorem k_198 : Cond.code ⟨"RequestCutter", "byteOf", "(II)I"⟩ prog_1_method_8_code 3 (some .int) ∈ gd_tbl := gd_t (i := 198) (by decide +kernel) (by decide +kernel)
theorem k_199 : Cond.methodLink "RequestCutterLaw" 46 ⟨"RequestCutter", "drop", "(I)Z"⟩ ∈ gd_tbl := gd_t (i := 199) (by decide +kernel) (by decide +kernel)
theorem k_200 : Cond.methodLink "RequestCutterLaw" 50 ⟨"RequestCutter", "waiting", "()I"⟩ ∈ gd_tbl := gd_t (i := 200) (by decide +kernel) (by decide +kernel)
theorem k_201 : Cond.instanceMethod ⟨"RequestCutter", "waiting", "()I"⟩ ∈ gd_tbl := gd_t (i := 201) (by decide +kernel) (by decide +kernel)
theorem k_202 : Cond.selects "RequestCutter" ⟨"RequestCutter", "waiting", "()I"⟩ ⟨"RequestCutter", "waiting", "()I"⟩ ∈ gd_tbl := gd_t (i := 202) (by decide +kernel) (by decide +kernel)
theorem k_203 : Cond.code ⟨"RequestCutter", "waiting", "()I"⟩ prog_1_method_10_code 1 (some .int) ∈ gd_tbl := gd_t (i := 203) (by decide +kernel) (by decide +kernel)
theorem k_204 : Cond.classLink "RequestCutterLaw" 10 "RequestCutterModel" ∈ gd_tbl := gd_t (i := 204) (by decide +kernel) (by decide +kernel)
theorem k_205 : Cond.instantiable "RequestCutterModel" 11 ∈ gd_tbl := gd_t (i := 205) (by decide +kernel) (by decide +kernel)
theorem k_206 : Cond.methodLink "RequestCutterLaw" 12 ⟨"RequestCutterModel", "<init>", "()V"⟩ ∈ gd_tbl := gd_t (i := 206) (by decide +kernel) (by decide +kernel)
theorem k_207 : Cond.instanceMethod ⟨"RequestCutterModel", "<init>", "()V"⟩ ∈ gd_tbl := gd_t (i := 207) (by decide +kernel) (by decide +kernel)
theorem k_208 : Cond.code ⟨"RequestCutterModel", "<init>", "()V"⟩ prog_4_method_1_code 1 none ∈ gd_tbl := gd_t (i := 208) (by decide +kernel) (by decide +kernel)
theorem k_209 : Cond.methodLink "RequestCutterModel" 1 ⟨"java/lang/Object", "<init>", "()V"⟩ ∈ gd_tbl := gd_t (i := 209) (by decide +kernel) (by decide +kernel)
theorem k_210 : Cond.constant "RequestCutterModel" 13 65536 ∈ gd_tbl := gd_t (i := 210) (by decide +kernel) (by decide +kernel)
theorem k_211 : Cond.fieldLink "RequestCutterModel" 7 "RequestCutterModel" "tape" "[B" ∈ gd_tbl := gd_t (i := 211) (by decide +kernel) (by decide +kernel)
theorem k_212 : Cond.fieldLink "RequestCutterModel" 14 "RequestCutterModel" "input" "[B" ∈ gd_tbl := gd_t (i := 212) (by decide +kernel) (by decide +kernel)
theorem k_213 : Cond.fieldLink "RequestCutterModel" 17 "RequestCutterModel" "kept" "[B" ∈ gd_tbl := gd_t (i := 213) (by decide +kernel) (by decide +kernel)
theorem k_214 : Cond.fieldLink "RequestCutterModel" 20 "RequestCutterModel" "from" "[I" ∈ gd_tbl := gd_t (i := 214) (by decide +kernel) (by decide +kernel)
theorem k_215 : Cond.fieldLink "RequestCutterModel" 24 "RequestCutterModel" "long1" "[I" ∈ gd_tbl := gd_t (i := 215) (by decide +kernel) (by decide +kernel)
theorem k_216 : Cond.fieldLink "RequestCutterModel" 27 "RequestCutterModel" "taped" "I" ∈ gd_tbl := gd_t (i := 216) (by decide +kernel) (by decide +kernel)
theorem k_217 : Cond.fieldLink "RequestCutterModel" 35 "RequestCutterModel" "waits" "I" ∈ gd_tbl := gd_t (i := 217) (by decide +kernel) (by decide +kernel)
theorem k_218 : Cond.fieldLink "RequestCutterModel" 46 "RequestCutterModel" "words" "I" ∈ gd_tbl := gd_t (i := 218) (by decide +kernel) (by decide +kernel)
theorem k_219 : Cond.fieldLink "RequestCutterModel" 49 "RequestCutterModel" "keptSize" "I" ∈ gd_tbl := gd_t (i := 219) (by decide +kernel) (by decide +kernel)
theorem k_220 : Cond.fieldLink "RequestCutterModel" 56 "RequestCutterModel" "fault" "I" ∈ gd_tbl := gd_t (i := 220) (by decide +kernel) (by decide +kernel)
theorem k_221 : Cond.fieldLink "RequestCutterModel" 41 "RequestCutterModel" "at" "I" ∈ gd_tbl := gd_t (i := 221) (by decide +kernel) (by decide +kernel)
theorem k_245 : Cond.methodLink "RequestCutterLaw" 17 ⟨"RequestCutterModel", "feed", "(IIIII)Z"⟩ ∈ gd_tbl := gd_t (i := 245) (by decide +kernel) (by decide +kernel)
theorem k_246 : Cond.instanceMethod ⟨"RequestCutterModel", "feed", "(IIIII)Z"⟩ ∈ gd_tbl := gd_t (i := 246) (by decide +kernel) (by decide +kernel)
theorem k_247 : Cond.selects "RequestCutterModel" ⟨"RequestCutterModel", "feed", "(IIIII)Z"⟩ ⟨"RequestCutterModel", "feed", "(IIIII)Z"⟩ ∈ gd_tbl := gd_t (i := 247) (by decide +kernel) (by decide +kernel)
theorem k_248 : Cond.code ⟨"RequestCutterModel", "feed", "(IIIII)Z"⟩ prog_4_method_3_code 6 (some .boolean) ∈ gd_tbl := gd_t (i := 248) (by decide +kernel) (by decide +kernel)
theorem k_249 : Cond.methodLink "RequestCutterModel" 31 ⟨"RequestCutterModel", "lay", "(I)V"⟩ ∈ gd_tbl := gd_t (i := 249) (by decide +kernel) (by decide +kernel)
theorem k_251 : Cond.instanceMethod ⟨"RequestCutterModel", "lay", "(I)V"⟩ ∈ gd_tbl := gd_t (i := 251) (by decide +kernel) (by decide +kernel)
theorem k_252 : Cond.code ⟨"RequestCutterModel", "lay", "(I)V"⟩ prog_4_method_2_code 3 none ∈ gd_tbl := gd_t (i := 252) (by decide +kernel) (by decide +kernel)
theorem k_253 : Cond.methodLink "RequestCutterLaw" 22 ⟨"RequestCutterModel", "end", "(I)Z"⟩ ∈ gd_tbl := gd_t (i := 253) (by decide +kernel) (by decide +kernel)
theorem k_254 : Cond.instanceMethod ⟨"RequestCutterModel", "end", "(I)Z"⟩ ∈ gd_tbl := gd_t (i := 254) (by decide +kernel) (by decide +kernel)
theorem k_255 : Cond.selects "RequestCutterModel" ⟨"RequestCutterModel", "end", "(I)Z"⟩ ⟨"RequestCutterModel", "end", "(I)Z"⟩ ∈ gd_tbl := gd_t (i := 255) (by decide +kernel) (by decide +kernel)
theorem k_256 : Cond.code ⟨"RequestCutterModel", "end", "(I)Z"⟩ prog_4_method_4_code 2 (some .boolean) ∈ gd_tbl := gd_t (i := 256) (by decide +kernel) (by decide +kernel)
theorem k_257 : Cond.methodLink "RequestCutterLaw" 27 ⟨"RequestCutterModel", "arrive", "()I"⟩ ∈ gd_tbl := gd_t (i := 257) (by decide +kernel) (by decide +kernel)
theorem k_258 : Cond.instanceMethod ⟨"RequestCutterModel", "arrive", "()I"⟩ ∈ gd_tbl := gd_t (i := 258) (by decide +kernel) (by decide +kernel)
theorem k_259 : Cond.selects "RequestCutterModel" ⟨"RequestCutterModel", "arrive", "()I"⟩ ⟨"RequestCutterModel", "arrive", "()I"⟩ ∈ gd_tbl := gd_t (i := 259) (by decide +kernel) (by decide +kernel)
theorem k_260 : Cond.code ⟨"RequestCutterModel", "arrive", "()I"⟩ prog_4_method_5_code 3 (some .int) ∈ gd_tbl := gd_t (i := 260) (by decide +kernel) (by decide +kernel)
theorem k_261 : Cond.methodLink "RequestCutterLaw" 49 ⟨"RequestCutterModel", "drop", "(I)Z"⟩ ∈ gd_tbl := gd_t (i := 261) (by decide +kernel) (by decide +kernel)
theorem k_262 : Cond.instanceMethod ⟨"RequestCutterModel", "drop", "(I)Z"⟩ ∈ gd_tbl := gd_t (i := 262) (by decide +kernel) (by decide +kernel)
theorem k_263 : Cond.selects "RequestCutterModel" ⟨"RequestCutterModel", "drop", "(I)Z"⟩ ⟨"RequestCutterModel", "drop", "(I)Z"⟩ ∈ gd_tbl := gd_t (i := 263) (by decide +kernel) (by decide +kernel)
theorem k_264 : Cond.code ⟨"RequestCutterModel", "drop", "(I)Z"⟩ prog_4_method_7_code 2 (some .boolean) ∈ gd_tbl := gd_t (i := 264) (by decide +kernel) (by decide +kernel)
theorem k_265 : Cond.methodLink "RequestCutterModel" 38 ⟨"RequestCutterModel", "go", "(I)V"⟩ ∈ gd_tbl := gd_t (i := 265) (by decide +kernel) (by decide +kernel)
theorem k_267 : Cond.instanceMethod ⟨"RequestCutterModel", "go", "(I)V"⟩ ∈ gd_tbl := gd_t (i := 267) (by decide +kernel) (by decide +kernel)
theorem k_268 : Cond.code ⟨"RequestCutterModel", "go", "(I)V"⟩ prog_4_method_6_code 3 none ∈ gd_tbl := gd_t (i := 268) (by decide +kernel) (by decide +kernel)
theorem k_269 : Cond.methodLink "RequestCutterLaw" 31 ⟨"RequestCutterModel", "cut", "()I"⟩ ∈ gd_tbl := gd_t (i := 269) (by decide +kernel) (by decide +kernel)
theorem k_270 : Cond.instanceMethod ⟨"RequestCutterModel", "cut", "()I"⟩ ∈ gd_tbl := gd_t (i := 270) (by decide +kernel) (by decide +kernel)
theorem k_271 : Cond.selects "RequestCutterModel" ⟨"RequestCutterModel", "cut", "()I"⟩ ⟨"RequestCutterModel", "cut", "()I"⟩ ∈ gd_tbl := gd_t (i := 271) (by decide +kernel) (by decide +kernel)
theorem k_272 : Cond.code ⟨"RequestCutterModel", "cut", "()I"⟩ prog_4_method_14_code 2 (some .int) ∈ gd_tbl := gd_t (i := 272) (by decide +kernel) (by decide +kernel)
theorem k_273 : Cond.methodLink "RequestCutterModel" 71 ⟨"RequestCutterModel", "cutTold", "()Z"⟩ ∈ gd_tbl := gd_t (i := 273) (by decide +kernel) (by decide +kernel)
theorem k_275 : Cond.instanceMethod ⟨"RequestCutterModel", "cutTold", "()Z"⟩ ∈ gd_tbl := gd_t (i := 275) (by decide +kernel) (by decide +kernel)
theorem k_276 : Cond.code ⟨"RequestCutterModel", "cutTold", "()Z"⟩ prog_4_method_12_code 4 (some .boolean) ∈ gd_tbl := gd_t (i := 276) (by decide +kernel) (by decide +kernel)
theorem k_277 : Cond.methodLink "RequestCutterModel" 59 ⟨"RequestCutterModel", "line", "()I"⟩ ∈ gd_tbl := gd_t (i := 277) (by decide +kernel) (by decide +kernel)
theorem k_279 : Cond.instanceMethod ⟨"RequestCutterModel", "line", "()I"⟩ ∈ gd_tbl := gd_t (i := 279) (by decide +kernel) (by decide +kernel)
theorem k_280 : Cond.code ⟨"RequestCutterModel", "line", "()I"⟩ prog_4_method_8_code 8 (some .int) ∈ gd_tbl := gd_t (i := 280) (by decide +kernel) (by decide +kernel)
theorem k_281 : Cond.constant "RequestCutterModel" 44 (-1000001) ∈ gd_tbl := gd_t (i := 281) (by decide +kernel) (by decide +kernel)
theorem k_282 : Cond.constant "RequestCutterModel" 45 (-1000000) ∈ gd_tbl := gd_t (i := 282) (by decide +kernel) (by decide +kernel)
theorem k_283 : Cond.methodLink "RequestCutterModel" 67 ⟨"RequestCutterModel", "told", "()Z"⟩ ∈ gd_tbl := gd_t (i := 283) (by decide +kernel) (by decide +kernel)
theorem k_285 : Cond.instanceMethod ⟨"RequestCutterModel", "told", "()Z"⟩ ∈ gd_tbl := gd_t (i := 285) (by decide +kernel) (by decide +kernel)
theorem k_286 : Cond.code ⟨"RequestCutterModel", "told", "()Z"⟩ prog_4_method_11_code 6 (some .boolean) ∈ gd_tbl := gd_t (i := 286) (by decide +kernel) (by decide +kernel)
theorem k_287 : Cond.methodLink "RequestCutterModel" 52 ⟨"RequestCutterModel", "must", "(I)I"⟩ ∈ gd_tbl := gd_t (i := 287) (by decide +kernel) (by decide +kernel)
theorem k_289 : Cond.instanceMethod ⟨"RequestCutterModel", "must", "(I)I"⟩ ∈ gd_tbl := gd_t (i := 289) (by decide +kernel) (by decide +kernel)
theorem k_290 : Cond.code ⟨"RequestCutterModel", "must", "(I)I"⟩ prog_4_method_10_code 3 (some .int) ∈ gd_tbl := gd_t (i := 290) (by decide +kernel) (by decide +kernel)
theorem k_291 : Cond.methodLink "RequestCutterModel" 63 ⟨"RequestCutterModel", "word", "(II)V"⟩ ∈ gd_tbl := gd_t (i := 291) (by decide +kernel) (by decide +kernel)
theorem k_293 : Cond.instanceMethod ⟨"RequestCutterModel", "word", "(II)V"⟩ ∈ gd_tbl := gd_t (i := 293) (by decide +kernel) (by decide +kernel)
theorem k_294 : Cond.code ⟨"RequestCutterModel", "word", "(II)V"⟩ prog_4_method_9_code 4 none ∈ gd_tbl := gd_t (i := 294) (by decide +kernel) (by decide +kernel)
theorem k_295 : Cond.methodLink "RequestCutterModel" 74 ⟨"RequestCutterModel", "cutLine", "()Z"⟩ ∈ gd_tbl := gd_t (i := 295) (by decide +kernel) (by decide +kernel)
theorem k_297 : Cond.instanceMethod ⟨"RequestCutterModel", "cutLine", "()Z"⟩ ∈ gd_tbl := gd_t (i := 297) (by decide +kernel) (by decide +kernel)
theorem k_298 : Cond.code ⟨"RequestCutterModel", "cutLine", "()Z"⟩ prog_4_method_13_code 5 (some .boolean) ∈ gd_tbl := gd_t (i := 298) (by decide +kernel) (by decide +kernel)
theorem k_299 : Cond.methodLink "RequestCutterLaw" 35 ⟨"RequestCutterModel", "fault", "()I"⟩ ∈ gd_tbl := gd_t (i := 299) (by decide +kernel) (by decide +kernel)
theorem k_300 : Cond.instanceMethod ⟨"RequestCutterModel", "fault", "()I"⟩ ∈ gd_tbl := gd_t (i := 300) (by decide +kernel) (by decide +kernel)
theorem k_301 : Cond.selects "RequestCutterModel" ⟨"RequestCutterModel", "fault", "()I"⟩ ⟨"RequestCutterModel", "fault", "()I"⟩ ∈ gd_tbl := gd_t (i := 301) (by decide +kernel) (by decide +kernel)
theorem k_302 : Cond.code ⟨"RequestCutterModel", "fault", "()I"⟩ prog_4_method_15_code 1 (some .int) ∈ gd_tbl := gd_t (i := 302) (by decide +kernel) (by decide +kernel)
theorem k_303 : Cond.methodLink "RequestCutterLaw" 40 ⟨"RequestCutterModel", "size", "(I)I"⟩ ∈ gd_tbl := gd_t (i := 303) (by decide +kernel) (by decide +kernel)
theorem k_304 : Cond.instanceMethod ⟨"RequestCutterModel", "size", "(I)I"⟩ ∈ gd_tbl := gd_t (i := 304) (by decide +kernel) (by decide +kernel)
theorem k_305 : Cond.selects "RequestCutterModel" ⟨"RequestCutterModel", "size", "(I)I"⟩ ⟨"RequestCutterModel", "size", "(I)I"⟩ ∈ gd_tbl := gd_t (i := 305) (by decide +kernel) (by decide +kernel)
theorem k_306 : Cond.code ⟨"RequestCutterModel", "size", "(I)I"⟩ prog_4_method_16_code 2 (some .int) ∈ gd_tbl := gd_t (i := 306) (by decide +kernel) (by decide +kernel)
theorem k_307 : Cond.methodLink "RequestCutterLaw" 45 ⟨"RequestCutterModel", "byteOf", "(II)I"⟩ ∈ gd_tbl := gd_t (i := 307) (by decide +kernel) (by decide +kernel)
theorem k_308 : Cond.instanceMethod ⟨"RequestCutterModel", "byteOf", "(II)I"⟩ ∈ gd_tbl := gd_t (i := 308) (by decide +kernel) (by decide +kernel)
theorem k_309 : Cond.selects "RequestCutterModel" ⟨"RequestCutterModel", "byteOf", "(II)I"⟩ ⟨"RequestCutterModel", "byteOf", "(II)I"⟩ ∈ gd_tbl := gd_t (i := 309) (by decide +kernel) (by decide +kernel)
theorem k_310 : Cond.code ⟨"RequestCutterModel", "byteOf", "(II)I"⟩ prog_4_method_17_code 3 (some .int) ∈ gd_tbl := gd_t (i := 310) (by decide +kernel) (by decide +kernel)
theorem k_311 : Cond.methodLink "RequestCutterModel" 77 ⟨"RequestCutterModel", "size", "(I)I"⟩ ∈ gd_tbl := gd_t (i := 311) (by decide +kernel) (by decide +kernel)
theorem k_312 : Cond.methodLink "RequestCutterLaw" 53 ⟨"RequestCutterModel", "waiting", "()I"⟩ ∈ gd_tbl := gd_t (i := 312) (by decide +kernel) (by decide +kernel)
theorem k_313 : Cond.instanceMethod ⟨"RequestCutterModel", "waiting", "()I"⟩ ∈ gd_tbl := gd_t (i := 313) (by decide +kernel) (by decide +kernel)
theorem k_314 : Cond.selects "RequestCutterModel" ⟨"RequestCutterModel", "waiting", "()I"⟩ ⟨"RequestCutterModel", "waiting", "()I"⟩ ∈ gd_tbl := gd_t (i := 314) (by decide +kernel) (by decide +kernel)
theorem k_315 : Cond.code ⟨"RequestCutterModel", "waiting", "()I"⟩ prog_4_method_18_code 1 (some .int) ∈ gd_tbl := gd_t (i := 315) (by decide +kernel) (by decide +kernel)
theorem k_316 : Cond.arrayClass FieldType.char ∈ gd_tbl := gd_t (i := 316) (by decide +kernel) (by decide +kernel)
theorem k_317 : Cond.arrayClass FieldType.short ∈ gd_tbl := gd_t (i := 317) (by decide +kernel) (by decide +kernel)
theorem k_318 : Cond.fieldLink "java/lang/String" 19 "java/lang/String" "hash" "I" ∈ gd_tbl := gd_t (i := 318) (by decide +kernel) (by decide +kernel)
theorem k_319 : Cond.fieldLink "java/lang/String" 23 "java/lang/String" "hashIsZero" "Z" ∈ gd_tbl := gd_t (i := 319) (by decide +kernel) (by decide +kernel)
theorem k_320 : Cond.fieldLink "java/lang/String" 15 "java/lang/String" "coder" "B" ∈ gd_tbl := gd_t (i := 320) (by decide +kernel) (by decide +kernel)
theorem k_321 : Cond.fieldLink "java/lang/String" 9 "java/lang/String" "value" "[B" ∈ gd_tbl := gd_t (i := 321) (by decide +kernel) (by decide +kernel)
theorem k_21 : Cond.methodLinkNest "RequestCutter" 19 ⟨"RequestCutter$Cutter", "<init>", "()V"⟩ "RequestCutter" ∈ lw_tbl := List.mem_append_right _ (List.mem_of_getElem? (i := 21) (by decide +kernel))
theorem k_103 : Cond.stringRef "RequestCutter$Cutter" 52 "line" ∈ lw_tbl := List.mem_append_right _ (List.mem_of_getElem? (i := 103) (by decide +kernel))
theorem k_104 : Cond.stringRef "RequestCutter$Cutter" 34 "count" ∈ lw_tbl := List.mem_append_right _ (List.mem_of_getElem? (i := 104) (by decide +kernel))
theorem k_109 : Cond.stringRef "RequestCutter$Cutter" 40 "dollar" ∈ lw_tbl := List.mem_append_right _ (List.mem_of_getElem? (i := 109) (by decide +kernel))
theorem k_110 : Cond.stringRef "RequestCutter$Cutter" 42 "length" ∈ lw_tbl := List.mem_append_right _ (List.mem_of_getElem? (i := 110) (by decide +kernel))
theorem k_111 : Cond.stringRef "RequestCutter$Cutter" 44 "ending" ∈ lw_tbl := List.mem_append_right _ (List.mem_of_getElem? (i := 111) (by decide +kernel))
theorem k_171 : Cond.stringRef "RequestCutter" 59 "count" ∈ lw_tbl := List.mem_append_right _ (List.mem_of_getElem? (i := 171) (by decide +kernel))
theorem k_180 : Cond.stringRef "RequestCutter" 65 "dollar" ∈ lw_tbl := List.mem_append_right _ (List.mem_of_getElem? (i := 180) (by decide +kernel))
theorem k_181 : Cond.stringRef "RequestCutter" 67 "length" ∈ lw_tbl := List.mem_append_right _ (List.mem_of_getElem? (i := 181) (by decide +kernel))
theorem k_182 : Cond.stringRef "RequestCutter" 68 "ending" ∈ lw_tbl := List.mem_append_right _ (List.mem_of_getElem? (i := 182) (by decide +kernel))
theorem k_s0 : Cond.selects "RequestCutter$Cutter" ⟨"RequestCutter$Cutter", "cutsPlain", "([BII)Z"⟩ ⟨"RequestCutter$Cutter", "cutsPlain", "([BII)Z"⟩ ∈ gd_tbl := gd_s (i := 0) (by decide +kernel) (by decide +kernel)
theorem k_s1 : Cond.selects "RequestCutter$Cutter" ⟨"RequestCutter$Cutter", "isLine", "([BIILjava/lang/String;)Z"⟩ ⟨"RequestCutter$Cutter", "isLine", "([BIILjava/lang/String;)Z"⟩ ∈ gd_tbl := gd_s (i := 1) (by decide +kernel) (by decide +kernel)
theorem k_s2 : Cond.selects "RequestCutterModel" ⟨"RequestCutterModel", "lay", "(I)V"⟩ ⟨"RequestCutterModel", "lay", "(I)V"⟩ ∈ gd_tbl := gd_s (i := 2) (by decide +kernel) (by decide +kernel)
theorem k_s3 : Cond.selects "RequestCutterModel" ⟨"RequestCutterModel", "go", "(I)V"⟩ ⟨"RequestCutterModel", "go", "(I)V"⟩ ∈ gd_tbl := gd_s (i := 3) (by decide +kernel) (by decide +kernel)
theorem k_s4 : Cond.selects "RequestCutterModel" ⟨"RequestCutterModel", "cutTold", "()Z"⟩ ⟨"RequestCutterModel", "cutTold", "()Z"⟩ ∈ gd_tbl := gd_s (i := 4) (by decide +kernel) (by decide +kernel)
theorem k_s5 : Cond.selects "RequestCutterModel" ⟨"RequestCutterModel", "line", "()I"⟩ ⟨"RequestCutterModel", "line", "()I"⟩ ∈ gd_tbl := gd_s (i := 5) (by decide +kernel) (by decide +kernel)
theorem k_s6 : Cond.selects "RequestCutterModel" ⟨"RequestCutterModel", "told", "()Z"⟩ ⟨"RequestCutterModel", "told", "()Z"⟩ ∈ gd_tbl := gd_s (i := 6) (by decide +kernel) (by decide +kernel)
theorem k_s7 : Cond.selects "RequestCutterModel" ⟨"RequestCutterModel", "must", "(I)I"⟩ ⟨"RequestCutterModel", "must", "(I)I"⟩ ∈ gd_tbl := gd_s (i := 7) (by decide +kernel) (by decide +kernel)
theorem k_s8 : Cond.selects "RequestCutterModel" ⟨"RequestCutterModel", "word", "(II)V"⟩ ⟨"RequestCutterModel", "word", "(II)V"⟩ ∈ gd_tbl := gd_s (i := 8) (by decide +kernel) (by decide +kernel)
theorem k_s9 : Cond.selects "RequestCutterModel" ⟨"RequestCutterModel", "cutLine", "()Z"⟩ ⟨"RequestCutterModel", "cutLine", "()Z"⟩ ∈ gd_tbl := gd_s (i := 9) (by decide +kernel) (by decide +kernel)
abbrev y_X_init : MethodName := ⟨"RequestCutter", "<init>", "()V"⟩
abbrev y_X_feed : MethodName := ⟨"RequestCutter", "feed", "(IIIII)Z"⟩
abbrev y_X_end : MethodName := ⟨"RequestCutter", "end", "(I)Z"⟩
abbrev y_X_arrive : MethodName := ⟨"RequestCutter", "arrive", "()I"⟩
abbrev y_X_cut : MethodName := ⟨"RequestCutter", "cut", "()I"⟩
abbrev y_X_fault : MethodName := ⟨"RequestCutter", "fault", "()I"⟩
abbrev y_X_size : MethodName := ⟨"RequestCutter", "size", "(I)I"⟩
abbrev y_X_byteOf : MethodName := ⟨"RequestCutter", "byteOf", "(II)I"⟩
abbrev y_X_drop : MethodName := ⟨"RequestCutter", "drop", "(I)Z"⟩
abbrev y_X_waiting : MethodName := ⟨"RequestCutter", "waiting", "()I"⟩
abbrev y_M_init : MethodName := ⟨"RequestCutterModel", "<init>", "()V"⟩
abbrev y_M_lay : MethodName := ⟨"RequestCutterModel", "lay", "(I)V"⟩
abbrev y_M_feed : MethodName := ⟨"RequestCutterModel", "feed", "(IIIII)Z"⟩
abbrev y_M_end : MethodName := ⟨"RequestCutterModel", "end", "(I)Z"⟩
abbrev y_M_arrive : MethodName := ⟨"RequestCutterModel", "arrive", "()I"⟩
abbrev y_M_go : MethodName := ⟨"RequestCutterModel", "go", "(I)V"⟩
abbrev y_M_drop : MethodName := ⟨"RequestCutterModel", "drop", "(I)Z"⟩
abbrev y_M_line : MethodName := ⟨"RequestCutterModel", "line", "()I"⟩
abbrev y_M_word : MethodName := ⟨"RequestCutterModel", "word", "(II)V"⟩
abbrev y_M_must : MethodName := ⟨"RequestCutterModel", "must", "(I)I"⟩
abbrev y_M_told : MethodName := ⟨"RequestCutterModel", "told", "()Z"⟩
abbrev y_M_cutTold : MethodName := ⟨"RequestCutterModel", "cutTold", "()Z"⟩
abbrev y_M_cutLine : MethodName := ⟨"RequestCutterModel", "cutLine", "()Z"⟩
abbrev y_M_cut : MethodName := ⟨"RequestCutterModel", "cut", "()I"⟩
abbrev y_M_fault : MethodName := ⟨"RequestCutterModel", "fault", "()I"⟩
abbrev y_M_size : MethodName := ⟨"RequestCutterModel", "size", "(I)I"⟩
abbrev y_M_byteOf : MethodName := ⟨"RequestCutterModel", "byteOf", "(II)I"⟩
abbrev y_M_waiting : MethodName := ⟨"RequestCutterModel", "waiting", "()I"⟩
abbrev y_C_init : MethodName := ⟨"RequestCutter$Cutter", "<init>", "()V"⟩
abbrev y_C_isLine : MethodName := ⟨"RequestCutter$Cutter", "isLine", "([BIILjava/lang/String;)Z"⟩
abbrev y_C_cuts : MethodName := ⟨"RequestCutter$Cutter", "cuts", "([BII)Z"⟩
abbrev y_C_plain : MethodName := ⟨"RequestCutter$Cutter", "cutsPlain", "([BII)Z"⟩
abbrev y_S_equals : MethodName := ⟨"java/lang/String", "equals", "(Ljava/lang/Object;)Z"⟩
abbrev y_S_hash : MethodName := ⟨"java/lang/String", "hashCode", "()I"⟩
end
section
theorem d_X_init_0 : decode prog_1_method_1_code 0 = .ok (.aload_n 0, 1) := by decide +kernel
theorem d_X_init_1 : decode prog_1_method_1_code 1 = .ok (.invokespecial 1, 3) := by decide +kernel
theorem d_X_init_4 : decode prog_1_method_1_code 4 = .ok (.aload_n 0, 1) := by decide +kernel
theorem d_X_init_5 : decode prog_1_method_1_code 5 = .ok (.sipush 10240, 3) := by decide +kernel
theorem d_X_init_8 : decode prog_1_method_1_code 8 = .ok (.newarray .byte, 2) := by decide +kernel
theorem d_X_init_10 : decode prog_1_method_1_code 10 = .ok (.putfield 9, 3) := by decide +kernel
theorem d_X_init_13 : decode prog_1_method_1_code 13 = .ok (.aload_n 0, 1) := by decide +kernel
theorem d_X_init_14 : decode prog_1_method_1_code 14 = .ok (.ldc 13, 2) := by decide +kernel
theorem d_X_init_16 : decode prog_1_method_1_code 16 = .ok (.newarray .byte, 2) := by decide +kernel
theorem d_X_init_18 : decode prog_1_method_1_code 18 = .ok (.putfield 14, 3) := by decide +kernel
theorem d_X_init_21 : decode prog_1_method_1_code 21 = .ok (.aload_n 0, 1) := by decide +kernel
theorem d_X_init_22 : decode prog_1_method_1_code 22 = .ok (.new 17, 3) := by decide +kernel
theorem d_X_init_25 : decode prog_1_method_1_code 25 = .ok (.dup, 1) := by decide +kernel
theorem d_X_init_26 : decode prog_1_method_1_code 26 = .ok (.invokespecial 19, 3) := by decide +kernel
theorem d_X_init_29 : decode prog_1_method_1_code 29 = .ok (.putfield 20, 3) := by decide +kernel
theorem d_X_init_32 : decode prog_1_method_1_code 32 = .ok (.aload_n 0, 1) := by decide +kernel
theorem d_X_init_33 : decode prog_1_method_1_code 33 = .ok (.ldc 13, 2) := by decide +kernel
theorem d_X_init_35 : decode prog_1_method_1_code 35 = .ok (.newarray .byte, 2) := by decide +kernel
theorem d_X_init_37 : decode prog_1_method_1_code 37 = .ok (.putfield 24, 3) := by decide +kernel
theorem d_X_init_40 : decode prog_1_method_1_code 40 = .ok (.return_, 1) := by decide +kernel
theorem d_X_feed_0 : decode prog_1_method_2_code 0 = .ok (.aload_n 0, 1) := by decide +kernel
theorem d_X_feed_1 : decode prog_1_method_2_code 1 = .ok (.getfield 27, 3) := by decide +kernel
theorem d_X_feed_4 : decode prog_1_method_2_code 4 = .ok (.bipush 20, 2) := by decide +kernel
theorem d_X_feed_6 : decode prog_1_method_2_code 6 = .ok (.iadd, 1) := by decide +kernel
theorem d_X_feed_7 : decode prog_1_method_2_code 7 = .ok (.sipush 10240, 3) := by decide +kernel
theorem d_X_feed_10 : decode prog_1_method_2_code 10 = .ok (.if_icmp .le 5, 3) := by decide +kernel
theorem d_X_feed_13 : decode prog_1_method_2_code 13 = .ok (.iconst 0, 1) := by decide +kernel
theorem d_X_feed_14 : decode prog_1_method_2_code 14 = .ok (.ireturn, 1) := by decide +kernel
theorem d_X_feed_15 : decode prog_1_method_2_code 15 = .ok (.iconst 0, 1) := by decide +kernel
theorem d_X_feed_16 : decode prog_1_method_2_code 16 = .ok (.istore 6, 2) := by decide +kernel
theorem d_X_feed_18 : decode prog_1_method_2_code 18 = .ok (.iload 6, 2) := by decide +kernel
theorem d_X_feed_20 : decode prog_1_method_2_code 20 = .ok (.bipush 20, 2) := by decide +kernel
theorem d_X_feed_22 : decode prog_1_method_2_code 22 = .ok (.if_icmp .ge 90, 3) := by decide +kernel
theorem d_X_feed_25 : decode prog_1_method_2_code 25 = .ok (.iload 6, 2) := by decide +kernel
theorem d_X_feed_27 : decode prog_1_method_2_code 27 = .ok (.iconst 4, 1) := by decide +kernel
theorem d_X_feed_28 : decode prog_1_method_2_code 28 = .ok (.if_icmp .ge 7, 3) := by decide +kernel
theorem d_X_feed_31 : decode prog_1_method_2_code 31 = .ok (.iload_n 1, 1) := by decide +kernel
theorem d_X_feed_32 : decode prog_1_method_2_code 32 = .ok (.goto 39, 3) := by decide +kernel
theorem d_X_feed_35 : decode prog_1_method_2_code 35 = .ok (.iload 6, 2) := by decide +kernel
theorem d_X_feed_37 : decode prog_1_method_2_code 37 = .ok (.bipush 8, 2) := by decide +kernel
theorem d_X_feed_39 : decode prog_1_method_2_code 39 = .ok (.if_icmp .ge 7, 3) := by decide +kernel
theorem d_X_feed_42 : decode prog_1_method_2_code 42 = .ok (.iload_n 2, 1) := by decide +kernel
theorem d_X_feed_43 : decode prog_1_method_2_code 43 = .ok (.goto 28, 3) := by decide +kernel
theorem d_X_feed_46 : decode prog_1_method_2_code 46 = .ok (.iload 6, 2) := by decide +kernel
theorem d_X_feed_48 : decode prog_1_method_2_code 48 = .ok (.bipush 12, 2) := by decide +kernel
theorem d_X_feed_50 : decode prog_1_method_2_code 50 = .ok (.if_icmp .ge 7, 3) := by decide +kernel
theorem d_X_feed_53 : decode prog_1_method_2_code 53 = .ok (.iload_n 3, 1) := by decide +kernel
theorem d_X_feed_54 : decode prog_1_method_2_code 54 = .ok (.goto 17, 3) := by decide +kernel
theorem d_X_feed_57 : decode prog_1_method_2_code 57 = .ok (.iload 6, 2) := by decide +kernel
theorem d_X_feed_59 : decode prog_1_method_2_code 59 = .ok (.bipush 16, 2) := by decide +kernel
theorem d_X_feed_61 : decode prog_1_method_2_code 61 = .ok (.if_icmp .ge 8, 3) := by decide +kernel
theorem d_X_feed_64 : decode prog_1_method_2_code 64 = .ok (.iload 4, 2) := by decide +kernel
theorem d_X_feed_66 : decode prog_1_method_2_code 66 = .ok (.goto 5, 3) := by decide +kernel
theorem d_X_feed_69 : decode prog_1_method_2_code 69 = .ok (.iload 5, 2) := by decide +kernel
theorem d_X_feed_71 : decode prog_1_method_2_code 71 = .ok (.istore 7, 2) := by decide +kernel
theorem d_X_feed_73 : decode prog_1_method_2_code 73 = .ok (.aload_n 0, 1) := by decide +kernel
theorem d_X_feed_74 : decode prog_1_method_2_code 74 = .ok (.getfield 9, 3) := by decide +kernel
theorem d_X_feed_77 : decode prog_1_method_2_code 77 = .ok (.aload_n 0, 1) := by decide +kernel
theorem d_X_feed_78 : decode prog_1_method_2_code 78 = .ok (.getfield 27, 3) := by decide +kernel
theorem d_X_feed_81 : decode prog_1_method_2_code 81 = .ok (.iload 7, 2) := by decide +kernel
theorem d_X_feed_83 : decode prog_1_method_2_code 83 = .ok (.bipush 24, 2) := by decide +kernel
theorem d_X_feed_85 : decode prog_1_method_2_code 85 = .ok (.bipush 8, 2) := by decide +kernel
theorem d_X_feed_87 : decode prog_1_method_2_code 87 = .ok (.iload 6, 2) := by decide +kernel
theorem d_X_feed_89 : decode prog_1_method_2_code 89 = .ok (.iconst 4, 1) := by decide +kernel
theorem d_X_feed_90 : decode prog_1_method_2_code 90 = .ok (.irem, 1) := by decide +kernel
theorem d_X_feed_91 : decode prog_1_method_2_code 91 = .ok (.imul, 1) := by decide +kernel
theorem d_X_feed_92 : decode prog_1_method_2_code 92 = .ok (.isub, 1) := by decide +kernel
theorem d_X_feed_93 : decode prog_1_method_2_code 93 = .ok (.ishr, 1) := by decide +kernel
theorem d_X_feed_94 : decode prog_1_method_2_code 94 = .ok (.i2b, 1) := by decide +kernel
theorem d_X_feed_95 : decode prog_1_method_2_code 95 = .ok (.bastore, 1) := by decide +kernel
theorem d_X_feed_96 : decode prog_1_method_2_code 96 = .ok (.aload_n 0, 1) := by decide +kernel
theorem d_X_feed_97 : decode prog_1_method_2_code 97 = .ok (.dup, 1) := by decide +kernel
theorem d_X_feed_98 : decode prog_1_method_2_code 98 = .ok (.getfield 27, 3) := by decide +kernel
theorem d_X_feed_101 : decode prog_1_method_2_code 101 = .ok (.iconst 1, 1) := by decide +kernel
theorem d_X_feed_102 : decode prog_1_method_2_code 102 = .ok (.iadd, 1) := by decide +kernel
theorem d_X_feed_103 : decode prog_1_method_2_code 103 = .ok (.putfield 27, 3) := by decide +kernel
theorem d_X_feed_106 : decode prog_1_method_2_code 106 = .ok (.iinc 6 1, 3) := by decide +kernel
theorem d_X_feed_109 : decode prog_1_method_2_code 109 = .ok (.goto (-91), 3) := by decide +kernel
theorem d_X_feed_112 : decode prog_1_method_2_code 112 = .ok (.iconst 1, 1) := by decide +kernel
theorem d_X_feed_113 : decode prog_1_method_2_code 113 = .ok (.ireturn, 1) := by decide +kernel
theorem d_X_end_0 : decode prog_1_method_3_code 0 = .ok (.iload_n 1, 1) := by decide +kernel
theorem d_X_end_1 : decode prog_1_method_3_code 1 = .ok (.ifCond .lt 11, 3) := by decide +kernel
theorem d_X_end_4 : decode prog_1_method_3_code 4 = .ok (.iload_n 1, 1) := by decide +kernel
theorem d_X_end_5 : decode prog_1_method_3_code 5 = .ok (.aload_n 0, 1) := by decide +kernel
theorem d_X_end_6 : decode prog_1_method_3_code 6 = .ok (.getfield 27, 3) := by decide +kernel
theorem d_X_end_9 : decode prog_1_method_3_code 9 = .ok (.if_icmp .le 5, 3) := by decide +kernel
theorem d_X_end_12 : decode prog_1_method_3_code 12 = .ok (.iconst 0, 1) := by decide +kernel
theorem d_X_end_13 : decode prog_1_method_3_code 13 = .ok (.ireturn, 1) := by decide +kernel
theorem d_X_end_14 : decode prog_1_method_3_code 14 = .ok (.aload_n 0, 1) := by decide +kernel
theorem d_X_end_15 : decode prog_1_method_3_code 15 = .ok (.iload_n 1, 1) := by decide +kernel
theorem d_X_end_16 : decode prog_1_method_3_code 16 = .ok (.putfield 27, 3) := by decide +kernel
theorem d_X_end_19 : decode prog_1_method_3_code 19 = .ok (.iconst 1, 1) := by decide +kernel
theorem d_X_end_20 : decode prog_1_method_3_code 20 = .ok (.ireturn, 1) := by decide +kernel
theorem d_X_arrive_0 : decode prog_1_method_4_code 0 = .ok (.aload_n 0, 1) := by decide +kernel
theorem d_X_arrive_1 : decode prog_1_method_4_code 1 = .ok (.getfield 27, 3) := by decide +kernel
theorem d_X_arrive_4 : decode prog_1_method_4_code 4 = .ok (.istore_n 1, 1) := by decide +kernel
theorem d_X_arrive_5 : decode prog_1_method_4_code 5 = .ok (.aload_n 0, 1) := by decide +kernel
theorem d_X_arrive_6 : decode prog_1_method_4_code 6 = .ok (.iconst 0, 1) := by decide +kernel
theorem d_X_arrive_7 : decode prog_1_method_4_code 7 = .ok (.putfield 27, 3) := by decide +kernel
theorem d_X_arrive_10 : decode prog_1_method_4_code 10 = .ok (.aload_n 0, 1) := by decide +kernel
theorem d_X_arrive_11 : decode prog_1_method_4_code 11 = .ok (.getfield 31, 3) := by decide +kernel
theorem d_X_arrive_14 : decode prog_1_method_4_code 14 = .ok (.iload_n 1, 1) := by decide +kernel
theorem d_X_arrive_15 : decode prog_1_method_4_code 15 = .ok (.iadd, 1) := by decide +kernel
theorem d_X_arrive_16 : decode prog_1_method_4_code 16 = .ok (.ldc 13, 2) := by decide +kernel
theorem d_X_arrive_18 : decode prog_1_method_4_code 18 = .ok (.if_icmp .le 5, 3) := by decide +kernel
theorem d_X_arrive_21 : decode prog_1_method_4_code 21 = .ok (.iconst (-1), 1) := by decide +kernel
theorem d_X_arrive_22 : decode prog_1_method_4_code 22 = .ok (.ireturn, 1) := by decide +kernel
theorem d_X_arrive_23 : decode prog_1_method_4_code 23 = .ok (.aload_n 0, 1) := by decide +kernel
theorem d_X_arrive_24 : decode prog_1_method_4_code 24 = .ok (.getfield 9, 3) := by decide +kernel
theorem d_X_arrive_27 : decode prog_1_method_4_code 27 = .ok (.iconst 0, 1) := by decide +kernel
theorem d_X_arrive_28 : decode prog_1_method_4_code 28 = .ok (.aload_n 0, 1) := by decide +kernel
theorem d_X_arrive_29 : decode prog_1_method_4_code 29 = .ok (.getfield 14, 3) := by decide +kernel
theorem d_X_arrive_32 : decode prog_1_method_4_code 32 = .ok (.aload_n 0, 1) := by decide +kernel
theorem d_X_arrive_33 : decode prog_1_method_4_code 33 = .ok (.getfield 31, 3) := by decide +kernel
theorem d_X_arrive_36 : decode prog_1_method_4_code 36 = .ok (.iload_n 1, 1) := by decide +kernel
theorem d_X_arrive_37 : decode prog_1_method_4_code 37 = .ok (.invokestatic 34, 3) := by decide +kernel
theorem d_X_arrive_40 : decode prog_1_method_4_code 40 = .ok (.aload_n 0, 1) := by decide +kernel
theorem d_X_arrive_41 : decode prog_1_method_4_code 41 = .ok (.dup, 1) := by decide +kernel
theorem d_X_arrive_42 : decode prog_1_method_4_code 42 = .ok (.getfield 31, 3) := by decide +kernel
theorem d_X_arrive_45 : decode prog_1_method_4_code 45 = .ok (.iload_n 1, 1) := by decide +kernel
theorem d_X_arrive_46 : decode prog_1_method_4_code 46 = .ok (.iadd, 1) := by decide +kernel
theorem d_X_arrive_47 : decode prog_1_method_4_code 47 = .ok (.putfield 31, 3) := by decide +kernel
theorem d_X_arrive_50 : decode prog_1_method_4_code 50 = .ok (.aload_n 0, 1) := by decide +kernel
theorem d_X_arrive_51 : decode prog_1_method_4_code 51 = .ok (.getfield 31, 3) := by decide +kernel
theorem d_X_arrive_54 : decode prog_1_method_4_code 54 = .ok (.ireturn, 1) := by decide +kernel
theorem d_X_cut_0 : decode prog_1_method_5_code 0 = .ok (.aload_n 0, 1) := by decide +kernel
theorem d_X_cut_1 : decode prog_1_method_5_code 1 = .ok (.iconst 0, 1) := by decide +kernel
theorem d_X_cut_2 : decode prog_1_method_5_code 2 = .ok (.putfield 40, 3) := by decide +kernel
theorem d_X_cut_5 : decode prog_1_method_5_code 5 = .ok (.aload_n 0, 1) := by decide +kernel
theorem d_X_cut_6 : decode prog_1_method_5_code 6 = .ok (.iconst 0, 1) := by decide +kernel
theorem d_X_cut_7 : decode prog_1_method_5_code 7 = .ok (.putfield 43, 3) := by decide +kernel
theorem d_X_cut_10 : decode prog_1_method_5_code 10 = .ok (.aload_n 0, 1) := by decide +kernel
theorem d_X_cut_11 : decode prog_1_method_5_code 11 = .ok (.getfield 20, 3) := by decide +kernel
theorem d_X_cut_14 : decode prog_1_method_5_code 14 = .ok (.aload_n 0, 1) := by decide +kernel
theorem d_X_cut_15 : decode prog_1_method_5_code 15 = .ok (.getfield 14, 3) := by decide +kernel
theorem d_X_cut_18 : decode prog_1_method_5_code 18 = .ok (.iconst 0, 1) := by decide +kernel
theorem d_X_cut_19 : decode prog_1_method_5_code 19 = .ok (.aload_n 0, 1) := by decide +kernel
theorem d_X_cut_20 : decode prog_1_method_5_code 20 = .ok (.getfield 31, 3) := by decide +kernel
theorem d_X_cut_23 : decode prog_1_method_5_code 23 = .ok (.invokevirtual 46, 3) := by decide +kernel
theorem d_X_cut_26 : decode prog_1_method_5_code 26 = .ok (.ifCond .ne 194, 3) := by decide +kernel
theorem d_X_cut_29 : decode prog_1_method_5_code 29 = .ok (.aload_n 0, 1) := by decide +kernel
theorem d_X_cut_30 : decode prog_1_method_5_code 30 = .ok (.getfield 20, 3) := by decide +kernel
theorem d_X_cut_33 : decode prog_1_method_5_code 33 = .ok (.getfield 50, 3) := by decide +kernel
theorem d_X_cut_36 : decode prog_1_method_5_code 36 = .ok (.ifnonnull 5, 3) := by decide +kernel
theorem d_X_cut_39 : decode prog_1_method_5_code 39 = .ok (.iconst (-1), 1) := by decide +kernel
theorem d_X_cut_40 : decode prog_1_method_5_code 40 = .ok (.ireturn, 1) := by decide +kernel
theorem d_X_cut_41 : decode prog_1_method_5_code 41 = .ok (.aload_n 0, 1) := by decide +kernel
theorem d_X_cut_42 : decode prog_1_method_5_code 42 = .ok (.getfield 20, 3) := by decide +kernel
theorem d_X_cut_45 : decode prog_1_method_5_code 45 = .ok (.getfield 50, 3) := by decide +kernel
theorem d_X_cut_48 : decode prog_1_method_5_code 48 = .ok (.astore_n 1, 1) := by decide +kernel
theorem d_X_cut_49 : decode prog_1_method_5_code 49 = .ok (.iconst (-1), 1) := by decide +kernel
theorem d_X_cut_50 : decode prog_1_method_5_code 50 = .ok (.istore_n 2, 1) := by decide +kernel
theorem d_X_cut_51 : decode prog_1_method_5_code 51 = .ok (.aload_n 1, 1) := by decide +kernel
theorem d_X_cut_52 : decode prog_1_method_5_code 52 = .ok (.invokevirtual 53, 3) := by decide +kernel
theorem d_X_cut_55 : decode prog_1_method_5_code 55 = .ok (.lookupswitch 94 #[((-1326217028), 55), ((-1298752217), 83), ((-1106363674), 69), (94851343, 41)], 41) := by decide +kernel
theorem d_X_cut_96 : decode prog_1_method_5_code 96 = .ok (.aload_n 1, 1) := by decide +kernel
theorem d_X_cut_97 : decode prog_1_method_5_code 97 = .ok (.ldc 59, 2) := by decide +kernel
theorem d_X_cut_99 : decode prog_1_method_5_code 99 = .ok (.invokevirtual 61, 3) := by decide +kernel
theorem d_X_cut_102 : decode prog_1_method_5_code 102 = .ok (.ifCond .eq 47, 3) := by decide +kernel
theorem d_X_cut_105 : decode prog_1_method_5_code 105 = .ok (.iconst 0, 1) := by decide +kernel
theorem d_X_cut_106 : decode prog_1_method_5_code 106 = .ok (.istore_n 2, 1) := by decide +kernel
theorem d_X_cut_107 : decode prog_1_method_5_code 107 = .ok (.goto 42, 3) := by decide +kernel
theorem d_X_cut_110 : decode prog_1_method_5_code 110 = .ok (.aload_n 1, 1) := by decide +kernel
theorem d_X_cut_111 : decode prog_1_method_5_code 111 = .ok (.ldc 65, 2) := by decide +kernel
theorem d_X_cut_113 : decode prog_1_method_5_code 113 = .ok (.invokevirtual 61, 3) := by decide +kernel
theorem d_X_cut_116 : decode prog_1_method_5_code 116 = .ok (.ifCond .eq 33, 3) := by decide +kernel
theorem d_X_cut_119 : decode prog_1_method_5_code 119 = .ok (.iconst 1, 1) := by decide +kernel
theorem d_X_cut_120 : decode prog_1_method_5_code 120 = .ok (.istore_n 2, 1) := by decide +kernel
theorem d_X_cut_121 : decode prog_1_method_5_code 121 = .ok (.goto 28, 3) := by decide +kernel
theorem d_X_cut_124 : decode prog_1_method_5_code 124 = .ok (.aload_n 1, 1) := by decide +kernel
theorem d_X_cut_125 : decode prog_1_method_5_code 125 = .ok (.ldc 67, 2) := by decide +kernel
theorem d_X_cut_127 : decode prog_1_method_5_code 127 = .ok (.invokevirtual 61, 3) := by decide +kernel
theorem d_X_cut_130 : decode prog_1_method_5_code 130 = .ok (.ifCond .eq 19, 3) := by decide +kernel
theorem d_X_cut_133 : decode prog_1_method_5_code 133 = .ok (.iconst 2, 1) := by decide +kernel
theorem d_X_cut_134 : decode prog_1_method_5_code 134 = .ok (.istore_n 2, 1) := by decide +kernel
theorem d_X_cut_135 : decode prog_1_method_5_code 135 = .ok (.goto 14, 3) := by decide +kernel
theorem d_X_cut_138 : decode prog_1_method_5_code 138 = .ok (.aload_n 1, 1) := by decide +kernel
theorem d_X_cut_139 : decode prog_1_method_5_code 139 = .ok (.ldc 68, 2) := by decide +kernel
theorem d_X_cut_141 : decode prog_1_method_5_code 141 = .ok (.invokevirtual 61, 3) := by decide +kernel
theorem d_X_cut_144 : decode prog_1_method_5_code 144 = .ok (.ifCond .eq 5, 3) := by decide +kernel
theorem d_X_cut_147 : decode prog_1_method_5_code 147 = .ok (.iconst 3, 1) := by decide +kernel
theorem d_X_cut_148 : decode prog_1_method_5_code 148 = .ok (.istore_n 2, 1) := by decide +kernel
theorem d_X_cut_149 : decode prog_1_method_5_code 149 = .ok (.iload_n 2, 1) := by decide +kernel
theorem d_X_cut_150 : decode prog_1_method_5_code 150 = .ok (.tableswitch 62 0 3 #[30, 38, 46, 54], 30) := by decide +kernel
theorem d_X_cut_180 : decode prog_1_method_5_code 180 = .ok (.aload_n 0, 1) := by decide +kernel
theorem d_X_cut_181 : decode prog_1_method_5_code 181 = .ok (.iconst 1, 1) := by decide +kernel
theorem d_X_cut_182 : decode prog_1_method_5_code 182 = .ok (.putfield 43, 3) := by decide +kernel
theorem d_X_cut_185 : decode prog_1_method_5_code 185 = .ok (.goto 32, 3) := by decide +kernel
theorem d_X_cut_188 : decode prog_1_method_5_code 188 = .ok (.aload_n 0, 1) := by decide +kernel
theorem d_X_cut_189 : decode prog_1_method_5_code 189 = .ok (.iconst 2, 1) := by decide +kernel
theorem d_X_cut_190 : decode prog_1_method_5_code 190 = .ok (.putfield 43, 3) := by decide +kernel
theorem d_X_cut_193 : decode prog_1_method_5_code 193 = .ok (.goto 24, 3) := by decide +kernel
theorem d_X_cut_196 : decode prog_1_method_5_code 196 = .ok (.aload_n 0, 1) := by decide +kernel
theorem d_X_cut_197 : decode prog_1_method_5_code 197 = .ok (.iconst 3, 1) := by decide +kernel
theorem d_X_cut_198 : decode prog_1_method_5_code 198 = .ok (.putfield 43, 3) := by decide +kernel
theorem d_X_cut_201 : decode prog_1_method_5_code 201 = .ok (.goto 16, 3) := by decide +kernel
theorem d_X_cut_204 : decode prog_1_method_5_code 204 = .ok (.aload_n 0, 1) := by decide +kernel
theorem d_X_cut_205 : decode prog_1_method_5_code 205 = .ok (.iconst 4, 1) := by decide +kernel
theorem d_X_cut_206 : decode prog_1_method_5_code 206 = .ok (.putfield 43, 3) := by decide +kernel
theorem d_X_cut_209 : decode prog_1_method_5_code 209 = .ok (.goto 8, 3) := by decide +kernel
theorem d_X_cut_212 : decode prog_1_method_5_code 212 = .ok (.aload_n 0, 1) := by decide +kernel
theorem d_X_cut_213 : decode prog_1_method_5_code 213 = .ok (.iconst 5, 1) := by decide +kernel
theorem d_X_cut_214 : decode prog_1_method_5_code 214 = .ok (.putfield 43, 3) := by decide +kernel
theorem d_X_cut_217 : decode prog_1_method_5_code 217 = .ok (.bipush (-2), 2) := by decide +kernel
theorem d_X_cut_219 : decode prog_1_method_5_code 219 = .ok (.ireturn, 1) := by decide +kernel
theorem d_X_cut_220 : decode prog_1_method_5_code 220 = .ok (.aload_n 0, 1) := by decide +kernel
theorem d_X_cut_221 : decode prog_1_method_5_code 221 = .ok (.aload_n 0, 1) := by decide +kernel
theorem d_X_cut_222 : decode prog_1_method_5_code 222 = .ok (.getfield 20, 3) := by decide +kernel
theorem d_X_cut_225 : decode prog_1_method_5_code 225 = .ok (.getfield 70, 3) := by decide +kernel
theorem d_X_cut_228 : decode prog_1_method_5_code 228 = .ok (.putfield 40, 3) := by decide +kernel
theorem d_X_cut_231 : decode prog_1_method_5_code 231 = .ok (.aload_n 0, 1) := by decide +kernel
theorem d_X_cut_232 : decode prog_1_method_5_code 232 = .ok (.getfield 14, 3) := by decide +kernel
theorem d_X_cut_235 : decode prog_1_method_5_code 235 = .ok (.iconst 0, 1) := by decide +kernel
theorem d_X_cut_236 : decode prog_1_method_5_code 236 = .ok (.aload_n 0, 1) := by decide +kernel
theorem d_X_cut_237 : decode prog_1_method_5_code 237 = .ok (.getfield 24, 3) := by decide +kernel
theorem d_X_cut_240 : decode prog_1_method_5_code 240 = .ok (.iconst 0, 1) := by decide +kernel
theorem d_X_cut_241 : decode prog_1_method_5_code 241 = .ok (.aload_n 0, 1) := by decide +kernel
theorem d_X_cut_242 : decode prog_1_method_5_code 242 = .ok (.getfield 20, 3) := by decide +kernel
theorem d_X_cut_245 : decode prog_1_method_5_code 245 = .ok (.getfield 71, 3) := by decide +kernel
theorem d_X_cut_248 : decode prog_1_method_5_code 248 = .ok (.invokestatic 34, 3) := by decide +kernel
theorem d_X_cut_251 : decode prog_1_method_5_code 251 = .ok (.aload_n 0, 1) := by decide +kernel
theorem d_X_cut_252 : decode prog_1_method_5_code 252 = .ok (.aload_n 0, 1) := by decide +kernel
theorem d_X_cut_253 : decode prog_1_method_5_code 253 = .ok (.getfield 20, 3) := by decide +kernel
theorem d_X_cut_256 : decode prog_1_method_5_code 256 = .ok (.getfield 71, 3) := by decide +kernel
theorem d_X_cut_259 : decode prog_1_method_5_code 259 = .ok (.invokevirtual 74, 3) := by decide +kernel
theorem d_X_cut_262 : decode prog_1_method_5_code 262 = .ok (.pop, 1) := by decide +kernel
theorem d_X_cut_263 : decode prog_1_method_5_code 263 = .ok (.aload_n 0, 1) := by decide +kernel
theorem d_X_cut_264 : decode prog_1_method_5_code 264 = .ok (.getfield 40, 3) := by decide +kernel
theorem d_X_cut_267 : decode prog_1_method_5_code 267 = .ok (.ireturn, 1) := by decide +kernel
theorem d_X_fault_0 : decode prog_1_method_6_code 0 = .ok (.aload_n 0, 1) := by decide +kernel
theorem d_X_fault_1 : decode prog_1_method_6_code 1 = .ok (.getfield 43, 3) := by decide +kernel
theorem d_X_fault_4 : decode prog_1_method_6_code 4 = .ok (.ireturn, 1) := by decide +kernel
theorem d_X_size_0 : decode prog_1_method_7_code 0 = .ok (.iload_n 1, 1) := by decide +kernel
theorem d_X_size_1 : decode prog_1_method_7_code 1 = .ok (.ifCond .lt 23, 3) := by decide +kernel
theorem d_X_size_4 : decode prog_1_method_7_code 4 = .ok (.iload_n 1, 1) := by decide +kernel
theorem d_X_size_5 : decode prog_1_method_7_code 5 = .ok (.aload_n 0, 1) := by decide +kernel
theorem d_X_size_6 : decode prog_1_method_7_code 6 = .ok (.getfield 40, 3) := by decide +kernel
theorem d_X_size_9 : decode prog_1_method_7_code 9 = .ok (.if_icmp .ge 15, 3) := by decide +kernel
theorem d_X_size_12 : decode prog_1_method_7_code 12 = .ok (.aload_n 0, 1) := by decide +kernel
theorem d_X_size_13 : decode prog_1_method_7_code 13 = .ok (.getfield 20, 3) := by decide +kernel
theorem d_X_size_16 : decode prog_1_method_7_code 16 = .ok (.getfield 78, 3) := by decide +kernel
theorem d_X_size_19 : decode prog_1_method_7_code 19 = .ok (.iload_n 1, 1) := by decide +kernel
theorem d_X_size_20 : decode prog_1_method_7_code 20 = .ok (.iaload, 1) := by decide +kernel
theorem d_X_size_21 : decode prog_1_method_7_code 21 = .ok (.goto 4, 3) := by decide +kernel
theorem d_X_size_24 : decode prog_1_method_7_code 24 = .ok (.iconst (-1), 1) := by decide +kernel
theorem d_X_size_25 : decode prog_1_method_7_code 25 = .ok (.ireturn, 1) := by decide +kernel
theorem d_X_byteOf_0 : decode prog_1_method_8_code 0 = .ok (.iload_n 1, 1) := by decide +kernel
theorem d_X_byteOf_1 : decode prog_1_method_8_code 1 = .ok (.ifCond .lt 51, 3) := by decide +kernel
theorem d_X_byteOf_4 : decode prog_1_method_8_code 4 = .ok (.iload_n 1, 1) := by decide +kernel
theorem d_X_byteOf_5 : decode prog_1_method_8_code 5 = .ok (.aload_n 0, 1) := by decide +kernel
theorem d_X_byteOf_6 : decode prog_1_method_8_code 6 = .ok (.getfield 40, 3) := by decide +kernel
theorem d_X_byteOf_9 : decode prog_1_method_8_code 9 = .ok (.if_icmp .ge 43, 3) := by decide +kernel
theorem d_X_byteOf_12 : decode prog_1_method_8_code 12 = .ok (.iload_n 2, 1) := by decide +kernel
theorem d_X_byteOf_13 : decode prog_1_method_8_code 13 = .ok (.ifCond .lt 39, 3) := by decide +kernel
theorem d_X_byteOf_16 : decode prog_1_method_8_code 16 = .ok (.iload_n 2, 1) := by decide +kernel
theorem d_X_byteOf_17 : decode prog_1_method_8_code 17 = .ok (.aload_n 0, 1) := by decide +kernel
theorem d_X_byteOf_18 : decode prog_1_method_8_code 18 = .ok (.getfield 20, 3) := by decide +kernel
theorem d_X_byteOf_21 : decode prog_1_method_8_code 21 = .ok (.getfield 78, 3) := by decide +kernel
theorem d_X_byteOf_24 : decode prog_1_method_8_code 24 = .ok (.iload_n 1, 1) := by decide +kernel
theorem d_X_byteOf_25 : decode prog_1_method_8_code 25 = .ok (.iaload, 1) := by decide +kernel
theorem d_X_byteOf_26 : decode prog_1_method_8_code 26 = .ok (.if_icmp .ge 26, 3) := by decide +kernel
theorem d_X_byteOf_29 : decode prog_1_method_8_code 29 = .ok (.aload_n 0, 1) := by decide +kernel
theorem d_X_byteOf_30 : decode prog_1_method_8_code 30 = .ok (.getfield 24, 3) := by decide +kernel
theorem d_X_byteOf_33 : decode prog_1_method_8_code 33 = .ok (.aload_n 0, 1) := by decide +kernel
theorem d_X_byteOf_34 : decode prog_1_method_8_code 34 = .ok (.getfield 20, 3) := by decide +kernel
theorem d_X_byteOf_37 : decode prog_1_method_8_code 37 = .ok (.getfield 82, 3) := by decide +kernel
theorem d_X_byteOf_40 : decode prog_1_method_8_code 40 = .ok (.iload_n 1, 1) := by decide +kernel
theorem d_X_byteOf_41 : decode prog_1_method_8_code 41 = .ok (.iaload, 1) := by decide +kernel
theorem d_X_byteOf_42 : decode prog_1_method_8_code 42 = .ok (.iload_n 2, 1) := by decide +kernel
theorem d_X_byteOf_43 : decode prog_1_method_8_code 43 = .ok (.iadd, 1) := by decide +kernel
theorem d_X_byteOf_44 : decode prog_1_method_8_code 44 = .ok (.baload, 1) := by decide +kernel
theorem d_X_byteOf_45 : decode prog_1_method_8_code 45 = .ok (.sipush 255, 3) := by decide +kernel
theorem d_X_byteOf_48 : decode prog_1_method_8_code 48 = .ok (.iand, 1) := by decide +kernel
theorem d_X_byteOf_49 : decode prog_1_method_8_code 49 = .ok (.goto 4, 3) := by decide +kernel
theorem d_X_byteOf_52 : decode prog_1_method_8_code 52 = .ok (.iconst (-1), 1) := by decide +kernel
theorem d_X_byteOf_53 : decode prog_1_method_8_code 53 = .ok (.ireturn, 1) := by decide +kernel
theorem d_X_drop_0 : decode prog_1_method_9_code 0 = .ok (.iload_n 1, 1) := by decide +kernel
theorem d_X_drop_1 : decode prog_1_method_9_code 1 = .ok (.ifCond .lt 11, 3) := by decide +kernel
theorem d_X_drop_4 : decode prog_1_method_9_code 4 = .ok (.iload_n 1, 1) := by decide +kernel
theorem d_X_drop_5 : decode prog_1_method_9_code 5 = .ok (.aload_n 0, 1) := by decide +kernel
theorem d_X_drop_6 : decode prog_1_method_9_code 6 = .ok (.getfield 31, 3) := by decide +kernel
theorem d_X_drop_9 : decode prog_1_method_9_code 9 = .ok (.if_icmp .le 5, 3) := by decide +kernel
theorem d_X_drop_12 : decode prog_1_method_9_code 12 = .ok (.iconst 0, 1) := by decide +kernel
theorem d_X_drop_13 : decode prog_1_method_9_code 13 = .ok (.ireturn, 1) := by decide +kernel
theorem d_X_drop_14 : decode prog_1_method_9_code 14 = .ok (.aload_n 0, 1) := by decide +kernel
theorem d_X_drop_15 : decode prog_1_method_9_code 15 = .ok (.getfield 14, 3) := by decide +kernel
theorem d_X_drop_18 : decode prog_1_method_9_code 18 = .ok (.iload_n 1, 1) := by decide +kernel
theorem d_X_drop_19 : decode prog_1_method_9_code 19 = .ok (.aload_n 0, 1) := by decide +kernel
theorem d_X_drop_20 : decode prog_1_method_9_code 20 = .ok (.getfield 14, 3) := by decide +kernel
theorem d_X_drop_23 : decode prog_1_method_9_code 23 = .ok (.iconst 0, 1) := by decide +kernel
theorem d_X_drop_24 : decode prog_1_method_9_code 24 = .ok (.aload_n 0, 1) := by decide +kernel
theorem d_X_drop_25 : decode prog_1_method_9_code 25 = .ok (.getfield 31, 3) := by decide +kernel
theorem d_X_drop_28 : decode prog_1_method_9_code 28 = .ok (.iload_n 1, 1) := by decide +kernel
theorem d_X_drop_29 : decode prog_1_method_9_code 29 = .ok (.isub, 1) := by decide +kernel
theorem d_X_drop_30 : decode prog_1_method_9_code 30 = .ok (.invokestatic 34, 3) := by decide +kernel
theorem d_X_drop_33 : decode prog_1_method_9_code 33 = .ok (.aload_n 0, 1) := by decide +kernel
theorem d_X_drop_34 : decode prog_1_method_9_code 34 = .ok (.dup, 1) := by decide +kernel
theorem d_X_drop_35 : decode prog_1_method_9_code 35 = .ok (.getfield 31, 3) := by decide +kernel
theorem d_X_drop_38 : decode prog_1_method_9_code 38 = .ok (.iload_n 1, 1) := by decide +kernel
theorem d_X_drop_39 : decode prog_1_method_9_code 39 = .ok (.isub, 1) := by decide +kernel
theorem d_X_drop_40 : decode prog_1_method_9_code 40 = .ok (.putfield 31, 3) := by decide +kernel
theorem d_X_drop_43 : decode prog_1_method_9_code 43 = .ok (.iconst 1, 1) := by decide +kernel
theorem d_X_drop_44 : decode prog_1_method_9_code 44 = .ok (.ireturn, 1) := by decide +kernel
theorem d_X_waiting_0 : decode prog_1_method_10_code 0 = .ok (.aload_n 0, 1) := by decide +kernel
theorem d_X_waiting_1 : decode prog_1_method_10_code 1 = .ok (.getfield 31, 3) := by decide +kernel
theorem d_X_waiting_4 : decode prog_1_method_10_code 4 = .ok (.ireturn, 1) := by decide +kernel
theorem d_S_hash_0 : decode prog_6_method_78_code 0 = .ok (.aload_n 0, 1) := by decide +kernel
theorem d_S_hash_1 : decode prog_6_method_78_code 1 = .ok (.getfield 19, 3) := by decide +kernel
theorem d_S_hash_4 : decode prog_6_method_78_code 4 = .ok (.istore_n 1, 1) := by decide +kernel
theorem d_S_hash_5 : decode prog_6_method_78_code 5 = .ok (.iload_n 1, 1) := by decide +kernel
theorem d_S_hash_6 : decode prog_6_method_78_code 6 = .ok (.ifCond .ne 52, 3) := by decide +kernel
theorem d_S_hash_58 : decode prog_6_method_78_code 58 = .ok (.iload_n 1, 1) := by decide +kernel
theorem d_S_hash_59 : decode prog_6_method_78_code 59 = .ok (.ireturn, 1) := by decide +kernel
theorem d_S_equals_0 : decode prog_6_method_66_code 0 = .ok (.aload_n 0, 1) := by decide +kernel
theorem d_S_equals_1 : decode prog_6_method_66_code 1 = .ok (.aload_n 1, 1) := by decide +kernel
theorem d_S_equals_2 : decode prog_6_method_66_code 2 = .ok (.if_acmp .ne 5, 3) := by decide +kernel
theorem d_S_equals_5 : decode prog_6_method_66_code 5 = .ok (.iconst 1, 1) := by decide +kernel
theorem d_S_equals_6 : decode prog_6_method_66_code 6 = .ok (.ireturn, 1) := by decide +kernel
end
section
theorem d_C_init_0 : decode prog_2_method_1_code 0 = .ok (.aload_n 0, 1) := by decide +kernel
theorem d_C_init_1 : decode prog_2_method_1_code 1 = .ok (.invokespecial 1, 3) := by decide +kernel
theorem d_C_init_4 : decode prog_2_method_1_code 4 = .ok (.aload_n 0, 1) := by decide +kernel
theorem d_C_init_5 : decode prog_2_method_1_code 5 = .ok (.sipush 1100, 3) := by decide +kernel
theorem d_C_init_8 : decode prog_2_method_1_code 8 = .ok (.newarray .int, 2) := by decide +kernel
theorem d_C_init_10 : decode prog_2_method_1_code 10 = .ok (.putfield 7, 3) := by decide +kernel
theorem d_C_init_13 : decode prog_2_method_1_code 13 = .ok (.aload_n 0, 1) := by decide +kernel
theorem d_C_init_14 : decode prog_2_method_1_code 14 = .ok (.sipush 1100, 3) := by decide +kernel
theorem d_C_init_17 : decode prog_2_method_1_code 17 = .ok (.newarray .int, 2) := by decide +kernel
theorem d_C_init_19 : decode prog_2_method_1_code 19 = .ok (.putfield 13, 3) := by decide +kernel
theorem d_C_init_22 : decode prog_2_method_1_code 22 = .ok (.return_, 1) := by decide +kernel
theorem d_C_isLine_0 : decode prog_2_method_2_code 0 = .ok (.iload_n 2, 1) := by decide +kernel
theorem d_C_isLine_1 : decode prog_2_method_2_code 1 = .ok (.istore 5, 2) := by decide +kernel
theorem d_C_isLine_3 : decode prog_2_method_2_code 3 = .ok (.iload 5, 2) := by decide +kernel
theorem d_C_isLine_5 : decode prog_2_method_2_code 5 = .ok (.iconst 1, 1) := by decide +kernel
theorem d_C_isLine_6 : decode prog_2_method_2_code 6 = .ok (.iadd, 1) := by decide +kernel
theorem d_C_isLine_7 : decode prog_2_method_2_code 7 = .ok (.iload_n 3, 1) := by decide +kernel
theorem d_C_isLine_8 : decode prog_2_method_2_code 8 = .ok (.if_icmp .ge 40, 3) := by decide +kernel
theorem d_C_isLine_11 : decode prog_2_method_2_code 11 = .ok (.iload 5, 2) := by decide +kernel
theorem d_C_isLine_13 : decode prog_2_method_2_code 13 = .ok (.iconst 1, 1) := by decide +kernel
theorem d_C_isLine_14 : decode prog_2_method_2_code 14 = .ok (.iadd, 1) := by decide +kernel
theorem d_C_isLine_15 : decode prog_2_method_2_code 15 = .ok (.iload_n 2, 1) := by decide +kernel
theorem d_C_isLine_16 : decode prog_2_method_2_code 16 = .ok (.bipush 16, 2) := by decide +kernel
theorem d_C_isLine_18 : decode prog_2_method_2_code 18 = .ok (.iadd, 1) := by decide +kernel
theorem d_C_isLine_19 : decode prog_2_method_2_code 19 = .ok (.if_icmp .ge 29, 3) := by decide +kernel
theorem d_C_isLine_22 : decode prog_2_method_2_code 22 = .ok (.aload_n 1, 1) := by decide +kernel
theorem d_C_isLine_23 : decode prog_2_method_2_code 23 = .ok (.iload 5, 2) := by decide +kernel
theorem d_C_isLine_25 : decode prog_2_method_2_code 25 = .ok (.baload, 1) := by decide +kernel
theorem d_C_isLine_26 : decode prog_2_method_2_code 26 = .ok (.bipush 13, 2) := by decide +kernel
theorem d_C_isLine_28 : decode prog_2_method_2_code 28 = .ok (.if_icmp .ne 14, 3) := by decide +kernel
theorem d_C_isLine_31 : decode prog_2_method_2_code 31 = .ok (.aload_n 1, 1) := by decide +kernel
theorem d_C_isLine_32 : decode prog_2_method_2_code 32 = .ok (.iload 5, 2) := by decide +kernel
theorem d_C_isLine_34 : decode prog_2_method_2_code 34 = .ok (.iconst 1, 1) := by decide +kernel
theorem d_C_isLine_35 : decode prog_2_method_2_code 35 = .ok (.iadd, 1) := by decide +kernel
theorem d_C_isLine_36 : decode prog_2_method_2_code 36 = .ok (.baload, 1) := by decide +kernel
theorem d_C_isLine_37 : decode prog_2_method_2_code 37 = .ok (.bipush 10, 2) := by decide +kernel
theorem d_C_isLine_39 : decode prog_2_method_2_code 39 = .ok (.if_icmp .eq 9, 3) := by decide +kernel
theorem d_C_isLine_42 : decode prog_2_method_2_code 42 = .ok (.iinc 5 1, 3) := by decide +kernel
theorem d_C_isLine_45 : decode prog_2_method_2_code 45 = .ok (.goto (-42), 3) := by decide +kernel
theorem d_C_isLine_48 : decode prog_2_method_2_code 48 = .ok (.iload 5, 2) := by decide +kernel
theorem d_C_isLine_50 : decode prog_2_method_2_code 50 = .ok (.iconst 1, 1) := by decide +kernel
theorem d_C_isLine_51 : decode prog_2_method_2_code 51 = .ok (.iadd, 1) := by decide +kernel
theorem d_C_isLine_52 : decode prog_2_method_2_code 52 = .ok (.iload_n 3, 1) := by decide +kernel
theorem d_C_isLine_53 : decode prog_2_method_2_code 53 = .ok (.if_icmp .ge 14, 3) := by decide +kernel
theorem d_C_isLine_56 : decode prog_2_method_2_code 56 = .ok (.iload 5, 2) := by decide +kernel
theorem d_C_isLine_58 : decode prog_2_method_2_code 58 = .ok (.iconst 1, 1) := by decide +kernel
theorem d_C_isLine_59 : decode prog_2_method_2_code 59 = .ok (.iadd, 1) := by decide +kernel
theorem d_C_isLine_60 : decode prog_2_method_2_code 60 = .ok (.iload_n 2, 1) := by decide +kernel
theorem d_C_isLine_61 : decode prog_2_method_2_code 61 = .ok (.bipush 16, 2) := by decide +kernel
theorem d_C_isLine_63 : decode prog_2_method_2_code 63 = .ok (.iadd, 1) := by decide +kernel
theorem d_C_isLine_64 : decode prog_2_method_2_code 64 = .ok (.if_icmp .lt 19, 3) := by decide +kernel
theorem d_C_isLine_67 : decode prog_2_method_2_code 67 = .ok (.iload_n 3, 1) := by decide +kernel
theorem d_C_isLine_68 : decode prog_2_method_2_code 68 = .ok (.iload_n 2, 1) := by decide +kernel
theorem d_C_isLine_69 : decode prog_2_method_2_code 69 = .ok (.isub, 1) := by decide +kernel
theorem d_C_isLine_70 : decode prog_2_method_2_code 70 = .ok (.bipush 16, 2) := by decide +kernel
theorem d_C_isLine_72 : decode prog_2_method_2_code 72 = .ok (.if_icmp .lt 9, 3) := by decide +kernel
theorem d_C_isLine_75 : decode prog_2_method_2_code 75 = .ok (.aload_n 0, 1) := by decide +kernel
theorem d_C_isLine_76 : decode prog_2_method_2_code 76 = .ok (.aload 4, 2) := by decide +kernel
theorem d_C_isLine_78 : decode prog_2_method_2_code 78 = .ok (.putfield 16, 3) := by decide +kernel
theorem d_C_isLine_81 : decode prog_2_method_2_code 81 = .ok (.iconst 0, 1) := by decide +kernel
theorem d_C_isLine_82 : decode prog_2_method_2_code 82 = .ok (.ireturn, 1) := by decide +kernel
theorem d_C_isLine_83 : decode prog_2_method_2_code 83 = .ok (.aload_n 1, 1) := by decide +kernel
theorem d_C_isLine_84 : decode prog_2_method_2_code 84 = .ok (.iload_n 2, 1) := by decide +kernel
theorem d_C_isLine_85 : decode prog_2_method_2_code 85 = .ok (.iconst 1, 1) := by decide +kernel
theorem d_C_isLine_86 : decode prog_2_method_2_code 86 = .ok (.iadd, 1) := by decide +kernel
theorem d_C_isLine_87 : decode prog_2_method_2_code 87 = .ok (.baload, 1) := by decide +kernel
theorem d_C_isLine_88 : decode prog_2_method_2_code 88 = .ok (.bipush 45, 2) := by decide +kernel
theorem d_C_isLine_90 : decode prog_2_method_2_code 90 = .ok (.if_icmp .ne 9, 3) := by decide +kernel
theorem d_C_isLine_93 : decode prog_2_method_2_code 93 = .ok (.iload_n 2, 1) := by decide +kernel
theorem d_C_isLine_94 : decode prog_2_method_2_code 94 = .ok (.iconst 2, 1) := by decide +kernel
theorem d_C_isLine_95 : decode prog_2_method_2_code 95 = .ok (.iadd, 1) := by decide +kernel
theorem d_C_isLine_96 : decode prog_2_method_2_code 96 = .ok (.goto 6, 3) := by decide +kernel
theorem d_C_isLine_99 : decode prog_2_method_2_code 99 = .ok (.iload_n 2, 1) := by decide +kernel
theorem d_C_isLine_100 : decode prog_2_method_2_code 100 = .ok (.iconst 1, 1) := by decide +kernel
theorem d_C_isLine_101 : decode prog_2_method_2_code 101 = .ok (.iadd, 1) := by decide +kernel
theorem d_C_isLine_102 : decode prog_2_method_2_code 102 = .ok (.istore 6, 2) := by decide +kernel
theorem d_C_isLine_104 : decode prog_2_method_2_code 104 = .ok (.iload 6, 2) := by decide +kernel
theorem d_C_isLine_106 : decode prog_2_method_2_code 106 = .ok (.iload_n 2, 1) := by decide +kernel
theorem d_C_isLine_107 : decode prog_2_method_2_code 107 = .ok (.iconst 2, 1) := by decide +kernel
theorem d_C_isLine_108 : decode prog_2_method_2_code 108 = .ok (.iadd, 1) := by decide +kernel
theorem d_C_isLine_109 : decode prog_2_method_2_code 109 = .ok (.if_icmp .ne 7, 3) := by decide +kernel
theorem d_C_isLine_112 : decode prog_2_method_2_code 112 = .ok (.iconst 1, 1) := by decide +kernel
theorem d_C_isLine_113 : decode prog_2_method_2_code 113 = .ok (.goto 4, 3) := by decide +kernel
theorem d_C_isLine_116 : decode prog_2_method_2_code 116 = .ok (.iconst 0, 1) := by decide +kernel
theorem d_C_isLine_117 : decode prog_2_method_2_code 117 = .ok (.istore 7, 2) := by decide +kernel
theorem d_C_isLine_119 : decode prog_2_method_2_code 119 = .ok (.iload 5, 2) := by decide +kernel
theorem d_C_isLine_121 : decode prog_2_method_2_code 121 = .ok (.iload 6, 2) := by decide +kernel
theorem d_C_isLine_123 : decode prog_2_method_2_code 123 = .ok (.isub, 1) := by decide +kernel
theorem d_C_isLine_124 : decode prog_2_method_2_code 124 = .ok (.iconst 1, 1) := by decide +kernel
theorem d_C_isLine_125 : decode prog_2_method_2_code 125 = .ok (.if_icmp .lt 17, 3) := by decide +kernel
theorem d_C_isLine_128 : decode prog_2_method_2_code 128 = .ok (.iload 5, 2) := by decide +kernel
theorem d_C_isLine_130 : decode prog_2_method_2_code 130 = .ok (.iload 6, 2) := by decide +kernel
theorem d_C_isLine_132 : decode prog_2_method_2_code 132 = .ok (.isub, 1) := by decide +kernel
theorem d_C_isLine_133 : decode prog_2_method_2_code 133 = .ok (.bipush 6, 2) := by decide +kernel
theorem d_C_isLine_135 : decode prog_2_method_2_code 135 = .ok (.if_icmp .gt 7, 3) := by decide +kernel
theorem d_C_isLine_138 : decode prog_2_method_2_code 138 = .ok (.iconst 1, 1) := by decide +kernel
theorem d_C_isLine_139 : decode prog_2_method_2_code 139 = .ok (.goto 4, 3) := by decide +kernel
theorem d_C_isLine_142 : decode prog_2_method_2_code 142 = .ok (.iconst 0, 1) := by decide +kernel
theorem d_C_isLine_143 : decode prog_2_method_2_code 143 = .ok (.istore 8, 2) := by decide +kernel
theorem d_C_isLine_145 : decode prog_2_method_2_code 145 = .ok (.aload_n 0, 1) := by decide +kernel
theorem d_C_isLine_146 : decode prog_2_method_2_code 146 = .ok (.iconst 0, 1) := by decide +kernel
theorem d_C_isLine_147 : decode prog_2_method_2_code 147 = .ok (.putfield 20, 3) := by decide +kernel
theorem d_C_isLine_150 : decode prog_2_method_2_code 150 = .ok (.iload 6, 2) := by decide +kernel
theorem d_C_isLine_152 : decode prog_2_method_2_code 152 = .ok (.iload 5, 2) := by decide +kernel
theorem d_C_isLine_154 : decode prog_2_method_2_code 154 = .ok (.if_icmp .ge 58, 3) := by decide +kernel
theorem d_C_isLine_157 : decode prog_2_method_2_code 157 = .ok (.iload 8, 2) := by decide +kernel
theorem d_C_isLine_159 : decode prog_2_method_2_code 159 = .ok (.ifCond .eq 53, 3) := by decide +kernel
theorem d_C_isLine_162 : decode prog_2_method_2_code 162 = .ok (.aload_n 1, 1) := by decide +kernel
theorem d_C_isLine_163 : decode prog_2_method_2_code 163 = .ok (.iload 6, 2) := by decide +kernel
theorem d_C_isLine_165 : decode prog_2_method_2_code 165 = .ok (.baload, 1) := by decide +kernel
theorem d_C_isLine_166 : decode prog_2_method_2_code 166 = .ok (.bipush 48, 2) := by decide +kernel
theorem d_C_isLine_168 : decode prog_2_method_2_code 168 = .ok (.if_icmp .lt 16, 3) := by decide +kernel
theorem d_C_isLine_171 : decode prog_2_method_2_code 171 = .ok (.aload_n 1, 1) := by decide +kernel
theorem d_C_isLine_172 : decode prog_2_method_2_code 172 = .ok (.iload 6, 2) := by decide +kernel
theorem d_C_isLine_174 : decode prog_2_method_2_code 174 = .ok (.baload, 1) := by decide +kernel
theorem d_C_isLine_175 : decode prog_2_method_2_code 175 = .ok (.bipush 57, 2) := by decide +kernel
theorem d_C_isLine_177 : decode prog_2_method_2_code 177 = .ok (.if_icmp .gt 7, 3) := by decide +kernel
theorem d_C_isLine_180 : decode prog_2_method_2_code 180 = .ok (.iconst 1, 1) := by decide +kernel
theorem d_C_isLine_181 : decode prog_2_method_2_code 181 = .ok (.goto 4, 3) := by decide +kernel
theorem d_C_isLine_184 : decode prog_2_method_2_code 184 = .ok (.iconst 0, 1) := by decide +kernel
theorem d_C_isLine_185 : decode prog_2_method_2_code 185 = .ok (.istore 8, 2) := by decide +kernel
theorem d_C_isLine_187 : decode prog_2_method_2_code 187 = .ok (.aload_n 0, 1) := by decide +kernel
theorem d_C_isLine_188 : decode prog_2_method_2_code 188 = .ok (.bipush 10, 2) := by decide +kernel
theorem d_C_isLine_190 : decode prog_2_method_2_code 190 = .ok (.aload_n 0, 1) := by decide +kernel
theorem d_C_isLine_191 : decode prog_2_method_2_code 191 = .ok (.getfield 20, 3) := by decide +kernel
theorem d_C_isLine_194 : decode prog_2_method_2_code 194 = .ok (.imul, 1) := by decide +kernel
theorem d_C_isLine_195 : decode prog_2_method_2_code 195 = .ok (.aload_n 1, 1) := by decide +kernel
theorem d_C_isLine_196 : decode prog_2_method_2_code 196 = .ok (.iload 6, 2) := by decide +kernel
theorem d_C_isLine_198 : decode prog_2_method_2_code 198 = .ok (.baload, 1) := by decide +kernel
theorem d_C_isLine_199 : decode prog_2_method_2_code 199 = .ok (.iadd, 1) := by decide +kernel
theorem d_C_isLine_200 : decode prog_2_method_2_code 200 = .ok (.bipush 48, 2) := by decide +kernel
theorem d_C_isLine_202 : decode prog_2_method_2_code 202 = .ok (.isub, 1) := by decide +kernel
theorem d_C_isLine_203 : decode prog_2_method_2_code 203 = .ok (.putfield 20, 3) := by decide +kernel
theorem d_C_isLine_206 : decode prog_2_method_2_code 206 = .ok (.iinc 6 1, 3) := by decide +kernel
theorem d_C_isLine_209 : decode prog_2_method_2_code 209 = .ok (.goto (-59), 3) := by decide +kernel
theorem d_C_isLine_212 : decode prog_2_method_2_code 212 = .ok (.iload 7, 2) := by decide +kernel
theorem d_C_isLine_214 : decode prog_2_method_2_code 214 = .ok (.ifCond .eq 12, 3) := by decide +kernel
theorem d_C_isLine_217 : decode prog_2_method_2_code 217 = .ok (.aload_n 0, 1) := by decide +kernel
theorem d_C_isLine_218 : decode prog_2_method_2_code 218 = .ok (.aload_n 0, 1) := by decide +kernel
theorem d_C_isLine_219 : decode prog_2_method_2_code 219 = .ok (.getfield 20, 3) := by decide +kernel
theorem d_C_isLine_222 : decode prog_2_method_2_code 222 = .ok (.ineg, 1) := by decide +kernel
theorem d_C_isLine_223 : decode prog_2_method_2_code 223 = .ok (.putfield 20, 3) := by decide +kernel
theorem d_C_isLine_226 : decode prog_2_method_2_code 226 = .ok (.aload_n 0, 1) := by decide +kernel
theorem d_C_isLine_227 : decode prog_2_method_2_code 227 = .ok (.iload 5, 2) := by decide +kernel
theorem d_C_isLine_229 : decode prog_2_method_2_code 229 = .ok (.iconst 2, 1) := by decide +kernel
theorem d_C_isLine_230 : decode prog_2_method_2_code 230 = .ok (.iadd, 1) := by decide +kernel
theorem d_C_isLine_231 : decode prog_2_method_2_code 231 = .ok (.putfield 24, 3) := by decide +kernel
theorem d_C_isLine_234 : decode prog_2_method_2_code 234 = .ok (.iload 8, 2) := by decide +kernel
theorem d_C_isLine_236 : decode prog_2_method_2_code 236 = .ok (.ifCond .ne 9, 3) := by decide +kernel
theorem d_C_isLine_239 : decode prog_2_method_2_code 239 = .ok (.aload_n 0, 1) := by decide +kernel
theorem d_C_isLine_240 : decode prog_2_method_2_code 240 = .ok (.aload 4, 2) := by decide +kernel
theorem d_C_isLine_242 : decode prog_2_method_2_code 242 = .ok (.putfield 16, 3) := by decide +kernel
theorem d_C_isLine_245 : decode prog_2_method_2_code 245 = .ok (.iload 8, 2) := by decide +kernel
theorem d_C_isLine_247 : decode prog_2_method_2_code 247 = .ok (.ireturn, 1) := by decide +kernel
theorem d_C_cuts_0 : decode prog_2_method_3_code 0 = .ok (.aload_n 0, 1) := by decide +kernel
theorem d_C_cuts_1 : decode prog_2_method_3_code 1 = .ok (.aconst_null, 1) := by decide +kernel
theorem d_C_cuts_2 : decode prog_2_method_3_code 2 = .ok (.putfield 16, 3) := by decide +kernel
theorem d_C_cuts_5 : decode prog_2_method_3_code 5 = .ok (.aload_n 0, 1) := by decide +kernel
theorem d_C_cuts_6 : decode prog_2_method_3_code 6 = .ok (.iconst 0, 1) := by decide +kernel
theorem d_C_cuts_7 : decode prog_2_method_3_code 7 = .ok (.putfield 27, 3) := by decide +kernel
theorem d_C_cuts_10 : decode prog_2_method_3_code 10 = .ok (.iload_n 2, 1) := by decide +kernel
theorem d_C_cuts_11 : decode prog_2_method_3_code 11 = .ok (.iload_n 3, 1) := by decide +kernel
theorem d_C_cuts_12 : decode prog_2_method_3_code 12 = .ok (.if_icmp .lt 5, 3) := by decide +kernel
theorem d_C_cuts_15 : decode prog_2_method_3_code 15 = .ok (.iconst 0, 1) := by decide +kernel
theorem d_C_cuts_16 : decode prog_2_method_3_code 16 = .ok (.ireturn, 1) := by decide +kernel
theorem d_C_cuts_17 : decode prog_2_method_3_code 17 = .ok (.aload_n 1, 1) := by decide +kernel
theorem d_C_cuts_18 : decode prog_2_method_3_code 18 = .ok (.iload_n 2, 1) := by decide +kernel
theorem d_C_cuts_19 : decode prog_2_method_3_code 19 = .ok (.baload, 1) := by decide +kernel
theorem d_C_cuts_20 : decode prog_2_method_3_code 20 = .ok (.bipush 42, 2) := by decide +kernel
theorem d_C_cuts_22 : decode prog_2_method_3_code 22 = .ok (.if_icmp .eq 11, 3) := by decide +kernel
theorem d_C_cuts_25 : decode prog_2_method_3_code 25 = .ok (.aload_n 0, 1) := by decide +kernel
theorem d_C_cuts_26 : decode prog_2_method_3_code 26 = .ok (.aload_n 1, 1) := by decide +kernel
theorem d_C_cuts_27 : decode prog_2_method_3_code 27 = .ok (.iload_n 2, 1) := by decide +kernel
theorem d_C_cuts_28 : decode prog_2_method_3_code 28 = .ok (.iload_n 3, 1) := by decide +kernel
theorem d_C_cuts_29 : decode prog_2_method_3_code 29 = .ok (.invokevirtual 30, 3) := by decide +kernel
theorem d_C_cuts_32 : decode prog_2_method_3_code 32 = .ok (.ireturn, 1) := by decide +kernel
theorem d_C_cuts_33 : decode prog_2_method_3_code 33 = .ok (.aload_n 0, 1) := by decide +kernel
theorem d_C_cuts_34 : decode prog_2_method_3_code 34 = .ok (.aload_n 1, 1) := by decide +kernel
theorem d_C_cuts_35 : decode prog_2_method_3_code 35 = .ok (.iload_n 2, 1) := by decide +kernel
theorem d_C_cuts_36 : decode prog_2_method_3_code 36 = .ok (.iload_n 3, 1) := by decide +kernel
theorem d_C_cuts_37 : decode prog_2_method_3_code 37 = .ok (.ldc 34, 2) := by decide +kernel
theorem d_C_cuts_39 : decode prog_2_method_3_code 39 = .ok (.invokevirtual 36, 3) := by decide +kernel
theorem d_C_cuts_42 : decode prog_2_method_3_code 42 = .ok (.ifCond .ne 5, 3) := by decide +kernel
theorem d_C_cuts_45 : decode prog_2_method_3_code 45 = .ok (.iconst 0, 1) := by decide +kernel
theorem d_C_cuts_46 : decode prog_2_method_3_code 46 = .ok (.ireturn, 1) := by decide +kernel
theorem d_C_cuts_47 : decode prog_2_method_3_code 47 = .ok (.aload_n 0, 1) := by decide +kernel
theorem d_C_cuts_48 : decode prog_2_method_3_code 48 = .ok (.getfield 20, 3) := by decide +kernel
theorem d_C_cuts_51 : decode prog_2_method_3_code 51 = .ok (.istore 4, 2) := by decide +kernel
theorem d_C_cuts_53 : decode prog_2_method_3_code 53 = .ok (.iload 4, 2) := by decide +kernel
theorem d_C_cuts_55 : decode prog_2_method_3_code 55 = .ok (.sipush 1024, 3) := by decide +kernel
theorem d_C_cuts_58 : decode prog_2_method_3_code 58 = .ok (.if_icmp .le 9, 3) := by decide +kernel
theorem d_C_cuts_61 : decode prog_2_method_3_code 61 = .ok (.aload_n 0, 1) := by decide +kernel
theorem d_C_cuts_62 : decode prog_2_method_3_code 62 = .ok (.ldc 34, 2) := by decide +kernel
theorem d_C_cuts_64 : decode prog_2_method_3_code 64 = .ok (.putfield 16, 3) := by decide +kernel
theorem d_C_cuts_67 : decode prog_2_method_3_code 67 = .ok (.iconst 0, 1) := by decide +kernel
theorem d_C_cuts_68 : decode prog_2_method_3_code 68 = .ok (.istore 5, 2) := by decide +kernel
theorem d_C_cuts_70 : decode prog_2_method_3_code 70 = .ok (.iload 5, 2) := by decide +kernel
theorem d_C_cuts_72 : decode prog_2_method_3_code 72 = .ok (.iload 4, 2) := by decide +kernel
theorem d_C_cuts_74 : decode prog_2_method_3_code 74 = .ok (.if_icmp .ge 190, 3) := by decide +kernel
theorem d_C_cuts_77 : decode prog_2_method_3_code 77 = .ok (.aload_n 0, 1) := by decide +kernel
theorem d_C_cuts_78 : decode prog_2_method_3_code 78 = .ok (.getfield 16, 3) := by decide +kernel
theorem d_C_cuts_81 : decode prog_2_method_3_code 81 = .ok (.ifnonnull 183, 3) := by decide +kernel
theorem d_C_cuts_84 : decode prog_2_method_3_code 84 = .ok (.aload_n 0, 1) := by decide +kernel
theorem d_C_cuts_85 : decode prog_2_method_3_code 85 = .ok (.getfield 24, 3) := by decide +kernel
theorem d_C_cuts_88 : decode prog_2_method_3_code 88 = .ok (.istore 6, 2) := by decide +kernel
theorem d_C_cuts_90 : decode prog_2_method_3_code 90 = .ok (.iload 6, 2) := by decide +kernel
theorem d_C_cuts_92 : decode prog_2_method_3_code 92 = .ok (.iload_n 3, 1) := by decide +kernel
theorem d_C_cuts_93 : decode prog_2_method_3_code 93 = .ok (.if_icmp .lt 5, 3) := by decide +kernel
theorem d_C_cuts_96 : decode prog_2_method_3_code 96 = .ok (.iconst 0, 1) := by decide +kernel
theorem d_C_cuts_97 : decode prog_2_method_3_code 97 = .ok (.ireturn, 1) := by decide +kernel
theorem d_C_cuts_98 : decode prog_2_method_3_code 98 = .ok (.aload_n 1, 1) := by decide +kernel
theorem d_C_cuts_99 : decode prog_2_method_3_code 99 = .ok (.iload 6, 2) := by decide +kernel
theorem d_C_cuts_101 : decode prog_2_method_3_code 101 = .ok (.baload, 1) := by decide +kernel
theorem d_C_cuts_102 : decode prog_2_method_3_code 102 = .ok (.bipush 36, 2) := by decide +kernel
theorem d_C_cuts_104 : decode prog_2_method_3_code 104 = .ok (.if_icmp .eq 9, 3) := by decide +kernel
theorem d_C_cuts_107 : decode prog_2_method_3_code 107 = .ok (.aload_n 0, 1) := by decide +kernel
theorem d_C_cuts_108 : decode prog_2_method_3_code 108 = .ok (.ldc 40, 2) := by decide +kernel
theorem d_C_cuts_110 : decode prog_2_method_3_code 110 = .ok (.putfield 16, 3) := by decide +kernel
theorem d_C_cuts_113 : decode prog_2_method_3_code 113 = .ok (.aload_n 0, 1) := by decide +kernel
theorem d_C_cuts_114 : decode prog_2_method_3_code 114 = .ok (.getfield 16, 3) := by decide +kernel
theorem d_C_cuts_117 : decode prog_2_method_3_code 117 = .ok (.ifnonnull 16, 3) := by decide +kernel
theorem d_C_cuts_120 : decode prog_2_method_3_code 120 = .ok (.aload_n 0, 1) := by decide +kernel
theorem d_C_cuts_121 : decode prog_2_method_3_code 121 = .ok (.aload_n 1, 1) := by decide +kernel
theorem d_C_cuts_122 : decode prog_2_method_3_code 122 = .ok (.iload 6, 2) := by decide +kernel
theorem d_C_cuts_124 : decode prog_2_method_3_code 124 = .ok (.iload_n 3, 1) := by decide +kernel
theorem d_C_cuts_125 : decode prog_2_method_3_code 125 = .ok (.ldc 42, 2) := by decide +kernel
theorem d_C_cuts_127 : decode prog_2_method_3_code 127 = .ok (.invokevirtual 36, 3) := by decide +kernel
theorem d_C_cuts_130 : decode prog_2_method_3_code 130 = .ok (.ifCond .ne 5, 3) := by decide +kernel
theorem d_C_cuts_133 : decode prog_2_method_3_code 133 = .ok (.iconst 0, 1) := by decide +kernel
theorem d_C_cuts_134 : decode prog_2_method_3_code 134 = .ok (.ireturn, 1) := by decide +kernel
theorem d_C_cuts_135 : decode prog_2_method_3_code 135 = .ok (.aload_n 0, 1) := by decide +kernel
theorem d_C_cuts_136 : decode prog_2_method_3_code 136 = .ok (.getfield 20, 3) := by decide +kernel
theorem d_C_cuts_139 : decode prog_2_method_3_code 139 = .ok (.ifCond .lt 13, 3) := by decide +kernel
theorem d_C_cuts_142 : decode prog_2_method_3_code 142 = .ok (.aload_n 0, 1) := by decide +kernel
theorem d_C_cuts_143 : decode prog_2_method_3_code 143 = .ok (.getfield 20, 3) := by decide +kernel
theorem d_C_cuts_146 : decode prog_2_method_3_code 146 = .ok (.sipush 16384, 3) := by decide +kernel
theorem d_C_cuts_149 : decode prog_2_method_3_code 149 = .ok (.if_icmp .le 11, 3) := by decide +kernel
theorem d_C_cuts_152 : decode prog_2_method_3_code 152 = .ok (.aload_n 0, 1) := by decide +kernel
theorem d_C_cuts_153 : decode prog_2_method_3_code 153 = .ok (.ldc 42, 2) := by decide +kernel
theorem d_C_cuts_155 : decode prog_2_method_3_code 155 = .ok (.putfield 16, 3) := by decide +kernel
theorem d_C_cuts_158 : decode prog_2_method_3_code 158 = .ok (.iconst 0, 1) := by decide +kernel
theorem d_C_cuts_159 : decode prog_2_method_3_code 159 = .ok (.ireturn, 1) := by decide +kernel
theorem d_C_cuts_160 : decode prog_2_method_3_code 160 = .ok (.aload_n 0, 1) := by decide +kernel
theorem d_C_cuts_161 : decode prog_2_method_3_code 161 = .ok (.getfield 24, 3) := by decide +kernel
theorem d_C_cuts_164 : decode prog_2_method_3_code 164 = .ok (.aload_n 0, 1) := by decide +kernel
theorem d_C_cuts_165 : decode prog_2_method_3_code 165 = .ok (.getfield 20, 3) := by decide +kernel
theorem d_C_cuts_168 : decode prog_2_method_3_code 168 = .ok (.iadd, 1) := by decide +kernel
theorem d_C_cuts_169 : decode prog_2_method_3_code 169 = .ok (.istore 7, 2) := by decide +kernel
theorem d_C_cuts_171 : decode prog_2_method_3_code 171 = .ok (.iload 7, 2) := by decide +kernel
theorem d_C_cuts_173 : decode prog_2_method_3_code 173 = .ok (.iload_n 3, 1) := by decide +kernel
theorem d_C_cuts_174 : decode prog_2_method_3_code 174 = .ok (.if_icmp .ge 12, 3) := by decide +kernel
theorem d_C_cuts_177 : decode prog_2_method_3_code 177 = .ok (.aload_n 1, 1) := by decide +kernel
theorem d_C_cuts_178 : decode prog_2_method_3_code 178 = .ok (.iload 7, 2) := by decide +kernel
theorem d_C_cuts_180 : decode prog_2_method_3_code 180 = .ok (.baload, 1) := by decide +kernel
theorem d_C_cuts_181 : decode prog_2_method_3_code 181 = .ok (.bipush 13, 2) := by decide +kernel
theorem d_C_cuts_183 : decode prog_2_method_3_code 183 = .ok (.if_icmp .ne 22, 3) := by decide +kernel
theorem d_C_cuts_186 : decode prog_2_method_3_code 186 = .ok (.iload 7, 2) := by decide +kernel
theorem d_C_cuts_188 : decode prog_2_method_3_code 188 = .ok (.iconst 1, 1) := by decide +kernel
theorem d_C_cuts_189 : decode prog_2_method_3_code 189 = .ok (.iadd, 1) := by decide +kernel
theorem d_C_cuts_190 : decode prog_2_method_3_code 190 = .ok (.iload_n 3, 1) := by decide +kernel
theorem d_C_cuts_191 : decode prog_2_method_3_code 191 = .ok (.if_icmp .ge 20, 3) := by decide +kernel
theorem d_C_cuts_194 : decode prog_2_method_3_code 194 = .ok (.aload_n 1, 1) := by decide +kernel
theorem d_C_cuts_195 : decode prog_2_method_3_code 195 = .ok (.iload 7, 2) := by decide +kernel
theorem d_C_cuts_197 : decode prog_2_method_3_code 197 = .ok (.iconst 1, 1) := by decide +kernel
theorem d_C_cuts_198 : decode prog_2_method_3_code 198 = .ok (.iadd, 1) := by decide +kernel
theorem d_C_cuts_199 : decode prog_2_method_3_code 199 = .ok (.baload, 1) := by decide +kernel
theorem d_C_cuts_200 : decode prog_2_method_3_code 200 = .ok (.bipush 10, 2) := by decide +kernel
theorem d_C_cuts_202 : decode prog_2_method_3_code 202 = .ok (.if_icmp .eq 9, 3) := by decide +kernel
theorem d_C_cuts_205 : decode prog_2_method_3_code 205 = .ok (.aload_n 0, 1) := by decide +kernel
theorem d_C_cuts_206 : decode prog_2_method_3_code 206 = .ok (.ldc 44, 2) := by decide +kernel
theorem d_C_cuts_208 : decode prog_2_method_3_code 208 = .ok (.putfield 16, 3) := by decide +kernel
theorem d_C_cuts_211 : decode prog_2_method_3_code 211 = .ok (.aload_n 0, 1) := by decide +kernel
theorem d_C_cuts_212 : decode prog_2_method_3_code 212 = .ok (.getfield 16, 3) := by decide +kernel
theorem d_C_cuts_215 : decode prog_2_method_3_code 215 = .ok (.ifnonnull 11, 3) := by decide +kernel
theorem d_C_cuts_218 : decode prog_2_method_3_code 218 = .ok (.iload 7, 2) := by decide +kernel
theorem d_C_cuts_220 : decode prog_2_method_3_code 220 = .ok (.iconst 2, 1) := by decide +kernel
theorem d_C_cuts_221 : decode prog_2_method_3_code 221 = .ok (.iadd, 1) := by decide +kernel
theorem d_C_cuts_222 : decode prog_2_method_3_code 222 = .ok (.iload_n 3, 1) := by decide +kernel
theorem d_C_cuts_223 : decode prog_2_method_3_code 223 = .ok (.if_icmp .le 5, 3) := by decide +kernel
theorem d_C_cuts_226 : decode prog_2_method_3_code 226 = .ok (.iconst 0, 1) := by decide +kernel
theorem d_C_cuts_227 : decode prog_2_method_3_code 227 = .ok (.ireturn, 1) := by decide +kernel
theorem d_C_cuts_228 : decode prog_2_method_3_code 228 = .ok (.aload_n 0, 1) := by decide +kernel
theorem d_C_cuts_229 : decode prog_2_method_3_code 229 = .ok (.getfield 7, 3) := by decide +kernel
theorem d_C_cuts_232 : decode prog_2_method_3_code 232 = .ok (.iload 5, 2) := by decide +kernel
theorem d_C_cuts_234 : decode prog_2_method_3_code 234 = .ok (.aload_n 0, 1) := by decide +kernel
theorem d_C_cuts_235 : decode prog_2_method_3_code 235 = .ok (.getfield 24, 3) := by decide +kernel
theorem d_C_cuts_238 : decode prog_2_method_3_code 238 = .ok (.iastore, 1) := by decide +kernel
theorem d_C_cuts_239 : decode prog_2_method_3_code 239 = .ok (.aload_n 0, 1) := by decide +kernel
theorem d_C_cuts_240 : decode prog_2_method_3_code 240 = .ok (.getfield 13, 3) := by decide +kernel
theorem d_C_cuts_243 : decode prog_2_method_3_code 243 = .ok (.iload 5, 2) := by decide +kernel
theorem d_C_cuts_245 : decode prog_2_method_3_code 245 = .ok (.aload_n 0, 1) := by decide +kernel
theorem d_C_cuts_246 : decode prog_2_method_3_code 246 = .ok (.getfield 20, 3) := by decide +kernel
theorem d_C_cuts_249 : decode prog_2_method_3_code 249 = .ok (.iastore, 1) := by decide +kernel
theorem d_C_cuts_250 : decode prog_2_method_3_code 250 = .ok (.aload_n 0, 1) := by decide +kernel
theorem d_C_cuts_251 : decode prog_2_method_3_code 251 = .ok (.iload 7, 2) := by decide +kernel
theorem d_C_cuts_253 : decode prog_2_method_3_code 253 = .ok (.iconst 2, 1) := by decide +kernel
theorem d_C_cuts_254 : decode prog_2_method_3_code 254 = .ok (.iadd, 1) := by decide +kernel
theorem d_C_cuts_255 : decode prog_2_method_3_code 255 = .ok (.putfield 24, 3) := by decide +kernel
theorem d_C_cuts_258 : decode prog_2_method_3_code 258 = .ok (.iinc 5 1, 3) := by decide +kernel
theorem d_C_cuts_261 : decode prog_2_method_3_code 261 = .ok (.goto (-191), 3) := by decide +kernel
theorem d_C_cuts_264 : decode prog_2_method_3_code 264 = .ok (.aload_n 0, 1) := by decide +kernel
theorem d_C_cuts_265 : decode prog_2_method_3_code 265 = .ok (.iload 4, 2) := by decide +kernel
theorem d_C_cuts_267 : decode prog_2_method_3_code 267 = .ok (.iconst 0, 1) := by decide +kernel
theorem d_C_cuts_268 : decode prog_2_method_3_code 268 = .ok (.invokestatic 46, 3) := by decide +kernel
theorem d_C_cuts_271 : decode prog_2_method_3_code 271 = .ok (.putfield 27, 3) := by decide +kernel
theorem d_C_cuts_274 : decode prog_2_method_3_code 274 = .ok (.aload_n 0, 1) := by decide +kernel
theorem d_C_cuts_275 : decode prog_2_method_3_code 275 = .ok (.getfield 16, 3) := by decide +kernel
theorem d_C_cuts_278 : decode prog_2_method_3_code 278 = .ok (.ifnonnull 7, 3) := by decide +kernel
theorem d_C_cuts_281 : decode prog_2_method_3_code 281 = .ok (.iconst 1, 1) := by decide +kernel
theorem d_C_cuts_282 : decode prog_2_method_3_code 282 = .ok (.goto 4, 3) := by decide +kernel
theorem d_C_cuts_285 : decode prog_2_method_3_code 285 = .ok (.iconst 0, 1) := by decide +kernel
theorem d_C_cuts_286 : decode prog_2_method_3_code 286 = .ok (.ireturn, 1) := by decide +kernel
theorem d_C_plain_0 : decode prog_2_method_4_code 0 = .ok (.iload_n 2, 1) := by decide +kernel
theorem d_C_plain_1 : decode prog_2_method_4_code 1 = .ok (.istore 4, 2) := by decide +kernel
theorem d_C_plain_3 : decode prog_2_method_4_code 3 = .ok (.iload 4, 2) := by decide +kernel
theorem d_C_plain_5 : decode prog_2_method_4_code 5 = .ok (.iload_n 3, 1) := by decide +kernel
theorem d_C_plain_6 : decode prog_2_method_4_code 6 = .ok (.if_icmp .ge 28, 3) := by decide +kernel
theorem d_C_plain_9 : decode prog_2_method_4_code 9 = .ok (.iload 4, 2) := by decide +kernel
theorem d_C_plain_11 : decode prog_2_method_4_code 11 = .ok (.iload_n 2, 1) := by decide +kernel
theorem d_C_plain_12 : decode prog_2_method_4_code 12 = .ok (.sipush 2048, 3) := by decide +kernel
theorem d_C_plain_15 : decode prog_2_method_4_code 15 = .ok (.iadd, 1) := by decide +kernel
theorem d_C_plain_16 : decode prog_2_method_4_code 16 = .ok (.if_icmp .ge 18, 3) := by decide +kernel
theorem d_C_plain_19 : decode prog_2_method_4_code 19 = .ok (.aload_n 1, 1) := by decide +kernel
theorem d_C_plain_20 : decode prog_2_method_4_code 20 = .ok (.iload 4, 2) := by decide +kernel
theorem d_C_plain_22 : decode prog_2_method_4_code 22 = .ok (.baload, 1) := by decide +kernel
theorem d_C_plain_23 : decode prog_2_method_4_code 23 = .ok (.bipush 10, 2) := by decide +kernel
theorem d_C_plain_25 : decode prog_2_method_4_code 25 = .ok (.if_icmp .eq 9, 3) := by decide +kernel
theorem d_C_plain_28 : decode prog_2_method_4_code 28 = .ok (.iinc 4 1, 3) := by decide +kernel
theorem d_C_plain_31 : decode prog_2_method_4_code 31 = .ok (.goto (-28), 3) := by decide +kernel
theorem d_C_plain_34 : decode prog_2_method_4_code 34 = .ok (.iload 4, 2) := by decide +kernel
theorem d_C_plain_36 : decode prog_2_method_4_code 36 = .ok (.iload_n 2, 1) := by decide +kernel
theorem d_C_plain_37 : decode prog_2_method_4_code 37 = .ok (.sipush 2048, 3) := by decide +kernel
theorem d_C_plain_40 : decode prog_2_method_4_code 40 = .ok (.iadd, 1) := by decide +kernel
theorem d_C_plain_41 : decode prog_2_method_4_code 41 = .ok (.if_icmp .ne 9, 3) := by decide +kernel
theorem d_C_plain_44 : decode prog_2_method_4_code 44 = .ok (.aload_n 0, 1) := by decide +kernel
theorem d_C_plain_45 : decode prog_2_method_4_code 45 = .ok (.ldc 52, 2) := by decide +kernel
theorem d_C_plain_47 : decode prog_2_method_4_code 47 = .ok (.putfield 16, 3) := by decide +kernel
theorem d_C_plain_50 : decode prog_2_method_4_code 50 = .ok (.iload 4, 2) := by decide +kernel
theorem d_C_plain_52 : decode prog_2_method_4_code 52 = .ok (.iload_n 3, 1) := by decide +kernel
theorem d_C_plain_53 : decode prog_2_method_4_code 53 = .ok (.if_icmp .eq 13, 3) := by decide +kernel
theorem d_C_plain_56 : decode prog_2_method_4_code 56 = .ok (.iload 4, 2) := by decide +kernel
theorem d_C_plain_58 : decode prog_2_method_4_code 58 = .ok (.iload_n 2, 1) := by decide +kernel
theorem d_C_plain_59 : decode prog_2_method_4_code 59 = .ok (.sipush 2048, 3) := by decide +kernel
theorem d_C_plain_62 : decode prog_2_method_4_code 62 = .ok (.iadd, 1) := by decide +kernel
theorem d_C_plain_63 : decode prog_2_method_4_code 63 = .ok (.if_icmp .ne 5, 3) := by decide +kernel
theorem d_C_plain_66 : decode prog_2_method_4_code 66 = .ok (.iconst 0, 1) := by decide +kernel
theorem d_C_plain_67 : decode prog_2_method_4_code 67 = .ok (.ireturn, 1) := by decide +kernel
theorem d_C_plain_68 : decode prog_2_method_4_code 68 = .ok (.aload_n 0, 1) := by decide +kernel
theorem d_C_plain_69 : decode prog_2_method_4_code 69 = .ok (.iload 4, 2) := by decide +kernel
theorem d_C_plain_71 : decode prog_2_method_4_code 71 = .ok (.iconst 1, 1) := by decide +kernel
theorem d_C_plain_72 : decode prog_2_method_4_code 72 = .ok (.iadd, 1) := by decide +kernel
theorem d_C_plain_73 : decode prog_2_method_4_code 73 = .ok (.putfield 24, 3) := by decide +kernel
theorem d_C_plain_76 : decode prog_2_method_4_code 76 = .ok (.iload 4, 2) := by decide +kernel
theorem d_C_plain_78 : decode prog_2_method_4_code 78 = .ok (.iload_n 2, 1) := by decide +kernel
theorem d_C_plain_79 : decode prog_2_method_4_code 79 = .ok (.if_icmp .le 21, 3) := by decide +kernel
theorem d_C_plain_82 : decode prog_2_method_4_code 82 = .ok (.aload_n 1, 1) := by decide +kernel
theorem d_C_plain_83 : decode prog_2_method_4_code 83 = .ok (.iload 4, 2) := by decide +kernel
theorem d_C_plain_85 : decode prog_2_method_4_code 85 = .ok (.iconst 1, 1) := by decide +kernel
theorem d_C_plain_86 : decode prog_2_method_4_code 86 = .ok (.isub, 1) := by decide +kernel
theorem d_C_plain_87 : decode prog_2_method_4_code 87 = .ok (.baload, 1) := by decide +kernel
theorem d_C_plain_88 : decode prog_2_method_4_code 88 = .ok (.bipush 13, 2) := by decide +kernel
theorem d_C_plain_90 : decode prog_2_method_4_code 90 = .ok (.if_icmp .ne 10, 3) := by decide +kernel
theorem d_C_plain_93 : decode prog_2_method_4_code 93 = .ok (.iload 4, 2) := by decide +kernel
theorem d_C_plain_95 : decode prog_2_method_4_code 95 = .ok (.iconst 1, 1) := by decide +kernel
theorem d_C_plain_96 : decode prog_2_method_4_code 96 = .ok (.isub, 1) := by decide +kernel
theorem d_C_plain_97 : decode prog_2_method_4_code 97 = .ok (.goto 5, 3) := by decide +kernel
theorem d_C_plain_100 : decode prog_2_method_4_code 100 = .ok (.iload 4, 2) := by decide +kernel
theorem d_C_plain_102 : decode prog_2_method_4_code 102 = .ok (.istore 5, 2) := by decide +kernel
theorem d_C_plain_104 : decode prog_2_method_4_code 104 = .ok (.iload_n 2, 1) := by decide +kernel
theorem d_C_plain_105 : decode prog_2_method_4_code 105 = .ok (.istore 6, 2) := by decide +kernel
theorem d_C_plain_107 : decode prog_2_method_4_code 107 = .ok (.iload 6, 2) := by decide +kernel
theorem d_C_plain_109 : decode prog_2_method_4_code 109 = .ok (.iload 5, 2) := by decide +kernel
theorem d_C_plain_111 : decode prog_2_method_4_code 111 = .ok (.if_icmp .ge 85, 3) := by decide +kernel
theorem d_C_plain_114 : decode prog_2_method_4_code 114 = .ok (.aload_n 1, 1) := by decide +kernel
theorem d_C_plain_115 : decode prog_2_method_4_code 115 = .ok (.iload 6, 2) := by decide +kernel
theorem d_C_plain_117 : decode prog_2_method_4_code 117 = .ok (.baload, 1) := by decide +kernel
theorem d_C_plain_118 : decode prog_2_method_4_code 118 = .ok (.bipush 32, 2) := by decide +kernel
theorem d_C_plain_120 : decode prog_2_method_4_code 120 = .ok (.if_icmp .ne 9, 3) := by decide +kernel
theorem d_C_plain_123 : decode prog_2_method_4_code 123 = .ok (.iinc 6 1, 3) := by decide +kernel
theorem d_C_plain_126 : decode prog_2_method_4_code 126 = .ok (.goto (-19), 3) := by decide +kernel
theorem d_C_plain_129 : decode prog_2_method_4_code 129 = .ok (.aload_n 0, 1) := by decide +kernel
theorem d_C_plain_130 : decode prog_2_method_4_code 130 = .ok (.getfield 7, 3) := by decide +kernel
theorem d_C_plain_133 : decode prog_2_method_4_code 133 = .ok (.aload_n 0, 1) := by decide +kernel
theorem d_C_plain_134 : decode prog_2_method_4_code 134 = .ok (.getfield 27, 3) := by decide +kernel
theorem d_C_plain_137 : decode prog_2_method_4_code 137 = .ok (.iload 6, 2) := by decide +kernel
theorem d_C_plain_139 : decode prog_2_method_4_code 139 = .ok (.iastore, 1) := by decide +kernel
theorem d_C_plain_140 : decode prog_2_method_4_code 140 = .ok (.iload 6, 2) := by decide +kernel
theorem d_C_plain_142 : decode prog_2_method_4_code 142 = .ok (.iload 5, 2) := by decide +kernel
theorem d_C_plain_144 : decode prog_2_method_4_code 144 = .ok (.if_icmp .ge 18, 3) := by decide +kernel
theorem d_C_plain_147 : decode prog_2_method_4_code 147 = .ok (.aload_n 1, 1) := by decide +kernel
theorem d_C_plain_148 : decode prog_2_method_4_code 148 = .ok (.iload 6, 2) := by decide +kernel
theorem d_C_plain_150 : decode prog_2_method_4_code 150 = .ok (.baload, 1) := by decide +kernel
theorem d_C_plain_151 : decode prog_2_method_4_code 151 = .ok (.bipush 32, 2) := by decide +kernel
theorem d_C_plain_153 : decode prog_2_method_4_code 153 = .ok (.if_icmp .eq 9, 3) := by decide +kernel
theorem d_C_plain_156 : decode prog_2_method_4_code 156 = .ok (.iinc 6 1, 3) := by decide +kernel
theorem d_C_plain_159 : decode prog_2_method_4_code 159 = .ok (.goto (-19), 3) := by decide +kernel
theorem d_C_plain_162 : decode prog_2_method_4_code 162 = .ok (.aload_n 0, 1) := by decide +kernel
theorem d_C_plain_163 : decode prog_2_method_4_code 163 = .ok (.getfield 13, 3) := by decide +kernel
theorem d_C_plain_166 : decode prog_2_method_4_code 166 = .ok (.aload_n 0, 1) := by decide +kernel
theorem d_C_plain_167 : decode prog_2_method_4_code 167 = .ok (.getfield 27, 3) := by decide +kernel
theorem d_C_plain_170 : decode prog_2_method_4_code 170 = .ok (.iload 6, 2) := by decide +kernel
theorem d_C_plain_172 : decode prog_2_method_4_code 172 = .ok (.aload_n 0, 1) := by decide +kernel
theorem d_C_plain_173 : decode prog_2_method_4_code 173 = .ok (.getfield 7, 3) := by decide +kernel
theorem d_C_plain_176 : decode prog_2_method_4_code 176 = .ok (.aload_n 0, 1) := by decide +kernel
theorem d_C_plain_177 : decode prog_2_method_4_code 177 = .ok (.getfield 27, 3) := by decide +kernel
theorem d_C_plain_180 : decode prog_2_method_4_code 180 = .ok (.iaload, 1) := by decide +kernel
theorem d_C_plain_181 : decode prog_2_method_4_code 181 = .ok (.isub, 1) := by decide +kernel
theorem d_C_plain_182 : decode prog_2_method_4_code 182 = .ok (.iastore, 1) := by decide +kernel
theorem d_C_plain_183 : decode prog_2_method_4_code 183 = .ok (.aload_n 0, 1) := by decide +kernel
theorem d_C_plain_184 : decode prog_2_method_4_code 184 = .ok (.dup, 1) := by decide +kernel
theorem d_C_plain_185 : decode prog_2_method_4_code 185 = .ok (.getfield 27, 3) := by decide +kernel
theorem d_C_plain_188 : decode prog_2_method_4_code 188 = .ok (.iconst 1, 1) := by decide +kernel
theorem d_C_plain_189 : decode prog_2_method_4_code 189 = .ok (.iadd, 1) := by decide +kernel
theorem d_C_plain_190 : decode prog_2_method_4_code 190 = .ok (.putfield 27, 3) := by decide +kernel
theorem d_C_plain_193 : decode prog_2_method_4_code 193 = .ok (.goto (-86), 3) := by decide +kernel
theorem d_C_plain_196 : decode prog_2_method_4_code 196 = .ok (.iconst 1, 1) := by decide +kernel
theorem d_C_plain_197 : decode prog_2_method_4_code 197 = .ok (.ireturn, 1) := by decide +kernel
end
section
theorem d_M_init_0 : decode prog_4_method_1_code 0 = .ok (.aload_n 0, 1) := by decide +kernel
theorem d_M_init_1 : decode prog_4_method_1_code 1 = .ok (.invokespecial 1, 3) := by decide +kernel
theorem d_M_init_4 : decode prog_4_method_1_code 4 = .ok (.aload_n 0, 1) := by decide +kernel
theorem d_M_init_5 : decode prog_4_method_1_code 5 = .ok (.sipush 10240, 3) := by decide +kernel
theorem d_M_init_8 : decode prog_4_method_1_code 8 = .ok (.newarray .byte, 2) := by decide +kernel
theorem d_M_init_10 : decode prog_4_method_1_code 10 = .ok (.putfield 7, 3) := by decide +kernel
theorem d_M_init_13 : decode prog_4_method_1_code 13 = .ok (.aload_n 0, 1) := by decide +kernel
theorem d_M_init_14 : decode prog_4_method_1_code 14 = .ok (.ldc 13, 2) := by decide +kernel
theorem d_M_init_16 : decode prog_4_method_1_code 16 = .ok (.newarray .byte, 2) := by decide +kernel
theorem d_M_init_18 : decode prog_4_method_1_code 18 = .ok (.putfield 14, 3) := by decide +kernel
theorem d_M_init_21 : decode prog_4_method_1_code 21 = .ok (.aload_n 0, 1) := by decide +kernel
theorem d_M_init_22 : decode prog_4_method_1_code 22 = .ok (.ldc 13, 2) := by decide +kernel
theorem d_M_init_24 : decode prog_4_method_1_code 24 = .ok (.newarray .byte, 2) := by decide +kernel
theorem d_M_init_26 : decode prog_4_method_1_code 26 = .ok (.putfield 17, 3) := by decide +kernel
theorem d_M_init_29 : decode prog_4_method_1_code 29 = .ok (.aload_n 0, 1) := by decide +kernel
theorem d_M_init_30 : decode prog_4_method_1_code 30 = .ok (.sipush 1025, 3) := by decide +kernel
theorem d_M_init_33 : decode prog_4_method_1_code 33 = .ok (.newarray .int, 2) := by decide +kernel
theorem d_M_init_35 : decode prog_4_method_1_code 35 = .ok (.putfield 20, 3) := by decide +kernel
theorem d_M_init_38 : decode prog_4_method_1_code 38 = .ok (.aload_n 0, 1) := by decide +kernel
theorem d_M_init_39 : decode prog_4_method_1_code 39 = .ok (.sipush 1025, 3) := by decide +kernel
theorem d_M_init_42 : decode prog_4_method_1_code 42 = .ok (.newarray .int, 2) := by decide +kernel
theorem d_M_init_44 : decode prog_4_method_1_code 44 = .ok (.putfield 24, 3) := by decide +kernel
theorem d_M_init_47 : decode prog_4_method_1_code 47 = .ok (.return_, 1) := by decide +kernel
theorem d_M_lay_0 : decode prog_4_method_2_code 0 = .ok (.bipush 24, 2) := by decide +kernel
theorem d_M_lay_2 : decode prog_4_method_2_code 2 = .ok (.istore_n 2, 1) := by decide +kernel
theorem d_M_lay_3 : decode prog_4_method_2_code 3 = .ok (.iload_n 2, 1) := by decide +kernel
theorem d_M_lay_4 : decode prog_4_method_2_code 4 = .ok (.ifCond .lt 32, 3) := by decide +kernel
theorem d_M_lay_7 : decode prog_4_method_2_code 7 = .ok (.aload_n 0, 1) := by decide +kernel
theorem d_M_lay_8 : decode prog_4_method_2_code 8 = .ok (.getfield 7, 3) := by decide +kernel
theorem d_M_lay_11 : decode prog_4_method_2_code 11 = .ok (.aload_n 0, 1) := by decide +kernel
theorem d_M_lay_12 : decode prog_4_method_2_code 12 = .ok (.getfield 27, 3) := by decide +kernel
theorem d_M_lay_15 : decode prog_4_method_2_code 15 = .ok (.iload_n 1, 1) := by decide +kernel
theorem d_M_lay_16 : decode prog_4_method_2_code 16 = .ok (.iload_n 2, 1) := by decide +kernel
theorem d_M_lay_17 : decode prog_4_method_2_code 17 = .ok (.ishr, 1) := by decide +kernel
theorem d_M_lay_18 : decode prog_4_method_2_code 18 = .ok (.i2b, 1) := by decide +kernel
theorem d_M_lay_19 : decode prog_4_method_2_code 19 = .ok (.bastore, 1) := by decide +kernel
theorem d_M_lay_20 : decode prog_4_method_2_code 20 = .ok (.aload_n 0, 1) := by decide +kernel
theorem d_M_lay_21 : decode prog_4_method_2_code 21 = .ok (.dup, 1) := by decide +kernel
theorem d_M_lay_22 : decode prog_4_method_2_code 22 = .ok (.getfield 27, 3) := by decide +kernel
theorem d_M_lay_25 : decode prog_4_method_2_code 25 = .ok (.iconst 1, 1) := by decide +kernel
theorem d_M_lay_26 : decode prog_4_method_2_code 26 = .ok (.iadd, 1) := by decide +kernel
theorem d_M_lay_27 : decode prog_4_method_2_code 27 = .ok (.putfield 27, 3) := by decide +kernel
theorem d_M_lay_30 : decode prog_4_method_2_code 30 = .ok (.iinc 2 (-8), 3) := by decide +kernel
theorem d_M_lay_33 : decode prog_4_method_2_code 33 = .ok (.goto (-30), 3) := by decide +kernel
theorem d_M_lay_36 : decode prog_4_method_2_code 36 = .ok (.return_, 1) := by decide +kernel
theorem d_M_feed_0 : decode prog_4_method_3_code 0 = .ok (.aload_n 0, 1) := by decide +kernel
theorem d_M_feed_1 : decode prog_4_method_3_code 1 = .ok (.getfield 27, 3) := by decide +kernel
theorem d_M_feed_4 : decode prog_4_method_3_code 4 = .ok (.bipush 20, 2) := by decide +kernel
theorem d_M_feed_6 : decode prog_4_method_3_code 6 = .ok (.iadd, 1) := by decide +kernel
theorem d_M_feed_7 : decode prog_4_method_3_code 7 = .ok (.sipush 10240, 3) := by decide +kernel
theorem d_M_feed_10 : decode prog_4_method_3_code 10 = .ok (.if_icmp .le 5, 3) := by decide +kernel
theorem d_M_feed_13 : decode prog_4_method_3_code 13 = .ok (.iconst 0, 1) := by decide +kernel
theorem d_M_feed_14 : decode prog_4_method_3_code 14 = .ok (.ireturn, 1) := by decide +kernel
theorem d_M_feed_15 : decode prog_4_method_3_code 15 = .ok (.aload_n 0, 1) := by decide +kernel
theorem d_M_feed_16 : decode prog_4_method_3_code 16 = .ok (.iload_n 1, 1) := by decide +kernel
theorem d_M_feed_17 : decode prog_4_method_3_code 17 = .ok (.invokevirtual 31, 3) := by decide +kernel
theorem d_M_feed_20 : decode prog_4_method_3_code 20 = .ok (.aload_n 0, 1) := by decide +kernel
theorem d_M_feed_21 : decode prog_4_method_3_code 21 = .ok (.iload_n 2, 1) := by decide +kernel
theorem d_M_feed_22 : decode prog_4_method_3_code 22 = .ok (.invokevirtual 31, 3) := by decide +kernel
theorem d_M_feed_25 : decode prog_4_method_3_code 25 = .ok (.aload_n 0, 1) := by decide +kernel
theorem d_M_feed_26 : decode prog_4_method_3_code 26 = .ok (.iload_n 3, 1) := by decide +kernel
theorem d_M_feed_27 : decode prog_4_method_3_code 27 = .ok (.invokevirtual 31, 3) := by decide +kernel
theorem d_M_feed_30 : decode prog_4_method_3_code 30 = .ok (.aload_n 0, 1) := by decide +kernel
theorem d_M_feed_31 : decode prog_4_method_3_code 31 = .ok (.iload 4, 2) := by decide +kernel
theorem d_M_feed_33 : decode prog_4_method_3_code 33 = .ok (.invokevirtual 31, 3) := by decide +kernel
theorem d_M_feed_36 : decode prog_4_method_3_code 36 = .ok (.aload_n 0, 1) := by decide +kernel
theorem d_M_feed_37 : decode prog_4_method_3_code 37 = .ok (.iload 5, 2) := by decide +kernel
theorem d_M_feed_39 : decode prog_4_method_3_code 39 = .ok (.invokevirtual 31, 3) := by decide +kernel
theorem d_M_feed_42 : decode prog_4_method_3_code 42 = .ok (.iconst 1, 1) := by decide +kernel
theorem d_M_feed_43 : decode prog_4_method_3_code 43 = .ok (.ireturn, 1) := by decide +kernel
theorem d_M_end_0 : decode prog_4_method_4_code 0 = .ok (.iload_n 1, 1) := by decide +kernel
theorem d_M_end_1 : decode prog_4_method_4_code 1 = .ok (.ifCond .lt 11, 3) := by decide +kernel
theorem d_M_end_4 : decode prog_4_method_4_code 4 = .ok (.iload_n 1, 1) := by decide +kernel
theorem d_M_end_5 : decode prog_4_method_4_code 5 = .ok (.aload_n 0, 1) := by decide +kernel
theorem d_M_end_6 : decode prog_4_method_4_code 6 = .ok (.getfield 27, 3) := by decide +kernel
theorem d_M_end_9 : decode prog_4_method_4_code 9 = .ok (.if_icmp .le 5, 3) := by decide +kernel
theorem d_M_end_12 : decode prog_4_method_4_code 12 = .ok (.iconst 0, 1) := by decide +kernel
theorem d_M_end_13 : decode prog_4_method_4_code 13 = .ok (.ireturn, 1) := by decide +kernel
theorem d_M_end_14 : decode prog_4_method_4_code 14 = .ok (.aload_n 0, 1) := by decide +kernel
theorem d_M_end_15 : decode prog_4_method_4_code 15 = .ok (.iload_n 1, 1) := by decide +kernel
theorem d_M_end_16 : decode prog_4_method_4_code 16 = .ok (.putfield 27, 3) := by decide +kernel
theorem d_M_end_19 : decode prog_4_method_4_code 19 = .ok (.iconst 1, 1) := by decide +kernel
theorem d_M_end_20 : decode prog_4_method_4_code 20 = .ok (.ireturn, 1) := by decide +kernel
theorem d_M_arrive_0 : decode prog_4_method_5_code 0 = .ok (.aload_n 0, 1) := by decide +kernel
theorem d_M_arrive_1 : decode prog_4_method_5_code 1 = .ok (.getfield 27, 3) := by decide +kernel
theorem d_M_arrive_4 : decode prog_4_method_5_code 4 = .ok (.istore_n 1, 1) := by decide +kernel
theorem d_M_arrive_5 : decode prog_4_method_5_code 5 = .ok (.aload_n 0, 1) := by decide +kernel
theorem d_M_arrive_6 : decode prog_4_method_5_code 6 = .ok (.iconst 0, 1) := by decide +kernel
theorem d_M_arrive_7 : decode prog_4_method_5_code 7 = .ok (.putfield 27, 3) := by decide +kernel
theorem d_M_arrive_10 : decode prog_4_method_5_code 10 = .ok (.aload_n 0, 1) := by decide +kernel
theorem d_M_arrive_11 : decode prog_4_method_5_code 11 = .ok (.getfield 35, 3) := by decide +kernel
theorem d_M_arrive_14 : decode prog_4_method_5_code 14 = .ok (.iload_n 1, 1) := by decide +kernel
theorem d_M_arrive_15 : decode prog_4_method_5_code 15 = .ok (.iadd, 1) := by decide +kernel
theorem d_M_arrive_16 : decode prog_4_method_5_code 16 = .ok (.ldc 13, 2) := by decide +kernel
theorem d_M_arrive_18 : decode prog_4_method_5_code 18 = .ok (.if_icmp .le 5, 3) := by decide +kernel
theorem d_M_arrive_21 : decode prog_4_method_5_code 21 = .ok (.iconst (-1), 1) := by decide +kernel
theorem d_M_arrive_22 : decode prog_4_method_5_code 22 = .ok (.ireturn, 1) := by decide +kernel
theorem d_M_arrive_23 : decode prog_4_method_5_code 23 = .ok (.iconst 0, 1) := by decide +kernel
theorem d_M_arrive_24 : decode prog_4_method_5_code 24 = .ok (.istore_n 2, 1) := by decide +kernel
theorem d_M_arrive_25 : decode prog_4_method_5_code 25 = .ok (.iload_n 2, 1) := by decide +kernel
theorem d_M_arrive_26 : decode prog_4_method_5_code 26 = .ok (.iload_n 1, 1) := by decide +kernel
theorem d_M_arrive_27 : decode prog_4_method_5_code 27 = .ok (.if_icmp .ge 26, 3) := by decide +kernel
theorem d_M_arrive_30 : decode prog_4_method_5_code 30 = .ok (.aload_n 0, 1) := by decide +kernel
theorem d_M_arrive_31 : decode prog_4_method_5_code 31 = .ok (.getfield 14, 3) := by decide +kernel
theorem d_M_arrive_34 : decode prog_4_method_5_code 34 = .ok (.aload_n 0, 1) := by decide +kernel
theorem d_M_arrive_35 : decode prog_4_method_5_code 35 = .ok (.getfield 35, 3) := by decide +kernel
theorem d_M_arrive_38 : decode prog_4_method_5_code 38 = .ok (.iload_n 2, 1) := by decide +kernel
theorem d_M_arrive_39 : decode prog_4_method_5_code 39 = .ok (.iadd, 1) := by decide +kernel
theorem d_M_arrive_40 : decode prog_4_method_5_code 40 = .ok (.aload_n 0, 1) := by decide +kernel
theorem d_M_arrive_41 : decode prog_4_method_5_code 41 = .ok (.getfield 7, 3) := by decide +kernel
theorem d_M_arrive_44 : decode prog_4_method_5_code 44 = .ok (.iload_n 2, 1) := by decide +kernel
theorem d_M_arrive_45 : decode prog_4_method_5_code 45 = .ok (.baload, 1) := by decide +kernel
theorem d_M_arrive_46 : decode prog_4_method_5_code 46 = .ok (.bastore, 1) := by decide +kernel
theorem d_M_arrive_47 : decode prog_4_method_5_code 47 = .ok (.iinc 2 1, 3) := by decide +kernel
theorem d_M_arrive_50 : decode prog_4_method_5_code 50 = .ok (.goto (-25), 3) := by decide +kernel
theorem d_M_arrive_53 : decode prog_4_method_5_code 53 = .ok (.aload_n 0, 1) := by decide +kernel
theorem d_M_arrive_54 : decode prog_4_method_5_code 54 = .ok (.dup, 1) := by decide +kernel
theorem d_M_arrive_55 : decode prog_4_method_5_code 55 = .ok (.getfield 35, 3) := by decide +kernel
theorem d_M_arrive_58 : decode prog_4_method_5_code 58 = .ok (.iload_n 1, 1) := by decide +kernel
theorem d_M_arrive_59 : decode prog_4_method_5_code 59 = .ok (.iadd, 1) := by decide +kernel
theorem d_M_arrive_60 : decode prog_4_method_5_code 60 = .ok (.putfield 35, 3) := by decide +kernel
theorem d_M_arrive_63 : decode prog_4_method_5_code 63 = .ok (.aload_n 0, 1) := by decide +kernel
theorem d_M_arrive_64 : decode prog_4_method_5_code 64 = .ok (.getfield 35, 3) := by decide +kernel
theorem d_M_arrive_67 : decode prog_4_method_5_code 67 = .ok (.ireturn, 1) := by decide +kernel
theorem d_M_go_0 : decode prog_4_method_6_code 0 = .ok (.iload_n 1, 1) := by decide +kernel
theorem d_M_go_1 : decode prog_4_method_6_code 1 = .ok (.istore_n 2, 1) := by decide +kernel
theorem d_M_go_2 : decode prog_4_method_6_code 2 = .ok (.iload_n 2, 1) := by decide +kernel
theorem d_M_go_3 : decode prog_4_method_6_code 3 = .ok (.aload_n 0, 1) := by decide +kernel
theorem d_M_go_4 : decode prog_4_method_6_code 4 = .ok (.getfield 35, 3) := by decide +kernel
theorem d_M_go_7 : decode prog_4_method_6_code 7 = .ok (.if_icmp .ge 23, 3) := by decide +kernel
theorem d_M_go_10 : decode prog_4_method_6_code 10 = .ok (.aload_n 0, 1) := by decide +kernel
theorem d_M_go_11 : decode prog_4_method_6_code 11 = .ok (.getfield 14, 3) := by decide +kernel
theorem d_M_go_14 : decode prog_4_method_6_code 14 = .ok (.iload_n 2, 1) := by decide +kernel
theorem d_M_go_15 : decode prog_4_method_6_code 15 = .ok (.iload_n 1, 1) := by decide +kernel
theorem d_M_go_16 : decode prog_4_method_6_code 16 = .ok (.isub, 1) := by decide +kernel
theorem d_M_go_17 : decode prog_4_method_6_code 17 = .ok (.aload_n 0, 1) := by decide +kernel
theorem d_M_go_18 : decode prog_4_method_6_code 18 = .ok (.getfield 14, 3) := by decide +kernel
theorem d_M_go_21 : decode prog_4_method_6_code 21 = .ok (.iload_n 2, 1) := by decide +kernel
theorem d_M_go_22 : decode prog_4_method_6_code 22 = .ok (.baload, 1) := by decide +kernel
theorem d_M_go_23 : decode prog_4_method_6_code 23 = .ok (.bastore, 1) := by decide +kernel
theorem d_M_go_24 : decode prog_4_method_6_code 24 = .ok (.iinc 2 1, 3) := by decide +kernel
theorem d_M_go_27 : decode prog_4_method_6_code 27 = .ok (.goto (-25), 3) := by decide +kernel
theorem d_M_go_30 : decode prog_4_method_6_code 30 = .ok (.aload_n 0, 1) := by decide +kernel
theorem d_M_go_31 : decode prog_4_method_6_code 31 = .ok (.dup, 1) := by decide +kernel
theorem d_M_go_32 : decode prog_4_method_6_code 32 = .ok (.getfield 35, 3) := by decide +kernel
theorem d_M_go_35 : decode prog_4_method_6_code 35 = .ok (.iload_n 1, 1) := by decide +kernel
theorem d_M_go_36 : decode prog_4_method_6_code 36 = .ok (.isub, 1) := by decide +kernel
theorem d_M_go_37 : decode prog_4_method_6_code 37 = .ok (.putfield 35, 3) := by decide +kernel
theorem d_M_go_40 : decode prog_4_method_6_code 40 = .ok (.return_, 1) := by decide +kernel
theorem d_M_drop_0 : decode prog_4_method_7_code 0 = .ok (.iload_n 1, 1) := by decide +kernel
theorem d_M_drop_1 : decode prog_4_method_7_code 1 = .ok (.ifCond .lt 11, 3) := by decide +kernel
theorem d_M_drop_4 : decode prog_4_method_7_code 4 = .ok (.iload_n 1, 1) := by decide +kernel
theorem d_M_drop_5 : decode prog_4_method_7_code 5 = .ok (.aload_n 0, 1) := by decide +kernel
theorem d_M_drop_6 : decode prog_4_method_7_code 6 = .ok (.getfield 35, 3) := by decide +kernel
theorem d_M_drop_9 : decode prog_4_method_7_code 9 = .ok (.if_icmp .le 5, 3) := by decide +kernel
theorem d_M_drop_12 : decode prog_4_method_7_code 12 = .ok (.iconst 0, 1) := by decide +kernel
theorem d_M_drop_13 : decode prog_4_method_7_code 13 = .ok (.ireturn, 1) := by decide +kernel
theorem d_M_drop_14 : decode prog_4_method_7_code 14 = .ok (.aload_n 0, 1) := by decide +kernel
theorem d_M_drop_15 : decode prog_4_method_7_code 15 = .ok (.iload_n 1, 1) := by decide +kernel
theorem d_M_drop_16 : decode prog_4_method_7_code 16 = .ok (.invokevirtual 38, 3) := by decide +kernel
theorem d_M_drop_19 : decode prog_4_method_7_code 19 = .ok (.iconst 1, 1) := by decide +kernel
theorem d_M_drop_20 : decode prog_4_method_7_code 20 = .ok (.ireturn, 1) := by decide +kernel
theorem d_M_line_0 : decode prog_4_method_8_code 0 = .ok (.aload_n 0, 1) := by decide +kernel
theorem d_M_line_1 : decode prog_4_method_8_code 1 = .ok (.getfield 41, 3) := by decide +kernel
theorem d_M_line_4 : decode prog_4_method_8_code 4 = .ok (.iconst 1, 1) := by decide +kernel
theorem d_M_line_5 : decode prog_4_method_8_code 5 = .ok (.iadd, 1) := by decide +kernel
theorem d_M_line_6 : decode prog_4_method_8_code 6 = .ok (.istore_n 1, 1) := by decide +kernel
theorem d_M_line_7 : decode prog_4_method_8_code 7 = .ok (.iload_n 1, 1) := by decide +kernel
theorem d_M_line_8 : decode prog_4_method_8_code 8 = .ok (.iconst 1, 1) := by decide +kernel
theorem d_M_line_9 : decode prog_4_method_8_code 9 = .ok (.iadd, 1) := by decide +kernel
theorem d_M_line_10 : decode prog_4_method_8_code 10 = .ok (.aload_n 0, 1) := by decide +kernel
theorem d_M_line_11 : decode prog_4_method_8_code 11 = .ok (.getfield 35, 3) := by decide +kernel
theorem d_M_line_14 : decode prog_4_method_8_code 14 = .ok (.if_icmp .ge 46, 3) := by decide +kernel
theorem d_M_line_17 : decode prog_4_method_8_code 17 = .ok (.iload_n 1, 1) := by decide +kernel
theorem d_M_line_18 : decode prog_4_method_8_code 18 = .ok (.iconst 1, 1) := by decide +kernel
theorem d_M_line_19 : decode prog_4_method_8_code 19 = .ok (.iadd, 1) := by decide +kernel
theorem d_M_line_20 : decode prog_4_method_8_code 20 = .ok (.aload_n 0, 1) := by decide +kernel
theorem d_M_line_21 : decode prog_4_method_8_code 21 = .ok (.getfield 41, 3) := by decide +kernel
theorem d_M_line_24 : decode prog_4_method_8_code 24 = .ok (.bipush 16, 2) := by decide +kernel
theorem d_M_line_26 : decode prog_4_method_8_code 26 = .ok (.iadd, 1) := by decide +kernel
theorem d_M_line_27 : decode prog_4_method_8_code 27 = .ok (.if_icmp .ge 33, 3) := by decide +kernel
theorem d_M_line_30 : decode prog_4_method_8_code 30 = .ok (.aload_n 0, 1) := by decide +kernel
theorem d_M_line_31 : decode prog_4_method_8_code 31 = .ok (.getfield 14, 3) := by decide +kernel
theorem d_M_line_34 : decode prog_4_method_8_code 34 = .ok (.iload_n 1, 1) := by decide +kernel
theorem d_M_line_35 : decode prog_4_method_8_code 35 = .ok (.baload, 1) := by decide +kernel
theorem d_M_line_36 : decode prog_4_method_8_code 36 = .ok (.bipush 13, 2) := by decide +kernel
theorem d_M_line_38 : decode prog_4_method_8_code 38 = .ok (.if_icmp .ne 16, 3) := by decide +kernel
theorem d_M_line_41 : decode prog_4_method_8_code 41 = .ok (.aload_n 0, 1) := by decide +kernel
theorem d_M_line_42 : decode prog_4_method_8_code 42 = .ok (.getfield 14, 3) := by decide +kernel
theorem d_M_line_45 : decode prog_4_method_8_code 45 = .ok (.iload_n 1, 1) := by decide +kernel
theorem d_M_line_46 : decode prog_4_method_8_code 46 = .ok (.iconst 1, 1) := by decide +kernel
theorem d_M_line_47 : decode prog_4_method_8_code 47 = .ok (.iadd, 1) := by decide +kernel
theorem d_M_line_48 : decode prog_4_method_8_code 48 = .ok (.baload, 1) := by decide +kernel
theorem d_M_line_49 : decode prog_4_method_8_code 49 = .ok (.bipush 10, 2) := by decide +kernel
theorem d_M_line_51 : decode prog_4_method_8_code 51 = .ok (.if_icmp .eq 9, 3) := by decide +kernel
theorem d_M_line_54 : decode prog_4_method_8_code 54 = .ok (.iinc 1 1, 3) := by decide +kernel
theorem d_M_line_57 : decode prog_4_method_8_code 57 = .ok (.goto (-50), 3) := by decide +kernel
theorem d_M_line_60 : decode prog_4_method_8_code 60 = .ok (.iload_n 1, 1) := by decide +kernel
theorem d_M_line_61 : decode prog_4_method_8_code 61 = .ok (.iconst 1, 1) := by decide +kernel
theorem d_M_line_62 : decode prog_4_method_8_code 62 = .ok (.iadd, 1) := by decide +kernel
theorem d_M_line_63 : decode prog_4_method_8_code 63 = .ok (.aload_n 0, 1) := by decide +kernel
theorem d_M_line_64 : decode prog_4_method_8_code 64 = .ok (.getfield 35, 3) := by decide +kernel
theorem d_M_line_67 : decode prog_4_method_8_code 67 = .ok (.if_icmp .ge 20, 3) := by decide +kernel
theorem d_M_line_70 : decode prog_4_method_8_code 70 = .ok (.iload_n 1, 1) := by decide +kernel
theorem d_M_line_71 : decode prog_4_method_8_code 71 = .ok (.iconst 1, 1) := by decide +kernel
theorem d_M_line_72 : decode prog_4_method_8_code 72 = .ok (.iadd, 1) := by decide +kernel
theorem d_M_line_73 : decode prog_4_method_8_code 73 = .ok (.aload_n 0, 1) := by decide +kernel
theorem d_M_line_74 : decode prog_4_method_8_code 74 = .ok (.getfield 41, 3) := by decide +kernel
theorem d_M_line_77 : decode prog_4_method_8_code 77 = .ok (.bipush 16, 2) := by decide +kernel
theorem d_M_line_79 : decode prog_4_method_8_code 79 = .ok (.iadd, 1) := by decide +kernel
theorem d_M_line_80 : decode prog_4_method_8_code 80 = .ok (.if_icmp .ge 7, 3) := by decide +kernel
theorem d_M_line_83 : decode prog_4_method_8_code 83 = .ok (.iconst 1, 1) := by decide +kernel
theorem d_M_line_84 : decode prog_4_method_8_code 84 = .ok (.goto 4, 3) := by decide +kernel
theorem d_M_line_87 : decode prog_4_method_8_code 87 = .ok (.iconst 0, 1) := by decide +kernel
theorem d_M_line_88 : decode prog_4_method_8_code 88 = .ok (.istore_n 2, 1) := by decide +kernel
theorem d_M_line_89 : decode prog_4_method_8_code 89 = .ok (.iload_n 2, 1) := by decide +kernel
theorem d_M_line_90 : decode prog_4_method_8_code 90 = .ok (.ifCond .ne 25, 3) := by decide +kernel
theorem d_M_line_93 : decode prog_4_method_8_code 93 = .ok (.aload_n 0, 1) := by decide +kernel
theorem d_M_line_94 : decode prog_4_method_8_code 94 = .ok (.getfield 35, 3) := by decide +kernel
theorem d_M_line_97 : decode prog_4_method_8_code 97 = .ok (.aload_n 0, 1) := by decide +kernel
theorem d_M_line_98 : decode prog_4_method_8_code 98 = .ok (.getfield 41, 3) := by decide +kernel
theorem d_M_line_101 : decode prog_4_method_8_code 101 = .ok (.isub, 1) := by decide +kernel
theorem d_M_line_102 : decode prog_4_method_8_code 102 = .ok (.bipush 16, 2) := by decide +kernel
theorem d_M_line_104 : decode prog_4_method_8_code 104 = .ok (.if_icmp .lt 8, 3) := by decide +kernel
theorem d_M_line_107 : decode prog_4_method_8_code 107 = .ok (.ldc 44, 2) := by decide +kernel
theorem d_M_line_109 : decode prog_4_method_8_code 109 = .ok (.goto 5, 3) := by decide +kernel
theorem d_M_line_112 : decode prog_4_method_8_code 112 = .ok (.ldc 45, 2) := by decide +kernel
theorem d_M_line_114 : decode prog_4_method_8_code 114 = .ok (.ireturn, 1) := by decide +kernel
theorem d_M_line_115 : decode prog_4_method_8_code 115 = .ok (.aload_n 0, 1) := by decide +kernel
theorem d_M_line_116 : decode prog_4_method_8_code 116 = .ok (.getfield 41, 3) := by decide +kernel
theorem d_M_line_119 : decode prog_4_method_8_code 119 = .ok (.iconst 1, 1) := by decide +kernel
theorem d_M_line_120 : decode prog_4_method_8_code 120 = .ok (.iadd, 1) := by decide +kernel
theorem d_M_line_121 : decode prog_4_method_8_code 121 = .ok (.istore_n 3, 1) := by decide +kernel
theorem d_M_line_122 : decode prog_4_method_8_code 122 = .ok (.aload_n 0, 1) := by decide +kernel
theorem d_M_line_123 : decode prog_4_method_8_code 123 = .ok (.getfield 14, 3) := by decide +kernel
theorem d_M_line_126 : decode prog_4_method_8_code 126 = .ok (.iload_n 3, 1) := by decide +kernel
theorem d_M_line_127 : decode prog_4_method_8_code 127 = .ok (.baload, 1) := by decide +kernel
theorem d_M_line_128 : decode prog_4_method_8_code 128 = .ok (.bipush 45, 2) := by decide +kernel
theorem d_M_line_130 : decode prog_4_method_8_code 130 = .ok (.if_icmp .ne 7, 3) := by decide +kernel
theorem d_M_line_133 : decode prog_4_method_8_code 133 = .ok (.iconst 1, 1) := by decide +kernel
theorem d_M_line_134 : decode prog_4_method_8_code 134 = .ok (.goto 4, 3) := by decide +kernel
theorem d_M_line_137 : decode prog_4_method_8_code 137 = .ok (.iconst 0, 1) := by decide +kernel
theorem d_M_line_138 : decode prog_4_method_8_code 138 = .ok (.istore 4, 2) := by decide +kernel
theorem d_M_line_140 : decode prog_4_method_8_code 140 = .ok (.iload 4, 2) := by decide +kernel
theorem d_M_line_142 : decode prog_4_method_8_code 142 = .ok (.ifCond .eq 9, 3) := by decide +kernel
theorem d_M_line_145 : decode prog_4_method_8_code 145 = .ok (.iload_n 3, 1) := by decide +kernel
theorem d_M_line_146 : decode prog_4_method_8_code 146 = .ok (.iconst 1, 1) := by decide +kernel
theorem d_M_line_147 : decode prog_4_method_8_code 147 = .ok (.iadd, 1) := by decide +kernel
theorem d_M_line_148 : decode prog_4_method_8_code 148 = .ok (.goto 4, 3) := by decide +kernel
theorem d_M_line_151 : decode prog_4_method_8_code 151 = .ok (.iload_n 3, 1) := by decide +kernel
theorem d_M_line_152 : decode prog_4_method_8_code 152 = .ok (.istore_n 3, 1) := by decide +kernel
theorem d_M_line_153 : decode prog_4_method_8_code 153 = .ok (.iconst 0, 1) := by decide +kernel
theorem d_M_line_154 : decode prog_4_method_8_code 154 = .ok (.istore 5, 2) := by decide +kernel
theorem d_M_line_156 : decode prog_4_method_8_code 156 = .ok (.iload_n 1, 1) := by decide +kernel
theorem d_M_line_157 : decode prog_4_method_8_code 157 = .ok (.iload_n 3, 1) := by decide +kernel
theorem d_M_line_158 : decode prog_4_method_8_code 158 = .ok (.if_icmp .le 15, 3) := by decide +kernel
theorem d_M_line_161 : decode prog_4_method_8_code 161 = .ok (.iload_n 1, 1) := by decide +kernel
theorem d_M_line_162 : decode prog_4_method_8_code 162 = .ok (.iload_n 3, 1) := by decide +kernel
theorem d_M_line_163 : decode prog_4_method_8_code 163 = .ok (.bipush 6, 2) := by decide +kernel
theorem d_M_line_165 : decode prog_4_method_8_code 165 = .ok (.iadd, 1) := by decide +kernel
theorem d_M_line_166 : decode prog_4_method_8_code 166 = .ok (.if_icmp .gt 7, 3) := by decide +kernel
theorem d_M_line_169 : decode prog_4_method_8_code 169 = .ok (.iconst 1, 1) := by decide +kernel
theorem d_M_line_170 : decode prog_4_method_8_code 170 = .ok (.goto 4, 3) := by decide +kernel
theorem d_M_line_173 : decode prog_4_method_8_code 173 = .ok (.iconst 0, 1) := by decide +kernel
theorem d_M_line_174 : decode prog_4_method_8_code 174 = .ok (.istore 6, 2) := by decide +kernel
theorem d_M_line_176 : decode prog_4_method_8_code 176 = .ok (.iload_n 3, 1) := by decide +kernel
theorem d_M_line_177 : decode prog_4_method_8_code 177 = .ok (.istore 7, 2) := by decide +kernel
theorem d_M_line_179 : decode prog_4_method_8_code 179 = .ok (.iload 7, 2) := by decide +kernel
theorem d_M_line_181 : decode prog_4_method_8_code 181 = .ok (.iload_n 1, 1) := by decide +kernel
theorem d_M_line_182 : decode prog_4_method_8_code 182 = .ok (.if_icmp .ge 72, 3) := by decide +kernel
theorem d_M_line_185 : decode prog_4_method_8_code 185 = .ok (.iload 6, 2) := by decide +kernel
theorem d_M_line_187 : decode prog_4_method_8_code 187 = .ok (.ifCond .eq 31, 3) := by decide +kernel
theorem d_M_line_190 : decode prog_4_method_8_code 190 = .ok (.aload_n 0, 1) := by decide +kernel
theorem d_M_line_191 : decode prog_4_method_8_code 191 = .ok (.getfield 14, 3) := by decide +kernel
theorem d_M_line_194 : decode prog_4_method_8_code 194 = .ok (.iload 7, 2) := by decide +kernel
theorem d_M_line_196 : decode prog_4_method_8_code 196 = .ok (.baload, 1) := by decide +kernel
theorem d_M_line_197 : decode prog_4_method_8_code 197 = .ok (.bipush 48, 2) := by decide +kernel
theorem d_M_line_199 : decode prog_4_method_8_code 199 = .ok (.if_icmp .lt 19, 3) := by decide +kernel
theorem d_M_line_202 : decode prog_4_method_8_code 202 = .ok (.aload_n 0, 1) := by decide +kernel
theorem d_M_line_203 : decode prog_4_method_8_code 203 = .ok (.getfield 14, 3) := by decide +kernel
theorem d_M_line_206 : decode prog_4_method_8_code 206 = .ok (.iload 7, 2) := by decide +kernel
theorem d_M_line_208 : decode prog_4_method_8_code 208 = .ok (.baload, 1) := by decide +kernel
theorem d_M_line_209 : decode prog_4_method_8_code 209 = .ok (.bipush 57, 2) := by decide +kernel
theorem d_M_line_211 : decode prog_4_method_8_code 211 = .ok (.if_icmp .gt 7, 3) := by decide +kernel
theorem d_M_line_214 : decode prog_4_method_8_code 214 = .ok (.iconst 1, 1) := by decide +kernel
theorem d_M_line_215 : decode prog_4_method_8_code 215 = .ok (.goto 4, 3) := by decide +kernel
theorem d_M_line_218 : decode prog_4_method_8_code 218 = .ok (.iconst 0, 1) := by decide +kernel
theorem d_M_line_219 : decode prog_4_method_8_code 219 = .ok (.istore 6, 2) := by decide +kernel
theorem d_M_line_221 : decode prog_4_method_8_code 221 = .ok (.iload 6, 2) := by decide +kernel
theorem d_M_line_223 : decode prog_4_method_8_code 223 = .ok (.ifCond .eq 22, 3) := by decide +kernel
theorem d_M_line_226 : decode prog_4_method_8_code 226 = .ok (.bipush 10, 2) := by decide +kernel
theorem d_M_line_228 : decode prog_4_method_8_code 228 = .ok (.iload 5, 2) := by decide +kernel
theorem d_M_line_230 : decode prog_4_method_8_code 230 = .ok (.imul, 1) := by decide +kernel
theorem d_M_line_231 : decode prog_4_method_8_code 231 = .ok (.aload_n 0, 1) := by decide +kernel
theorem d_M_line_232 : decode prog_4_method_8_code 232 = .ok (.getfield 14, 3) := by decide +kernel
theorem d_M_line_235 : decode prog_4_method_8_code 235 = .ok (.iload 7, 2) := by decide +kernel
theorem d_M_line_237 : decode prog_4_method_8_code 237 = .ok (.baload, 1) := by decide +kernel
theorem d_M_line_238 : decode prog_4_method_8_code 238 = .ok (.iadd, 1) := by decide +kernel
theorem d_M_line_239 : decode prog_4_method_8_code 239 = .ok (.bipush 48, 2) := by decide +kernel
theorem d_M_line_241 : decode prog_4_method_8_code 241 = .ok (.isub, 1) := by decide +kernel
theorem d_M_line_242 : decode prog_4_method_8_code 242 = .ok (.goto 4, 3) := by decide +kernel
theorem d_M_line_245 : decode prog_4_method_8_code 245 = .ok (.iconst 0, 1) := by decide +kernel
theorem d_M_line_246 : decode prog_4_method_8_code 246 = .ok (.istore 5, 2) := by decide +kernel
theorem d_M_line_248 : decode prog_4_method_8_code 248 = .ok (.iinc 7 1, 3) := by decide +kernel
theorem d_M_line_251 : decode prog_4_method_8_code 251 = .ok (.goto (-72), 3) := by decide +kernel
theorem d_M_line_254 : decode prog_4_method_8_code 254 = .ok (.aload_n 0, 1) := by decide +kernel
theorem d_M_line_255 : decode prog_4_method_8_code 255 = .ok (.iload_n 1, 1) := by decide +kernel
theorem d_M_line_256 : decode prog_4_method_8_code 256 = .ok (.iconst 2, 1) := by decide +kernel
theorem d_M_line_257 : decode prog_4_method_8_code 257 = .ok (.iadd, 1) := by decide +kernel
theorem d_M_line_258 : decode prog_4_method_8_code 258 = .ok (.putfield 41, 3) := by decide +kernel
theorem d_M_line_261 : decode prog_4_method_8_code 261 = .ok (.iload 6, 2) := by decide +kernel
theorem d_M_line_263 : decode prog_4_method_8_code 263 = .ok (.ifCond .ne 8, 3) := by decide +kernel
theorem d_M_line_266 : decode prog_4_method_8_code 266 = .ok (.ldc 44, 2) := by decide +kernel
theorem d_M_line_268 : decode prog_4_method_8_code 268 = .ok (.goto 16, 3) := by decide +kernel
theorem d_M_line_271 : decode prog_4_method_8_code 271 = .ok (.iload 4, 2) := by decide +kernel
theorem d_M_line_273 : decode prog_4_method_8_code 273 = .ok (.ifCond .eq 9, 3) := by decide +kernel
theorem d_M_line_276 : decode prog_4_method_8_code 276 = .ok (.iload 5, 2) := by decide +kernel
theorem d_M_line_278 : decode prog_4_method_8_code 278 = .ok (.ineg, 1) := by decide +kernel
theorem d_M_line_279 : decode prog_4_method_8_code 279 = .ok (.goto 5, 3) := by decide +kernel
theorem d_M_line_282 : decode prog_4_method_8_code 282 = .ok (.iload 5, 2) := by decide +kernel
theorem d_M_line_284 : decode prog_4_method_8_code 284 = .ok (.ireturn, 1) := by decide +kernel
theorem d_M_word_0 : decode prog_4_method_9_code 0 = .ok (.aload_n 0, 1) := by decide +kernel
theorem d_M_word_1 : decode prog_4_method_9_code 1 = .ok (.getfield 20, 3) := by decide +kernel
theorem d_M_word_4 : decode prog_4_method_9_code 4 = .ok (.aload_n 0, 1) := by decide +kernel
theorem d_M_word_5 : decode prog_4_method_9_code 5 = .ok (.getfield 46, 3) := by decide +kernel
theorem d_M_word_8 : decode prog_4_method_9_code 8 = .ok (.aload_n 0, 1) := by decide +kernel
theorem d_M_word_9 : decode prog_4_method_9_code 9 = .ok (.getfield 49, 3) := by decide +kernel
theorem d_M_word_12 : decode prog_4_method_9_code 12 = .ok (.iastore, 1) := by decide +kernel
theorem d_M_word_13 : decode prog_4_method_9_code 13 = .ok (.aload_n 0, 1) := by decide +kernel
theorem d_M_word_14 : decode prog_4_method_9_code 14 = .ok (.getfield 24, 3) := by decide +kernel
theorem d_M_word_17 : decode prog_4_method_9_code 17 = .ok (.aload_n 0, 1) := by decide +kernel
theorem d_M_word_18 : decode prog_4_method_9_code 18 = .ok (.getfield 46, 3) := by decide +kernel
theorem d_M_word_21 : decode prog_4_method_9_code 21 = .ok (.iload_n 2, 1) := by decide +kernel
theorem d_M_word_22 : decode prog_4_method_9_code 22 = .ok (.iastore, 1) := by decide +kernel
theorem d_M_word_23 : decode prog_4_method_9_code 23 = .ok (.iconst 0, 1) := by decide +kernel
theorem d_M_word_24 : decode prog_4_method_9_code 24 = .ok (.istore_n 3, 1) := by decide +kernel
theorem d_M_word_25 : decode prog_4_method_9_code 25 = .ok (.iload_n 3, 1) := by decide +kernel
theorem d_M_word_26 : decode prog_4_method_9_code 26 = .ok (.iload_n 2, 1) := by decide +kernel
theorem d_M_word_27 : decode prog_4_method_9_code 27 = .ok (.if_icmp .ge 28, 3) := by decide +kernel
theorem d_M_word_30 : decode prog_4_method_9_code 30 = .ok (.aload_n 0, 1) := by decide +kernel
theorem d_M_word_31 : decode prog_4_method_9_code 31 = .ok (.getfield 17, 3) := by decide +kernel
theorem d_M_word_34 : decode prog_4_method_9_code 34 = .ok (.aload_n 0, 1) := by decide +kernel
theorem d_M_word_35 : decode prog_4_method_9_code 35 = .ok (.getfield 49, 3) := by decide +kernel
theorem d_M_word_38 : decode prog_4_method_9_code 38 = .ok (.iload_n 3, 1) := by decide +kernel
theorem d_M_word_39 : decode prog_4_method_9_code 39 = .ok (.iadd, 1) := by decide +kernel
theorem d_M_word_40 : decode prog_4_method_9_code 40 = .ok (.aload_n 0, 1) := by decide +kernel
theorem d_M_word_41 : decode prog_4_method_9_code 41 = .ok (.getfield 14, 3) := by decide +kernel
theorem d_M_word_44 : decode prog_4_method_9_code 44 = .ok (.iload_n 1, 1) := by decide +kernel
theorem d_M_word_45 : decode prog_4_method_9_code 45 = .ok (.iload_n 3, 1) := by decide +kernel
theorem d_M_word_46 : decode prog_4_method_9_code 46 = .ok (.iadd, 1) := by decide +kernel
theorem d_M_word_47 : decode prog_4_method_9_code 47 = .ok (.baload, 1) := by decide +kernel
theorem d_M_word_48 : decode prog_4_method_9_code 48 = .ok (.bastore, 1) := by decide +kernel
theorem d_M_word_49 : decode prog_4_method_9_code 49 = .ok (.iinc 3 1, 3) := by decide +kernel
theorem d_M_word_52 : decode prog_4_method_9_code 52 = .ok (.goto (-27), 3) := by decide +kernel
theorem d_M_word_55 : decode prog_4_method_9_code 55 = .ok (.aload_n 0, 1) := by decide +kernel
theorem d_M_word_56 : decode prog_4_method_9_code 56 = .ok (.dup, 1) := by decide +kernel
theorem d_M_word_57 : decode prog_4_method_9_code 57 = .ok (.getfield 49, 3) := by decide +kernel
theorem d_M_word_60 : decode prog_4_method_9_code 60 = .ok (.iload_n 2, 1) := by decide +kernel
theorem d_M_word_61 : decode prog_4_method_9_code 61 = .ok (.iadd, 1) := by decide +kernel
theorem d_M_word_62 : decode prog_4_method_9_code 62 = .ok (.putfield 49, 3) := by decide +kernel
theorem d_M_word_65 : decode prog_4_method_9_code 65 = .ok (.aload_n 0, 1) := by decide +kernel
theorem d_M_word_66 : decode prog_4_method_9_code 66 = .ok (.dup, 1) := by decide +kernel
theorem d_M_word_67 : decode prog_4_method_9_code 67 = .ok (.getfield 46, 3) := by decide +kernel
theorem d_M_word_70 : decode prog_4_method_9_code 70 = .ok (.iconst 1, 1) := by decide +kernel
theorem d_M_word_71 : decode prog_4_method_9_code 71 = .ok (.iadd, 1) := by decide +kernel
theorem d_M_word_72 : decode prog_4_method_9_code 72 = .ok (.putfield 46, 3) := by decide +kernel
theorem d_M_word_75 : decode prog_4_method_9_code 75 = .ok (.return_, 1) := by decide +kernel
theorem d_M_must_0 : decode prog_4_method_10_code 0 = .ok (.aload_n 0, 1) := by decide +kernel
theorem d_M_must_1 : decode prog_4_method_10_code 1 = .ok (.getfield 41, 3) := by decide +kernel
theorem d_M_must_4 : decode prog_4_method_10_code 4 = .ok (.aload_n 0, 1) := by decide +kernel
theorem d_M_must_5 : decode prog_4_method_10_code 5 = .ok (.getfield 35, 3) := by decide +kernel
theorem d_M_must_8 : decode prog_4_method_10_code 8 = .ok (.if_icmp .lt 5, 3) := by decide +kernel
theorem d_M_must_11 : decode prog_4_method_10_code 11 = .ok (.iconst 0, 1) := by decide +kernel
theorem d_M_must_12 : decode prog_4_method_10_code 12 = .ok (.ireturn, 1) := by decide +kernel
theorem d_M_must_13 : decode prog_4_method_10_code 13 = .ok (.aload_n 0, 1) := by decide +kernel
theorem d_M_must_14 : decode prog_4_method_10_code 14 = .ok (.getfield 14, 3) := by decide +kernel
theorem d_M_must_17 : decode prog_4_method_10_code 17 = .ok (.aload_n 0, 1) := by decide +kernel
theorem d_M_must_18 : decode prog_4_method_10_code 18 = .ok (.getfield 41, 3) := by decide +kernel
theorem d_M_must_21 : decode prog_4_method_10_code 21 = .ok (.baload, 1) := by decide +kernel
theorem d_M_must_22 : decode prog_4_method_10_code 22 = .ok (.iload_n 1, 1) := by decide +kernel
theorem d_M_must_23 : decode prog_4_method_10_code 23 = .ok (.if_icmp .ne 7, 3) := by decide +kernel
theorem d_M_must_26 : decode prog_4_method_10_code 26 = .ok (.iconst 1, 1) := by decide +kernel
theorem d_M_must_27 : decode prog_4_method_10_code 27 = .ok (.goto 4, 3) := by decide +kernel
theorem d_M_must_30 : decode prog_4_method_10_code 30 = .ok (.iconst 0, 1) := by decide +kernel
theorem d_M_must_31 : decode prog_4_method_10_code 31 = .ok (.istore_n 2, 1) := by decide +kernel
theorem d_M_must_32 : decode prog_4_method_10_code 32 = .ok (.aload_n 0, 1) := by decide +kernel
theorem d_M_must_33 : decode prog_4_method_10_code 33 = .ok (.dup, 1) := by decide +kernel
theorem d_M_must_34 : decode prog_4_method_10_code 34 = .ok (.getfield 41, 3) := by decide +kernel
theorem d_M_must_37 : decode prog_4_method_10_code 37 = .ok (.iconst 1, 1) := by decide +kernel
theorem d_M_must_38 : decode prog_4_method_10_code 38 = .ok (.iadd, 1) := by decide +kernel
theorem d_M_must_39 : decode prog_4_method_10_code 39 = .ok (.putfield 41, 3) := by decide +kernel
theorem d_M_must_42 : decode prog_4_method_10_code 42 = .ok (.iload_n 2, 1) := by decide +kernel
theorem d_M_must_43 : decode prog_4_method_10_code 43 = .ok (.ifCond .eq 7, 3) := by decide +kernel
theorem d_M_must_46 : decode prog_4_method_10_code 46 = .ok (.iconst 1, 1) := by decide +kernel
theorem d_M_must_47 : decode prog_4_method_10_code 47 = .ok (.goto 4, 3) := by decide +kernel
theorem d_M_must_50 : decode prog_4_method_10_code 50 = .ok (.iconst (-1), 1) := by decide +kernel
theorem d_M_must_51 : decode prog_4_method_10_code 51 = .ok (.ireturn, 1) := by decide +kernel
theorem d_M_told_0 : decode prog_4_method_11_code 0 = .ok (.aload_n 0, 1) := by decide +kernel
theorem d_M_told_1 : decode prog_4_method_11_code 1 = .ok (.bipush 36, 2) := by decide +kernel
theorem d_M_told_3 : decode prog_4_method_11_code 3 = .ok (.invokevirtual 52, 3) := by decide +kernel
theorem d_M_told_6 : decode prog_4_method_11_code 6 = .ok (.istore_n 1, 1) := by decide +kernel
theorem d_M_told_7 : decode prog_4_method_11_code 7 = .ok (.aload_n 0, 1) := by decide +kernel
theorem d_M_told_8 : decode prog_4_method_11_code 8 = .ok (.iload_n 1, 1) := by decide +kernel
theorem d_M_told_9 : decode prog_4_method_11_code 9 = .ok (.ifCond .ge 7, 3) := by decide +kernel
theorem d_M_told_12 : decode prog_4_method_11_code 12 = .ok (.iconst 2, 1) := by decide +kernel
theorem d_M_told_13 : decode prog_4_method_11_code 13 = .ok (.goto 4, 3) := by decide +kernel
theorem d_M_told_16 : decode prog_4_method_11_code 16 = .ok (.iconst 0, 1) := by decide +kernel
theorem d_M_told_17 : decode prog_4_method_11_code 17 = .ok (.putfield 56, 3) := by decide +kernel
theorem d_M_told_20 : decode prog_4_method_11_code 20 = .ok (.iload_n 1, 1) := by decide +kernel
theorem d_M_told_21 : decode prog_4_method_11_code 21 = .ok (.iconst 1, 1) := by decide +kernel
theorem d_M_told_22 : decode prog_4_method_11_code 22 = .ok (.if_icmp .ge 5, 3) := by decide +kernel
theorem d_M_told_25 : decode prog_4_method_11_code 25 = .ok (.iconst 0, 1) := by decide +kernel
theorem d_M_told_26 : decode prog_4_method_11_code 26 = .ok (.ireturn, 1) := by decide +kernel
theorem d_M_told_27 : decode prog_4_method_11_code 27 = .ok (.aload_n 0, 1) := by decide +kernel
theorem d_M_told_28 : decode prog_4_method_11_code 28 = .ok (.dup, 1) := by decide +kernel
theorem d_M_told_29 : decode prog_4_method_11_code 29 = .ok (.getfield 41, 3) := by decide +kernel
theorem d_M_told_32 : decode prog_4_method_11_code 32 = .ok (.iconst 1, 1) := by decide +kernel
theorem d_M_told_33 : decode prog_4_method_11_code 33 = .ok (.isub, 1) := by decide +kernel
theorem d_M_told_34 : decode prog_4_method_11_code 34 = .ok (.putfield 41, 3) := by decide +kernel
theorem d_M_told_37 : decode prog_4_method_11_code 37 = .ok (.aload_n 0, 1) := by decide +kernel
theorem d_M_told_38 : decode prog_4_method_11_code 38 = .ok (.invokevirtual 59, 3) := by decide +kernel
theorem d_M_told_41 : decode prog_4_method_11_code 41 = .ok (.istore_n 2, 1) := by decide +kernel
theorem d_M_told_42 : decode prog_4_method_11_code 42 = .ok (.aload_n 0, 1) := by decide +kernel
theorem d_M_told_43 : decode prog_4_method_11_code 43 = .ok (.iload_n 2, 1) := by decide +kernel
theorem d_M_told_44 : decode prog_4_method_11_code 44 = .ok (.ldc 44, 2) := by decide +kernel
theorem d_M_told_46 : decode prog_4_method_11_code 46 = .ok (.if_icmp .eq 20, 3) := by decide +kernel
theorem d_M_told_49 : decode prog_4_method_11_code 49 = .ok (.iload_n 2, 1) := by decide +kernel
theorem d_M_told_50 : decode prog_4_method_11_code 50 = .ok (.ldc 45, 2) := by decide +kernel
theorem d_M_told_52 : decode prog_4_method_11_code 52 = .ok (.if_icmp .eq 18, 3) := by decide +kernel
theorem d_M_told_55 : decode prog_4_method_11_code 55 = .ok (.iload_n 2, 1) := by decide +kernel
theorem d_M_told_56 : decode prog_4_method_11_code 56 = .ok (.ifCond .lt 10, 3) := by decide +kernel
theorem d_M_told_59 : decode prog_4_method_11_code 59 = .ok (.iload_n 2, 1) := by decide +kernel
theorem d_M_told_60 : decode prog_4_method_11_code 60 = .ok (.sipush 16384, 3) := by decide +kernel
theorem d_M_told_63 : decode prog_4_method_11_code 63 = .ok (.if_icmp .le 7, 3) := by decide +kernel
theorem d_M_told_66 : decode prog_4_method_11_code 66 = .ok (.iconst 3, 1) := by decide +kernel
theorem d_M_told_67 : decode prog_4_method_11_code 67 = .ok (.goto 4, 3) := by decide +kernel
theorem d_M_told_70 : decode prog_4_method_11_code 70 = .ok (.iconst 0, 1) := by decide +kernel
theorem d_M_told_71 : decode prog_4_method_11_code 71 = .ok (.putfield 56, 3) := by decide +kernel
theorem d_M_told_74 : decode prog_4_method_11_code 74 = .ok (.iload_n 2, 1) := by decide +kernel
theorem d_M_told_75 : decode prog_4_method_11_code 75 = .ok (.ifCond .lt 10, 3) := by decide +kernel
theorem d_M_told_78 : decode prog_4_method_11_code 78 = .ok (.aload_n 0, 1) := by decide +kernel
theorem d_M_told_79 : decode prog_4_method_11_code 79 = .ok (.getfield 56, 3) := by decide +kernel
theorem d_M_told_82 : decode prog_4_method_11_code 82 = .ok (.ifCond .le 5, 3) := by decide +kernel
theorem d_M_told_85 : decode prog_4_method_11_code 85 = .ok (.iconst 0, 1) := by decide +kernel
theorem d_M_told_86 : decode prog_4_method_11_code 86 = .ok (.ireturn, 1) := by decide +kernel
theorem d_M_told_87 : decode prog_4_method_11_code 87 = .ok (.aload_n 0, 1) := by decide +kernel
theorem d_M_told_88 : decode prog_4_method_11_code 88 = .ok (.getfield 41, 3) := by decide +kernel
theorem d_M_told_91 : decode prog_4_method_11_code 91 = .ok (.istore_n 3, 1) := by decide +kernel
theorem d_M_told_92 : decode prog_4_method_11_code 92 = .ok (.aload_n 0, 1) := by decide +kernel
theorem d_M_told_93 : decode prog_4_method_11_code 93 = .ok (.dup, 1) := by decide +kernel
theorem d_M_told_94 : decode prog_4_method_11_code 94 = .ok (.getfield 41, 3) := by decide +kernel
theorem d_M_told_97 : decode prog_4_method_11_code 97 = .ok (.iload_n 2, 1) := by decide +kernel
theorem d_M_told_98 : decode prog_4_method_11_code 98 = .ok (.iadd, 1) := by decide +kernel
theorem d_M_told_99 : decode prog_4_method_11_code 99 = .ok (.putfield 41, 3) := by decide +kernel
theorem d_M_told_102 : decode prog_4_method_11_code 102 = .ok (.aload_n 0, 1) := by decide +kernel
theorem d_M_told_103 : decode prog_4_method_11_code 103 = .ok (.bipush 13, 2) := by decide +kernel
theorem d_M_told_105 : decode prog_4_method_11_code 105 = .ok (.invokevirtual 52, 3) := by decide +kernel
theorem d_M_told_108 : decode prog_4_method_11_code 108 = .ok (.istore 4, 2) := by decide +kernel
theorem d_M_told_110 : decode prog_4_method_11_code 110 = .ok (.iload 4, 2) := by decide +kernel
theorem d_M_told_112 : decode prog_4_method_11_code 112 = .ok (.ifCond .le 12, 3) := by decide +kernel
theorem d_M_told_115 : decode prog_4_method_11_code 115 = .ok (.aload_n 0, 1) := by decide +kernel
theorem d_M_told_116 : decode prog_4_method_11_code 116 = .ok (.bipush 10, 2) := by decide +kernel
theorem d_M_told_118 : decode prog_4_method_11_code 118 = .ok (.invokevirtual 52, 3) := by decide +kernel
theorem d_M_told_121 : decode prog_4_method_11_code 121 = .ok (.goto 4, 3) := by decide +kernel
theorem d_M_told_124 : decode prog_4_method_11_code 124 = .ok (.iconst 0, 1) := by decide +kernel
theorem d_M_told_125 : decode prog_4_method_11_code 125 = .ok (.istore 5, 2) := by decide +kernel
theorem d_M_told_127 : decode prog_4_method_11_code 127 = .ok (.aload_n 0, 1) := by decide +kernel
theorem d_M_told_128 : decode prog_4_method_11_code 128 = .ok (.iload 4, 2) := by decide +kernel
theorem d_M_told_130 : decode prog_4_method_11_code 130 = .ok (.ifCond .lt 8, 3) := by decide +kernel
theorem d_M_told_133 : decode prog_4_method_11_code 133 = .ok (.iload 5, 2) := by decide +kernel
theorem d_M_told_135 : decode prog_4_method_11_code 135 = .ok (.ifCond .ge 7, 3) := by decide +kernel
theorem d_M_told_138 : decode prog_4_method_11_code 138 = .ok (.iconst 4, 1) := by decide +kernel
theorem d_M_told_139 : decode prog_4_method_11_code 139 = .ok (.goto 4, 3) := by decide +kernel
theorem d_M_told_142 : decode prog_4_method_11_code 142 = .ok (.iconst 0, 1) := by decide +kernel
theorem d_M_told_143 : decode prog_4_method_11_code 143 = .ok (.putfield 56, 3) := by decide +kernel
theorem d_M_told_146 : decode prog_4_method_11_code 146 = .ok (.iload 5, 2) := by decide +kernel
theorem d_M_told_148 : decode prog_4_method_11_code 148 = .ok (.iconst 1, 1) := by decide +kernel
theorem d_M_told_149 : decode prog_4_method_11_code 149 = .ok (.if_icmp .ge 5, 3) := by decide +kernel
theorem d_M_told_152 : decode prog_4_method_11_code 152 = .ok (.iconst 0, 1) := by decide +kernel
theorem d_M_told_153 : decode prog_4_method_11_code 153 = .ok (.ireturn, 1) := by decide +kernel
theorem d_M_told_154 : decode prog_4_method_11_code 154 = .ok (.aload_n 0, 1) := by decide +kernel
theorem d_M_told_155 : decode prog_4_method_11_code 155 = .ok (.iload_n 3, 1) := by decide +kernel
theorem d_M_told_156 : decode prog_4_method_11_code 156 = .ok (.iload_n 2, 1) := by decide +kernel
theorem d_M_told_157 : decode prog_4_method_11_code 157 = .ok (.invokevirtual 63, 3) := by decide +kernel
theorem d_M_told_160 : decode prog_4_method_11_code 160 = .ok (.iconst 1, 1) := by decide +kernel
theorem d_M_told_161 : decode prog_4_method_11_code 161 = .ok (.ireturn, 1) := by decide +kernel
theorem d_M_cutTold_0 : decode prog_4_method_12_code 0 = .ok (.aload_n 0, 1) := by decide +kernel
theorem d_M_cutTold_1 : decode prog_4_method_12_code 1 = .ok (.invokevirtual 59, 3) := by decide +kernel
theorem d_M_cutTold_4 : decode prog_4_method_12_code 4 = .ok (.istore_n 1, 1) := by decide +kernel
theorem d_M_cutTold_5 : decode prog_4_method_12_code 5 = .ok (.aload_n 0, 1) := by decide +kernel
theorem d_M_cutTold_6 : decode prog_4_method_12_code 6 = .ok (.iload_n 1, 1) := by decide +kernel
theorem d_M_cutTold_7 : decode prog_4_method_12_code 7 = .ok (.ldc 44, 2) := by decide +kernel
theorem d_M_cutTold_9 : decode prog_4_method_12_code 9 = .ok (.if_icmp .eq 10, 3) := by decide +kernel
theorem d_M_cutTold_12 : decode prog_4_method_12_code 12 = .ok (.iload_n 1, 1) := by decide +kernel
theorem d_M_cutTold_13 : decode prog_4_method_12_code 13 = .ok (.sipush 1024, 3) := by decide +kernel
theorem d_M_cutTold_16 : decode prog_4_method_12_code 16 = .ok (.if_icmp .le 7, 3) := by decide +kernel
theorem d_M_cutTold_19 : decode prog_4_method_12_code 19 = .ok (.iconst 1, 1) := by decide +kernel
theorem d_M_cutTold_20 : decode prog_4_method_12_code 20 = .ok (.goto 4, 3) := by decide +kernel
theorem d_M_cutTold_23 : decode prog_4_method_12_code 23 = .ok (.iconst 0, 1) := by decide +kernel
theorem d_M_cutTold_24 : decode prog_4_method_12_code 24 = .ok (.putfield 56, 3) := by decide +kernel
theorem d_M_cutTold_27 : decode prog_4_method_12_code 27 = .ok (.iload_n 1, 1) := by decide +kernel
theorem d_M_cutTold_28 : decode prog_4_method_12_code 28 = .ok (.ldc 45, 2) := by decide +kernel
theorem d_M_cutTold_30 : decode prog_4_method_12_code 30 = .ok (.if_icmp .eq 14, 3) := by decide +kernel
theorem d_M_cutTold_33 : decode prog_4_method_12_code 33 = .ok (.aload_n 0, 1) := by decide +kernel
theorem d_M_cutTold_34 : decode prog_4_method_12_code 34 = .ok (.getfield 56, 3) := by decide +kernel
theorem d_M_cutTold_37 : decode prog_4_method_12_code 37 = .ok (.ifCond .ne 7, 3) := by decide +kernel
theorem d_M_cutTold_40 : decode prog_4_method_12_code 40 = .ok (.iconst 1, 1) := by decide +kernel
theorem d_M_cutTold_41 : decode prog_4_method_12_code 41 = .ok (.goto 4, 3) := by decide +kernel
theorem d_M_cutTold_44 : decode prog_4_method_12_code 44 = .ok (.iconst 0, 1) := by decide +kernel
theorem d_M_cutTold_45 : decode prog_4_method_12_code 45 = .ok (.istore_n 2, 1) := by decide +kernel
theorem d_M_cutTold_46 : decode prog_4_method_12_code 46 = .ok (.iconst 0, 1) := by decide +kernel
theorem d_M_cutTold_47 : decode prog_4_method_12_code 47 = .ok (.istore_n 3, 1) := by decide +kernel
theorem d_M_cutTold_48 : decode prog_4_method_12_code 48 = .ok (.iload_n 3, 1) := by decide +kernel
theorem d_M_cutTold_49 : decode prog_4_method_12_code 49 = .ok (.iload_n 1, 1) := by decide +kernel
theorem d_M_cutTold_50 : decode prog_4_method_12_code 50 = .ok (.if_icmp .ge 18, 3) := by decide +kernel
theorem d_M_cutTold_53 : decode prog_4_method_12_code 53 = .ok (.iload_n 2, 1) := by decide +kernel
theorem d_M_cutTold_54 : decode prog_4_method_12_code 54 = .ok (.ifCond .eq 14, 3) := by decide +kernel
theorem d_M_cutTold_57 : decode prog_4_method_12_code 57 = .ok (.aload_n 0, 1) := by decide +kernel
theorem d_M_cutTold_58 : decode prog_4_method_12_code 58 = .ok (.invokevirtual 67, 3) := by decide +kernel
theorem d_M_cutTold_61 : decode prog_4_method_12_code 61 = .ok (.istore_n 2, 1) := by decide +kernel
theorem d_M_cutTold_62 : decode prog_4_method_12_code 62 = .ok (.iinc 3 1, 3) := by decide +kernel
theorem d_M_cutTold_65 : decode prog_4_method_12_code 65 = .ok (.goto (-17), 3) := by decide +kernel
theorem d_M_cutTold_68 : decode prog_4_method_12_code 68 = .ok (.iload_n 2, 1) := by decide +kernel
theorem d_M_cutTold_69 : decode prog_4_method_12_code 69 = .ok (.ireturn, 1) := by decide +kernel
theorem d_M_cutLine_0 : decode prog_4_method_13_code 0 = .ok (.iconst 0, 1) := by decide +kernel
theorem d_M_cutLine_1 : decode prog_4_method_13_code 1 = .ok (.istore_n 1, 1) := by decide +kernel
theorem d_M_cutLine_2 : decode prog_4_method_13_code 2 = .ok (.iload_n 1, 1) := by decide +kernel
theorem d_M_cutLine_3 : decode prog_4_method_13_code 3 = .ok (.aload_n 0, 1) := by decide +kernel
theorem d_M_cutLine_4 : decode prog_4_method_13_code 4 = .ok (.getfield 35, 3) := by decide +kernel
theorem d_M_cutLine_7 : decode prog_4_method_13_code 7 = .ok (.if_icmp .ge 27, 3) := by decide +kernel
theorem d_M_cutLine_10 : decode prog_4_method_13_code 10 = .ok (.iload_n 1, 1) := by decide +kernel
theorem d_M_cutLine_11 : decode prog_4_method_13_code 11 = .ok (.sipush 2048, 3) := by decide +kernel
theorem d_M_cutLine_14 : decode prog_4_method_13_code 14 = .ok (.if_icmp .ge 20, 3) := by decide +kernel
theorem d_M_cutLine_17 : decode prog_4_method_13_code 17 = .ok (.aload_n 0, 1) := by decide +kernel
theorem d_M_cutLine_18 : decode prog_4_method_13_code 18 = .ok (.getfield 14, 3) := by decide +kernel
theorem d_M_cutLine_21 : decode prog_4_method_13_code 21 = .ok (.iload_n 1, 1) := by decide +kernel
theorem d_M_cutLine_22 : decode prog_4_method_13_code 22 = .ok (.baload, 1) := by decide +kernel
theorem d_M_cutLine_23 : decode prog_4_method_13_code 23 = .ok (.bipush 10, 2) := by decide +kernel
theorem d_M_cutLine_25 : decode prog_4_method_13_code 25 = .ok (.if_icmp .eq 9, 3) := by decide +kernel
theorem d_M_cutLine_28 : decode prog_4_method_13_code 28 = .ok (.iinc 1 1, 3) := by decide +kernel
theorem d_M_cutLine_31 : decode prog_4_method_13_code 31 = .ok (.goto (-29), 3) := by decide +kernel
theorem d_M_cutLine_34 : decode prog_4_method_13_code 34 = .ok (.aload_n 0, 1) := by decide +kernel
theorem d_M_cutLine_35 : decode prog_4_method_13_code 35 = .ok (.iload_n 1, 1) := by decide +kernel
theorem d_M_cutLine_36 : decode prog_4_method_13_code 36 = .ok (.sipush 2048, 3) := by decide +kernel
theorem d_M_cutLine_39 : decode prog_4_method_13_code 39 = .ok (.if_icmp .ne 7, 3) := by decide +kernel
theorem d_M_cutLine_42 : decode prog_4_method_13_code 42 = .ok (.iconst 5, 1) := by decide +kernel
theorem d_M_cutLine_43 : decode prog_4_method_13_code 43 = .ok (.goto 4, 3) := by decide +kernel
theorem d_M_cutLine_46 : decode prog_4_method_13_code 46 = .ok (.iconst 0, 1) := by decide +kernel
theorem d_M_cutLine_47 : decode prog_4_method_13_code 47 = .ok (.putfield 56, 3) := by decide +kernel
theorem d_M_cutLine_50 : decode prog_4_method_13_code 50 = .ok (.iload_n 1, 1) := by decide +kernel
theorem d_M_cutLine_51 : decode prog_4_method_13_code 51 = .ok (.sipush 2048, 3) := by decide +kernel
theorem d_M_cutLine_54 : decode prog_4_method_13_code 54 = .ok (.if_icmp .eq 11, 3) := by decide +kernel
theorem d_M_cutLine_57 : decode prog_4_method_13_code 57 = .ok (.iload_n 1, 1) := by decide +kernel
theorem d_M_cutLine_58 : decode prog_4_method_13_code 58 = .ok (.aload_n 0, 1) := by decide +kernel
theorem d_M_cutLine_59 : decode prog_4_method_13_code 59 = .ok (.getfield 35, 3) := by decide +kernel
theorem d_M_cutLine_62 : decode prog_4_method_13_code 62 = .ok (.if_icmp .ne 5, 3) := by decide +kernel
theorem d_M_cutLine_65 : decode prog_4_method_13_code 65 = .ok (.iconst 0, 1) := by decide +kernel
theorem d_M_cutLine_66 : decode prog_4_method_13_code 66 = .ok (.ireturn, 1) := by decide +kernel
theorem d_M_cutLine_67 : decode prog_4_method_13_code 67 = .ok (.aload_n 0, 1) := by decide +kernel
theorem d_M_cutLine_68 : decode prog_4_method_13_code 68 = .ok (.iload_n 1, 1) := by decide +kernel
theorem d_M_cutLine_69 : decode prog_4_method_13_code 69 = .ok (.iconst 1, 1) := by decide +kernel
theorem d_M_cutLine_70 : decode prog_4_method_13_code 70 = .ok (.iadd, 1) := by decide +kernel
theorem d_M_cutLine_71 : decode prog_4_method_13_code 71 = .ok (.putfield 41, 3) := by decide +kernel
theorem d_M_cutLine_74 : decode prog_4_method_13_code 74 = .ok (.iload_n 1, 1) := by decide +kernel
theorem d_M_cutLine_75 : decode prog_4_method_13_code 75 = .ok (.ifCond .le 22, 3) := by decide +kernel
theorem d_M_cutLine_78 : decode prog_4_method_13_code 78 = .ok (.aload_n 0, 1) := by decide +kernel
theorem d_M_cutLine_79 : decode prog_4_method_13_code 79 = .ok (.getfield 14, 3) := by decide +kernel
theorem d_M_cutLine_82 : decode prog_4_method_13_code 82 = .ok (.iload_n 1, 1) := by decide +kernel
theorem d_M_cutLine_83 : decode prog_4_method_13_code 83 = .ok (.iconst 1, 1) := by decide +kernel
theorem d_M_cutLine_84 : decode prog_4_method_13_code 84 = .ok (.isub, 1) := by decide +kernel
theorem d_M_cutLine_85 : decode prog_4_method_13_code 85 = .ok (.baload, 1) := by decide +kernel
theorem d_M_cutLine_86 : decode prog_4_method_13_code 86 = .ok (.bipush 13, 2) := by decide +kernel
theorem d_M_cutLine_88 : decode prog_4_method_13_code 88 = .ok (.if_icmp .ne 9, 3) := by decide +kernel
theorem d_M_cutLine_91 : decode prog_4_method_13_code 91 = .ok (.iload_n 1, 1) := by decide +kernel
theorem d_M_cutLine_92 : decode prog_4_method_13_code 92 = .ok (.iconst 1, 1) := by decide +kernel
theorem d_M_cutLine_93 : decode prog_4_method_13_code 93 = .ok (.isub, 1) := by decide +kernel
theorem d_M_cutLine_94 : decode prog_4_method_13_code 94 = .ok (.goto 4, 3) := by decide +kernel
theorem d_M_cutLine_97 : decode prog_4_method_13_code 97 = .ok (.iload_n 1, 1) := by decide +kernel
theorem d_M_cutLine_98 : decode prog_4_method_13_code 98 = .ok (.istore_n 2, 1) := by decide +kernel
theorem d_M_cutLine_99 : decode prog_4_method_13_code 99 = .ok (.iconst 0, 1) := by decide +kernel
theorem d_M_cutLine_100 : decode prog_4_method_13_code 100 = .ok (.istore_n 3, 1) := by decide +kernel
theorem d_M_cutLine_101 : decode prog_4_method_13_code 101 = .ok (.iload_n 3, 1) := by decide +kernel
theorem d_M_cutLine_102 : decode prog_4_method_13_code 102 = .ok (.iload_n 2, 1) := by decide +kernel
theorem d_M_cutLine_103 : decode prog_4_method_13_code 103 = .ok (.if_icmp .ge 53, 3) := by decide +kernel
theorem d_M_cutLine_106 : decode prog_4_method_13_code 106 = .ok (.iload_n 3, 1) := by decide +kernel
theorem d_M_cutLine_107 : decode prog_4_method_13_code 107 = .ok (.istore 4, 2) := by decide +kernel
theorem d_M_cutLine_109 : decode prog_4_method_13_code 109 = .ok (.iload 4, 2) := by decide +kernel
theorem d_M_cutLine_111 : decode prog_4_method_13_code 111 = .ok (.iload_n 2, 1) := by decide +kernel
theorem d_M_cutLine_112 : decode prog_4_method_13_code 112 = .ok (.if_icmp .ge 21, 3) := by decide +kernel
theorem d_M_cutLine_115 : decode prog_4_method_13_code 115 = .ok (.aload_n 0, 1) := by decide +kernel
theorem d_M_cutLine_116 : decode prog_4_method_13_code 116 = .ok (.getfield 14, 3) := by decide +kernel
theorem d_M_cutLine_119 : decode prog_4_method_13_code 119 = .ok (.iload 4, 2) := by decide +kernel
theorem d_M_cutLine_121 : decode prog_4_method_13_code 121 = .ok (.baload, 1) := by decide +kernel
theorem d_M_cutLine_122 : decode prog_4_method_13_code 122 = .ok (.bipush 32, 2) := by decide +kernel
theorem d_M_cutLine_124 : decode prog_4_method_13_code 124 = .ok (.if_icmp .eq 9, 3) := by decide +kernel
theorem d_M_cutLine_127 : decode prog_4_method_13_code 127 = .ok (.iinc 4 1, 3) := by decide +kernel
theorem d_M_cutLine_130 : decode prog_4_method_13_code 130 = .ok (.goto (-21), 3) := by decide +kernel
theorem d_M_cutLine_133 : decode prog_4_method_13_code 133 = .ok (.iload 4, 2) := by decide +kernel
theorem d_M_cutLine_135 : decode prog_4_method_13_code 135 = .ok (.iload_n 3, 1) := by decide +kernel
theorem d_M_cutLine_136 : decode prog_4_method_13_code 136 = .ok (.if_icmp .le 12, 3) := by decide +kernel
theorem d_M_cutLine_139 : decode prog_4_method_13_code 139 = .ok (.aload_n 0, 1) := by decide +kernel
theorem d_M_cutLine_140 : decode prog_4_method_13_code 140 = .ok (.iload_n 3, 1) := by decide +kernel
theorem d_M_cutLine_141 : decode prog_4_method_13_code 141 = .ok (.iload 4, 2) := by decide +kernel
theorem d_M_cutLine_143 : decode prog_4_method_13_code 143 = .ok (.iload_n 3, 1) := by decide +kernel
theorem d_M_cutLine_144 : decode prog_4_method_13_code 144 = .ok (.isub, 1) := by decide +kernel
theorem d_M_cutLine_145 : decode prog_4_method_13_code 145 = .ok (.invokevirtual 63, 3) := by decide +kernel
theorem d_M_cutLine_148 : decode prog_4_method_13_code 148 = .ok (.iload 4, 2) := by decide +kernel
theorem d_M_cutLine_150 : decode prog_4_method_13_code 150 = .ok (.iconst 1, 1) := by decide +kernel
theorem d_M_cutLine_151 : decode prog_4_method_13_code 151 = .ok (.iadd, 1) := by decide +kernel
theorem d_M_cutLine_152 : decode prog_4_method_13_code 152 = .ok (.istore_n 3, 1) := by decide +kernel
theorem d_M_cutLine_153 : decode prog_4_method_13_code 153 = .ok (.goto (-52), 3) := by decide +kernel
theorem d_M_cutLine_156 : decode prog_4_method_13_code 156 = .ok (.iconst 1, 1) := by decide +kernel
theorem d_M_cutLine_157 : decode prog_4_method_13_code 157 = .ok (.ireturn, 1) := by decide +kernel
theorem d_M_cut_0 : decode prog_4_method_14_code 0 = .ok (.aload_n 0, 1) := by decide +kernel
theorem d_M_cut_1 : decode prog_4_method_14_code 1 = .ok (.iconst 0, 1) := by decide +kernel
theorem d_M_cut_2 : decode prog_4_method_14_code 2 = .ok (.putfield 46, 3) := by decide +kernel
theorem d_M_cut_5 : decode prog_4_method_14_code 5 = .ok (.aload_n 0, 1) := by decide +kernel
theorem d_M_cut_6 : decode prog_4_method_14_code 6 = .ok (.iconst 0, 1) := by decide +kernel
theorem d_M_cut_7 : decode prog_4_method_14_code 7 = .ok (.putfield 49, 3) := by decide +kernel
theorem d_M_cut_10 : decode prog_4_method_14_code 10 = .ok (.aload_n 0, 1) := by decide +kernel
theorem d_M_cut_11 : decode prog_4_method_14_code 11 = .ok (.iconst 0, 1) := by decide +kernel
theorem d_M_cut_12 : decode prog_4_method_14_code 12 = .ok (.putfield 56, 3) := by decide +kernel
theorem d_M_cut_15 : decode prog_4_method_14_code 15 = .ok (.aload_n 0, 1) := by decide +kernel
theorem d_M_cut_16 : decode prog_4_method_14_code 16 = .ok (.iconst 0, 1) := by decide +kernel
theorem d_M_cut_17 : decode prog_4_method_14_code 17 = .ok (.putfield 41, 3) := by decide +kernel
theorem d_M_cut_20 : decode prog_4_method_14_code 20 = .ok (.aload_n 0, 1) := by decide +kernel
theorem d_M_cut_21 : decode prog_4_method_14_code 21 = .ok (.getfield 35, 3) := by decide +kernel
theorem d_M_cut_24 : decode prog_4_method_14_code 24 = .ok (.ifCond .le 35, 3) := by decide +kernel
theorem d_M_cut_27 : decode prog_4_method_14_code 27 = .ok (.aload_n 0, 1) := by decide +kernel
theorem d_M_cut_28 : decode prog_4_method_14_code 28 = .ok (.getfield 14, 3) := by decide +kernel
theorem d_M_cut_31 : decode prog_4_method_14_code 31 = .ok (.iconst 0, 1) := by decide +kernel
theorem d_M_cut_32 : decode prog_4_method_14_code 32 = .ok (.baload, 1) := by decide +kernel
theorem d_M_cut_33 : decode prog_4_method_14_code 33 = .ok (.bipush 42, 2) := by decide +kernel
theorem d_M_cut_35 : decode prog_4_method_14_code 35 = .ok (.if_icmp .ne 13, 3) := by decide +kernel
theorem d_M_cut_38 : decode prog_4_method_14_code 38 = .ok (.aload_n 0, 1) := by decide +kernel
theorem d_M_cut_39 : decode prog_4_method_14_code 39 = .ok (.invokevirtual 71, 3) := by decide +kernel
theorem d_M_cut_42 : decode prog_4_method_14_code 42 = .ok (.ifCond .eq 17, 3) := by decide +kernel
theorem d_M_cut_45 : decode prog_4_method_14_code 45 = .ok (.goto 10, 3) := by decide +kernel
theorem d_M_cut_48 : decode prog_4_method_14_code 48 = .ok (.aload_n 0, 1) := by decide +kernel
theorem d_M_cut_49 : decode prog_4_method_14_code 49 = .ok (.invokevirtual 74, 3) := by decide +kernel
theorem d_M_cut_52 : decode prog_4_method_14_code 52 = .ok (.ifCond .eq 7, 3) := by decide +kernel
theorem d_M_cut_55 : decode prog_4_method_14_code 55 = .ok (.iconst 1, 1) := by decide +kernel
theorem d_M_cut_56 : decode prog_4_method_14_code 56 = .ok (.goto 4, 3) := by decide +kernel
theorem d_M_cut_59 : decode prog_4_method_14_code 59 = .ok (.iconst 0, 1) := by decide +kernel
theorem d_M_cut_60 : decode prog_4_method_14_code 60 = .ok (.istore_n 1, 1) := by decide +kernel
theorem d_M_cut_61 : decode prog_4_method_14_code 61 = .ok (.iload_n 1, 1) := by decide +kernel
theorem d_M_cut_62 : decode prog_4_method_14_code 62 = .ok (.ifCond .ne 22, 3) := by decide +kernel
theorem d_M_cut_65 : decode prog_4_method_14_code 65 = .ok (.aload_n 0, 1) := by decide +kernel
theorem d_M_cut_66 : decode prog_4_method_14_code 66 = .ok (.iconst 0, 1) := by decide +kernel
theorem d_M_cut_67 : decode prog_4_method_14_code 67 = .ok (.putfield 46, 3) := by decide +kernel
theorem d_M_cut_70 : decode prog_4_method_14_code 70 = .ok (.aload_n 0, 1) := by decide +kernel
theorem d_M_cut_71 : decode prog_4_method_14_code 71 = .ok (.getfield 56, 3) := by decide +kernel
theorem d_M_cut_74 : decode prog_4_method_14_code 74 = .ok (.ifCond .le 8, 3) := by decide +kernel
theorem d_M_cut_77 : decode prog_4_method_14_code 77 = .ok (.bipush (-2), 2) := by decide +kernel
theorem d_M_cut_79 : decode prog_4_method_14_code 79 = .ok (.goto 4, 3) := by decide +kernel
theorem d_M_cut_82 : decode prog_4_method_14_code 82 = .ok (.iconst (-1), 1) := by decide +kernel
theorem d_M_cut_83 : decode prog_4_method_14_code 83 = .ok (.ireturn, 1) := by decide +kernel
theorem d_M_cut_84 : decode prog_4_method_14_code 84 = .ok (.aload_n 0, 1) := by decide +kernel
theorem d_M_cut_85 : decode prog_4_method_14_code 85 = .ok (.aload_n 0, 1) := by decide +kernel
theorem d_M_cut_86 : decode prog_4_method_14_code 86 = .ok (.getfield 41, 3) := by decide +kernel
theorem d_M_cut_89 : decode prog_4_method_14_code 89 = .ok (.invokevirtual 38, 3) := by decide +kernel
theorem d_M_cut_92 : decode prog_4_method_14_code 92 = .ok (.aload_n 0, 1) := by decide +kernel
theorem d_M_cut_93 : decode prog_4_method_14_code 93 = .ok (.getfield 46, 3) := by decide +kernel
theorem d_M_cut_96 : decode prog_4_method_14_code 96 = .ok (.ireturn, 1) := by decide +kernel
theorem d_M_fault_0 : decode prog_4_method_15_code 0 = .ok (.aload_n 0, 1) := by decide +kernel
theorem d_M_fault_1 : decode prog_4_method_15_code 1 = .ok (.getfield 56, 3) := by decide +kernel
theorem d_M_fault_4 : decode prog_4_method_15_code 4 = .ok (.ireturn, 1) := by decide +kernel
theorem d_M_size_0 : decode prog_4_method_16_code 0 = .ok (.iload_n 1, 1) := by decide +kernel
theorem d_M_size_1 : decode prog_4_method_16_code 1 = .ok (.ifCond .lt 20, 3) := by decide +kernel
theorem d_M_size_4 : decode prog_4_method_16_code 4 = .ok (.iload_n 1, 1) := by decide +kernel
theorem d_M_size_5 : decode prog_4_method_16_code 5 = .ok (.aload_n 0, 1) := by decide +kernel
theorem d_M_size_6 : decode prog_4_method_16_code 6 = .ok (.getfield 46, 3) := by decide +kernel
theorem d_M_size_9 : decode prog_4_method_16_code 9 = .ok (.if_icmp .ge 12, 3) := by decide +kernel
theorem d_M_size_12 : decode prog_4_method_16_code 12 = .ok (.aload_n 0, 1) := by decide +kernel
theorem d_M_size_13 : decode prog_4_method_16_code 13 = .ok (.getfield 24, 3) := by decide +kernel
theorem d_M_size_16 : decode prog_4_method_16_code 16 = .ok (.iload_n 1, 1) := by decide +kernel
theorem d_M_size_17 : decode prog_4_method_16_code 17 = .ok (.iaload, 1) := by decide +kernel
theorem d_M_size_18 : decode prog_4_method_16_code 18 = .ok (.goto 4, 3) := by decide +kernel
theorem d_M_size_21 : decode prog_4_method_16_code 21 = .ok (.iconst (-1), 1) := by decide +kernel
theorem d_M_size_22 : decode prog_4_method_16_code 22 = .ok (.ireturn, 1) := by decide +kernel
theorem d_M_byteOf_0 : decode prog_4_method_17_code 0 = .ok (.iload_n 2, 1) := by decide +kernel
theorem d_M_byteOf_1 : decode prog_4_method_17_code 1 = .ok (.ifCond .lt 32, 3) := by decide +kernel
theorem d_M_byteOf_4 : decode prog_4_method_17_code 4 = .ok (.iload_n 2, 1) := by decide +kernel
theorem d_M_byteOf_5 : decode prog_4_method_17_code 5 = .ok (.aload_n 0, 1) := by decide +kernel
theorem d_M_byteOf_6 : decode prog_4_method_17_code 6 = .ok (.iload_n 1, 1) := by decide +kernel
theorem d_M_byteOf_7 : decode prog_4_method_17_code 7 = .ok (.invokevirtual 77, 3) := by decide +kernel
theorem d_M_byteOf_10 : decode prog_4_method_17_code 10 = .ok (.if_icmp .ge 23, 3) := by decide +kernel
theorem d_M_byteOf_13 : decode prog_4_method_17_code 13 = .ok (.aload_n 0, 1) := by decide +kernel
theorem d_M_byteOf_14 : decode prog_4_method_17_code 14 = .ok (.getfield 17, 3) := by decide +kernel
theorem d_M_byteOf_17 : decode prog_4_method_17_code 17 = .ok (.aload_n 0, 1) := by decide +kernel
theorem d_M_byteOf_18 : decode prog_4_method_17_code 18 = .ok (.getfield 20, 3) := by decide +kernel
theorem d_M_byteOf_21 : decode prog_4_method_17_code 21 = .ok (.iload_n 1, 1) := by decide +kernel
theorem d_M_byteOf_22 : decode prog_4_method_17_code 22 = .ok (.iaload, 1) := by decide +kernel
theorem d_M_byteOf_23 : decode prog_4_method_17_code 23 = .ok (.iload_n 2, 1) := by decide +kernel
theorem d_M_byteOf_24 : decode prog_4_method_17_code 24 = .ok (.iadd, 1) := by decide +kernel
theorem d_M_byteOf_25 : decode prog_4_method_17_code 25 = .ok (.baload, 1) := by decide +kernel
theorem d_M_byteOf_26 : decode prog_4_method_17_code 26 = .ok (.sipush 255, 3) := by decide +kernel
theorem d_M_byteOf_29 : decode prog_4_method_17_code 29 = .ok (.iand, 1) := by decide +kernel
theorem d_M_byteOf_30 : decode prog_4_method_17_code 30 = .ok (.goto 4, 3) := by decide +kernel
theorem d_M_byteOf_33 : decode prog_4_method_17_code 33 = .ok (.iconst (-1), 1) := by decide +kernel
theorem d_M_byteOf_34 : decode prog_4_method_17_code 34 = .ok (.ireturn, 1) := by decide +kernel
theorem d_M_waiting_0 : decode prog_4_method_18_code 0 = .ok (.aload_n 0, 1) := by decide +kernel
theorem d_M_waiting_1 : decode prog_4_method_18_code 1 = .ok (.getfield 35, 3) := by decide +kernel
theorem d_M_waiting_4 : decode prog_4_method_18_code 4 = .ok (.ireturn, 1) := by decide +kernel
end
section
theorem d_L_law_0 : decode code 0 = .ok (.new 7, 3) := by decide +kernel
theorem d_L_law_3 : decode code 3 = .ok (.dup, 1) := by decide +kernel
theorem d_L_law_4 : decode code 4 = .ok (.invokespecial 9, 3) := by decide +kernel
theorem d_L_law_7 : decode code 7 = .ok (.astore_n 1, 1) := by decide +kernel
theorem d_L_law_8 : decode code 8 = .ok (.new 10, 3) := by decide +kernel
theorem d_L_law_11 : decode code 11 = .ok (.dup, 1) := by decide +kernel
theorem d_L_law_12 : decode code 12 = .ok (.invokespecial 12, 3) := by decide +kernel
theorem d_L_law_15 : decode code 15 = .ok (.astore_n 2, 1) := by decide +kernel
theorem d_L_law_16 : decode code 16 = .ok (.iconst 0, 1) := by decide +kernel
theorem d_L_law_17 : decode code 17 = .ok (.istore_n 3, 1) := by decide +kernel
theorem d_L_law_18 : decode code 18 = .ok (.iload_n 3, 1) := by decide +kernel
theorem d_L_law_19 : decode code 19 = .ok (.aload_n 0, 1) := by decide +kernel
theorem d_L_law_20 : decode code 20 = .ok (.arraylength, 1) := by decide +kernel
theorem d_L_law_21 : decode code 21 = .ok (.bipush 6, 2) := by decide +kernel
theorem d_L_law_23 : decode code 23 = .ok (.isub, 1) := by decide +kernel
theorem d_L_law_24 : decode code 24 = .ok (.if_icmp .gt 283, 3) := by decide +kernel
theorem d_L_law_27 : decode code 27 = .ok (.aload_n 0, 1) := by decide +kernel
theorem d_L_law_28 : decode code 28 = .ok (.iload_n 3, 1) := by decide +kernel
theorem d_L_law_29 : decode code 29 = .ok (.iaload, 1) := by decide +kernel
theorem d_L_law_30 : decode code 30 = .ok (.bipush 15, 2) := by decide +kernel
theorem d_L_law_32 : decode code 32 = .ok (.iand, 1) := by decide +kernel
theorem d_L_law_33 : decode code 33 = .ok (.tableswitch 268 0 8 #[51, 114, 137, 150, 163, 176, 199, 232, 255], 51) := by decide +kernel
theorem d_L_law_84 : decode code 84 = .ok (.aload_n 1, 1) := by decide +kernel
theorem d_L_law_85 : decode code 85 = .ok (.aload_n 0, 1) := by decide +kernel
theorem d_L_law_86 : decode code 86 = .ok (.iload_n 3, 1) := by decide +kernel
theorem d_L_law_87 : decode code 87 = .ok (.iconst 1, 1) := by decide +kernel
theorem d_L_law_88 : decode code 88 = .ok (.iadd, 1) := by decide +kernel
theorem d_L_law_89 : decode code 89 = .ok (.iaload, 1) := by decide +kernel
theorem d_L_law_90 : decode code 90 = .ok (.aload_n 0, 1) := by decide +kernel
theorem d_L_law_91 : decode code 91 = .ok (.iload_n 3, 1) := by decide +kernel
theorem d_L_law_92 : decode code 92 = .ok (.iconst 2, 1) := by decide +kernel
theorem d_L_law_93 : decode code 93 = .ok (.iadd, 1) := by decide +kernel
theorem d_L_law_94 : decode code 94 = .ok (.iaload, 1) := by decide +kernel
theorem d_L_law_95 : decode code 95 = .ok (.aload_n 0, 1) := by decide +kernel
theorem d_L_law_96 : decode code 96 = .ok (.iload_n 3, 1) := by decide +kernel
theorem d_L_law_97 : decode code 97 = .ok (.iconst 3, 1) := by decide +kernel
theorem d_L_law_98 : decode code 98 = .ok (.iadd, 1) := by decide +kernel
theorem d_L_law_99 : decode code 99 = .ok (.iaload, 1) := by decide +kernel
theorem d_L_law_100 : decode code 100 = .ok (.aload_n 0, 1) := by decide +kernel
theorem d_L_law_101 : decode code 101 = .ok (.iload_n 3, 1) := by decide +kernel
theorem d_L_law_102 : decode code 102 = .ok (.iconst 4, 1) := by decide +kernel
theorem d_L_law_103 : decode code 103 = .ok (.iadd, 1) := by decide +kernel
theorem d_L_law_104 : decode code 104 = .ok (.iaload, 1) := by decide +kernel
theorem d_L_law_105 : decode code 105 = .ok (.aload_n 0, 1) := by decide +kernel
theorem d_L_law_106 : decode code 106 = .ok (.iload_n 3, 1) := by decide +kernel
theorem d_L_law_107 : decode code 107 = .ok (.iconst 5, 1) := by decide +kernel
theorem d_L_law_108 : decode code 108 = .ok (.iadd, 1) := by decide +kernel
theorem d_L_law_109 : decode code 109 = .ok (.iaload, 1) := by decide +kernel
theorem d_L_law_110 : decode code 110 = .ok (.invokevirtual 13, 3) := by decide +kernel
theorem d_L_law_113 : decode code 113 = .ok (.aload_n 2, 1) := by decide +kernel
theorem d_L_law_114 : decode code 114 = .ok (.aload_n 0, 1) := by decide +kernel
theorem d_L_law_115 : decode code 115 = .ok (.iload_n 3, 1) := by decide +kernel
theorem d_L_law_116 : decode code 116 = .ok (.iconst 1, 1) := by decide +kernel
theorem d_L_law_117 : decode code 117 = .ok (.iadd, 1) := by decide +kernel
theorem d_L_law_118 : decode code 118 = .ok (.iaload, 1) := by decide +kernel
theorem d_L_law_119 : decode code 119 = .ok (.aload_n 0, 1) := by decide +kernel
theorem d_L_law_120 : decode code 120 = .ok (.iload_n 3, 1) := by decide +kernel
theorem d_L_law_121 : decode code 121 = .ok (.iconst 2, 1) := by decide +kernel
theorem d_L_law_122 : decode code 122 = .ok (.iadd, 1) := by decide +kernel
theorem d_L_law_123 : decode code 123 = .ok (.iaload, 1) := by decide +kernel
theorem d_L_law_124 : decode code 124 = .ok (.aload_n 0, 1) := by decide +kernel
theorem d_L_law_125 : decode code 125 = .ok (.iload_n 3, 1) := by decide +kernel
theorem d_L_law_126 : decode code 126 = .ok (.iconst 3, 1) := by decide +kernel
theorem d_L_law_127 : decode code 127 = .ok (.iadd, 1) := by decide +kernel
theorem d_L_law_128 : decode code 128 = .ok (.iaload, 1) := by decide +kernel
theorem d_L_law_129 : decode code 129 = .ok (.aload_n 0, 1) := by decide +kernel
theorem d_L_law_130 : decode code 130 = .ok (.iload_n 3, 1) := by decide +kernel
theorem d_L_law_131 : decode code 131 = .ok (.iconst 4, 1) := by decide +kernel
theorem d_L_law_132 : decode code 132 = .ok (.iadd, 1) := by decide +kernel
theorem d_L_law_133 : decode code 133 = .ok (.iaload, 1) := by decide +kernel
theorem d_L_law_134 : decode code 134 = .ok (.aload_n 0, 1) := by decide +kernel
theorem d_L_law_135 : decode code 135 = .ok (.iload_n 3, 1) := by decide +kernel
theorem d_L_law_136 : decode code 136 = .ok (.iconst 5, 1) := by decide +kernel
theorem d_L_law_137 : decode code 137 = .ok (.iadd, 1) := by decide +kernel
theorem d_L_law_138 : decode code 138 = .ok (.iaload, 1) := by decide +kernel
theorem d_L_law_139 : decode code 139 = .ok (.invokevirtual 17, 3) := by decide +kernel
theorem d_L_law_142 : decode code 142 = .ok (.if_icmp .eq 159, 3) := by decide +kernel
theorem d_L_law_145 : decode code 145 = .ok (.iconst 0, 1) := by decide +kernel
theorem d_L_law_146 : decode code 146 = .ok (.ireturn, 1) := by decide +kernel
theorem d_L_law_147 : decode code 147 = .ok (.aload_n 1, 1) := by decide +kernel
theorem d_L_law_148 : decode code 148 = .ok (.aload_n 0, 1) := by decide +kernel
theorem d_L_law_149 : decode code 149 = .ok (.iload_n 3, 1) := by decide +kernel
theorem d_L_law_150 : decode code 150 = .ok (.iconst 1, 1) := by decide +kernel
theorem d_L_law_151 : decode code 151 = .ok (.iadd, 1) := by decide +kernel
theorem d_L_law_152 : decode code 152 = .ok (.iaload, 1) := by decide +kernel
theorem d_L_law_153 : decode code 153 = .ok (.invokevirtual 18, 3) := by decide +kernel
theorem d_L_law_156 : decode code 156 = .ok (.aload_n 2, 1) := by decide +kernel
theorem d_L_law_157 : decode code 157 = .ok (.aload_n 0, 1) := by decide +kernel
theorem d_L_law_158 : decode code 158 = .ok (.iload_n 3, 1) := by decide +kernel
theorem d_L_law_159 : decode code 159 = .ok (.iconst 1, 1) := by decide +kernel
theorem d_L_law_160 : decode code 160 = .ok (.iadd, 1) := by decide +kernel
theorem d_L_law_161 : decode code 161 = .ok (.iaload, 1) := by decide +kernel
theorem d_L_law_162 : decode code 162 = .ok (.invokevirtual 22, 3) := by decide +kernel
theorem d_L_law_165 : decode code 165 = .ok (.if_icmp .eq 136, 3) := by decide +kernel
theorem d_L_law_168 : decode code 168 = .ok (.iconst 0, 1) := by decide +kernel
theorem d_L_law_169 : decode code 169 = .ok (.ireturn, 1) := by decide +kernel
theorem d_L_law_170 : decode code 170 = .ok (.aload_n 1, 1) := by decide +kernel
theorem d_L_law_171 : decode code 171 = .ok (.invokevirtual 23, 3) := by decide +kernel
theorem d_L_law_174 : decode code 174 = .ok (.aload_n 2, 1) := by decide +kernel
theorem d_L_law_175 : decode code 175 = .ok (.invokevirtual 27, 3) := by decide +kernel
theorem d_L_law_178 : decode code 178 = .ok (.if_icmp .eq 123, 3) := by decide +kernel
theorem d_L_law_181 : decode code 181 = .ok (.iconst 0, 1) := by decide +kernel
theorem d_L_law_182 : decode code 182 = .ok (.ireturn, 1) := by decide +kernel
theorem d_L_law_183 : decode code 183 = .ok (.aload_n 1, 1) := by decide +kernel
theorem d_L_law_184 : decode code 184 = .ok (.invokevirtual 28, 3) := by decide +kernel
theorem d_L_law_187 : decode code 187 = .ok (.aload_n 2, 1) := by decide +kernel
theorem d_L_law_188 : decode code 188 = .ok (.invokevirtual 31, 3) := by decide +kernel
theorem d_L_law_191 : decode code 191 = .ok (.if_icmp .eq 110, 3) := by decide +kernel
theorem d_L_law_194 : decode code 194 = .ok (.iconst 0, 1) := by decide +kernel
theorem d_L_law_195 : decode code 195 = .ok (.ireturn, 1) := by decide +kernel
theorem d_L_law_196 : decode code 196 = .ok (.aload_n 1, 1) := by decide +kernel
theorem d_L_law_197 : decode code 197 = .ok (.invokevirtual 32, 3) := by decide +kernel
theorem d_L_law_200 : decode code 200 = .ok (.aload_n 2, 1) := by decide +kernel
theorem d_L_law_201 : decode code 201 = .ok (.invokevirtual 35, 3) := by decide +kernel
theorem d_L_law_204 : decode code 204 = .ok (.if_icmp .eq 97, 3) := by decide +kernel
theorem d_L_law_207 : decode code 207 = .ok (.iconst 0, 1) := by decide +kernel
theorem d_L_law_208 : decode code 208 = .ok (.ireturn, 1) := by decide +kernel
theorem d_L_law_209 : decode code 209 = .ok (.aload_n 1, 1) := by decide +kernel
theorem d_L_law_210 : decode code 210 = .ok (.aload_n 0, 1) := by decide +kernel
theorem d_L_law_211 : decode code 211 = .ok (.iload_n 3, 1) := by decide +kernel
theorem d_L_law_212 : decode code 212 = .ok (.iconst 1, 1) := by decide +kernel
theorem d_L_law_213 : decode code 213 = .ok (.iadd, 1) := by decide +kernel
theorem d_L_law_214 : decode code 214 = .ok (.iaload, 1) := by decide +kernel
theorem d_L_law_215 : decode code 215 = .ok (.invokevirtual 36, 3) := by decide +kernel
theorem d_L_law_218 : decode code 218 = .ok (.aload_n 2, 1) := by decide +kernel
theorem d_L_law_219 : decode code 219 = .ok (.aload_n 0, 1) := by decide +kernel
theorem d_L_law_220 : decode code 220 = .ok (.iload_n 3, 1) := by decide +kernel
theorem d_L_law_221 : decode code 221 = .ok (.iconst 1, 1) := by decide +kernel
theorem d_L_law_222 : decode code 222 = .ok (.iadd, 1) := by decide +kernel
theorem d_L_law_223 : decode code 223 = .ok (.iaload, 1) := by decide +kernel
theorem d_L_law_224 : decode code 224 = .ok (.invokevirtual 40, 3) := by decide +kernel
theorem d_L_law_227 : decode code 227 = .ok (.if_icmp .eq 74, 3) := by decide +kernel
theorem d_L_law_230 : decode code 230 = .ok (.iconst 0, 1) := by decide +kernel
theorem d_L_law_231 : decode code 231 = .ok (.ireturn, 1) := by decide +kernel
theorem d_L_law_232 : decode code 232 = .ok (.aload_n 1, 1) := by decide +kernel
theorem d_L_law_233 : decode code 233 = .ok (.aload_n 0, 1) := by decide +kernel
theorem d_L_law_234 : decode code 234 = .ok (.iload_n 3, 1) := by decide +kernel
theorem d_L_law_235 : decode code 235 = .ok (.iconst 1, 1) := by decide +kernel
theorem d_L_law_236 : decode code 236 = .ok (.iadd, 1) := by decide +kernel
theorem d_L_law_237 : decode code 237 = .ok (.iaload, 1) := by decide +kernel
theorem d_L_law_238 : decode code 238 = .ok (.aload_n 0, 1) := by decide +kernel
theorem d_L_law_239 : decode code 239 = .ok (.iload_n 3, 1) := by decide +kernel
theorem d_L_law_240 : decode code 240 = .ok (.iconst 2, 1) := by decide +kernel
theorem d_L_law_241 : decode code 241 = .ok (.iadd, 1) := by decide +kernel
theorem d_L_law_242 : decode code 242 = .ok (.iaload, 1) := by decide +kernel
theorem d_L_law_243 : decode code 243 = .ok (.invokevirtual 41, 3) := by decide +kernel
theorem d_L_law_246 : decode code 246 = .ok (.aload_n 2, 1) := by decide +kernel
theorem d_L_law_247 : decode code 247 = .ok (.aload_n 0, 1) := by decide +kernel
theorem d_L_law_248 : decode code 248 = .ok (.iload_n 3, 1) := by decide +kernel
theorem d_L_law_249 : decode code 249 = .ok (.iconst 1, 1) := by decide +kernel
theorem d_L_law_250 : decode code 250 = .ok (.iadd, 1) := by decide +kernel
theorem d_L_law_251 : decode code 251 = .ok (.iaload, 1) := by decide +kernel
theorem d_L_law_252 : decode code 252 = .ok (.aload_n 0, 1) := by decide +kernel
theorem d_L_law_253 : decode code 253 = .ok (.iload_n 3, 1) := by decide +kernel
theorem d_L_law_254 : decode code 254 = .ok (.iconst 2, 1) := by decide +kernel
theorem d_L_law_255 : decode code 255 = .ok (.iadd, 1) := by decide +kernel
theorem d_L_law_256 : decode code 256 = .ok (.iaload, 1) := by decide +kernel
theorem d_L_law_257 : decode code 257 = .ok (.invokevirtual 45, 3) := by decide +kernel
theorem d_L_law_260 : decode code 260 = .ok (.if_icmp .eq 41, 3) := by decide +kernel
theorem d_L_law_263 : decode code 263 = .ok (.iconst 0, 1) := by decide +kernel
theorem d_L_law_264 : decode code 264 = .ok (.ireturn, 1) := by decide +kernel
theorem d_L_law_265 : decode code 265 = .ok (.aload_n 1, 1) := by decide +kernel
theorem d_L_law_266 : decode code 266 = .ok (.aload_n 0, 1) := by decide +kernel
theorem d_L_law_267 : decode code 267 = .ok (.iload_n 3, 1) := by decide +kernel
theorem d_L_law_268 : decode code 268 = .ok (.iconst 1, 1) := by decide +kernel
theorem d_L_law_269 : decode code 269 = .ok (.iadd, 1) := by decide +kernel
theorem d_L_law_270 : decode code 270 = .ok (.iaload, 1) := by decide +kernel
theorem d_L_law_271 : decode code 271 = .ok (.invokevirtual 46, 3) := by decide +kernel
theorem d_L_law_274 : decode code 274 = .ok (.aload_n 2, 1) := by decide +kernel
theorem d_L_law_275 : decode code 275 = .ok (.aload_n 0, 1) := by decide +kernel
theorem d_L_law_276 : decode code 276 = .ok (.iload_n 3, 1) := by decide +kernel
theorem d_L_law_277 : decode code 277 = .ok (.iconst 1, 1) := by decide +kernel
theorem d_L_law_278 : decode code 278 = .ok (.iadd, 1) := by decide +kernel
theorem d_L_law_279 : decode code 279 = .ok (.iaload, 1) := by decide +kernel
theorem d_L_law_280 : decode code 280 = .ok (.invokevirtual 49, 3) := by decide +kernel
theorem d_L_law_283 : decode code 283 = .ok (.if_icmp .eq 18, 3) := by decide +kernel
theorem d_L_law_286 : decode code 286 = .ok (.iconst 0, 1) := by decide +kernel
theorem d_L_law_287 : decode code 287 = .ok (.ireturn, 1) := by decide +kernel
theorem d_L_law_288 : decode code 288 = .ok (.aload_n 1, 1) := by decide +kernel
theorem d_L_law_289 : decode code 289 = .ok (.invokevirtual 50, 3) := by decide +kernel
theorem d_L_law_292 : decode code 292 = .ok (.aload_n 2, 1) := by decide +kernel
theorem d_L_law_293 : decode code 293 = .ok (.invokevirtual 53, 3) := by decide +kernel
theorem d_L_law_296 : decode code 296 = .ok (.if_icmp .eq 5, 3) := by decide +kernel
theorem d_L_law_299 : decode code 299 = .ok (.iconst 0, 1) := by decide +kernel
theorem d_L_law_300 : decode code 300 = .ok (.ireturn, 1) := by decide +kernel
theorem d_L_law_301 : decode code 301 = .ok (.iinc 3 6, 3) := by decide +kernel
theorem d_L_law_304 : decode code 304 = .ok (.goto (-286), 3) := by decide +kernel
theorem d_L_law_307 : decode code 307 = .ok (.iconst 1, 1) := by decide +kernel
theorem d_L_law_308 : decode code 308 = .ok (.ireturn, 1) := by decide +kernel
end
section
/-! the judgement V: the machine at a frame, with the heap behind a world ws and the locals behind a list lv -/
def lh (ls : Array Slot) (nL : Nat) (L : List (Option Value)) : Prop := L.length = nL ∧ ∃ l, lv_has ls nL l ∧ (∀ i v, L[i]? = some (some v) → (i, v) ∈ l) ∧ ∀ q ∈ l, q.2.category = 1
theorem lh_at {ls : Array Slot} {nL : Nat} {L : List (Option Value)} (h : lh ls nL L) {i : Nat} {v : Value} (hi : L[i]? = some (some v)) : ls[i]? = some (.val v) := by
  obtain ⟨-, l, h1, h2, -⟩ := h
  exact h1.2.2 (i, v) (h2 i v hi)
theorem lh_size {ls : Array Slot} {nL : Nat} {L : List (Option Value)} (h : lh ls nL L) : ls.size = nL := by
  obtain ⟨-, l, h1, -, -⟩ := h
  exact h1.1
theorem lh_put {ls' : Array Slot} {nL i : Nat} {v : Value} {L : List (Option Value)} {l : List (Nat × Value)} (hL : L.length = nL) (h2 : ∀ i v, L[i]? = some (some v) → (i, v) ∈ l) (h3 : ∀ q ∈ l, q.2.category = 1) (hv : v.category = 1) (h : lv_has ls' nL ((i, v) :: l.filter (fun q => !(q.1 == i) && !(q.1 + 1 == i && q.2.category == 2)))) : lh ls' nL (L.set i (some v)) := by
  refine ⟨by rw [List.length_set]; exact hL, _, h, ?_, ?_⟩
  · intro j w hj
    by_cases e : j = i
    · subst e
      rw [List.getElem?_set] at hj
      simp only [if_true] at hj
      split at hj
      · cases hj; exact List.mem_cons_self
      · cases hj
    · rw [List.getElem?_set_ne (Ne.symm e)] at hj
      have hm := h2 j w hj
      refine List.mem_cons_of_mem _ (List.mem_filter.mpr ⟨hm, ?_⟩)
      have hc := h3 _ hm
      simp only [hc]
      simp [e]
  · intro q hq
    rcases List.mem_cons.mp hq with rfl | hq
    · exact hv
    · exact h3 q (List.mem_filter.mp hq).1
theorem lv_args_mem : ∀ (as : List Value) (k : Nat), (∀ v ∈ as, v.category = 1) → ∀ (i : Nat) (v : Value), as[i]? = some v → (k + i, v) ∈ lv_args k as := by
  intro as
  induction as with
  | nil => intro k _ i v h; simp at h
  | cons a t ih =>
    intro k hc i v h
    have ha : a.category = 1 := hc a List.mem_cons_self
    rw [lv_args, ha]
    cases i with
    | zero => simp at h; subst h; exact List.mem_cons_self
    | succ i =>
      simp at h
      refine List.mem_cons_of_mem _ ?_
      have := ih (k + 1) (fun v hv => hc v (List.mem_cons_of_mem _ hv)) i v h
      rw [show k + (i + 1) = k + 1 + i by omega]
      simpa using this
theorem lv_args_cat : ∀ (as : List Value) (k : Nat), (∀ v ∈ as, v.category = 1) → ∀ q ∈ lv_args k as, q.2.category = 1 := by
  intro as
  induction as with
  | nil => intro k _ q h; simp [lv_args] at h
  | cons a t ih =>
    intro k hc q h
    rw [lv_args] at h
    rcases List.mem_cons.mp h with rfl | h
    · exact hc a List.mem_cons_self
    · exact ih _ (fun v hv => hc v (List.mem_cons_of_mem _ hv)) q h
theorem lg_sl_len : ∀ as : List Value, (∀ v ∈ as, v.category = 1) → (lg_sl as).length = as.length := by
  intro as
  induction as with
  | nil => intro _; rfl
  | cons a t ih =>
    intro hc
    have ha : a.category = 1 := hc a List.mem_cons_self
    have e : lg_sl (a :: t) = (if a.category = 2 then [.val a, .second] else [.val a]) ++ lg_sl t := by simp [lg_sl]
    rw [e, ha]
    simp [ih (fun v hv => hc v (List.mem_cons_of_mem _ hv))]
abbrev lvE (as : List Value) (ml : Nat) : List (Option Value) := as.map some ++ List.replicate (ml - as.length) none
theorem lh_entry {as : List Value} {ml : Nat} (hc : ∀ v ∈ as, v.category = 1) (hl : as.length ≤ ml) : lh ((lg_sl as ++ List.replicate (ml - (lg_sl as).length) Slot.unset).toArray) ml (lvE as ml) := by
  refine ⟨by simp [lvE]; omega, lv_args 0 as, lv_entry as (n := ml) (by rw [lg_sl_len as hc]; exact hl), ?_, lv_args_cat as 0 hc⟩
  intro i v h
  have hi : i < as.length := by
    rcases Nat.lt_or_ge i as.length with q | q
    · exact q
    · rw [lvE, List.getElem?_append_right (by simpa using q)] at h
      have := List.getElem?_eq_some_iff.mp h
      obtain ⟨a1, a2⟩ := this
      simp at a2
  rw [lvE, List.getElem?_append_left (by simpa using hi), List.getElem?_map] at h
  have := lv_args_mem as 0 hc i v (by
    cases e : as[i]? with
    | none => rw [e] at h; cases h
    | some w => rw [e] at h; cases h; rfl)
  simpa using this
/-- what is known of the five constant texts, and the nest word -/
def hsh (k : Nat) : Int32 := match k with
  | 0 => 94851343
  | 1 => -1326217028
  | 2 => -1106363674
  | 3 => -1298752217
  | _ => 3321844
def SX (ad : Nat → Nat) (A : Nat → Prop) (U : State) (H : Heap) : Prop :=
  (vk_R "RequestCutter$Cutter" 34 "count" (ad 0) U ∧ vk_R "RequestCutter$Cutter" 40 "dollar" (ad 1) U ∧ vk_R "RequestCutter$Cutter" 42 "length" (ad 2) U ∧ vk_R "RequestCutter$Cutter" 44 "ending" (ad 3) U ∧ vk_R "RequestCutter$Cutter" 52 "line" (ad 4) U) ∧
  (vk_R "RequestCutter" 59 "count" (ad 0) U ∧ vk_R "RequestCutter" 65 "dollar" (ad 1) U ∧ vk_R "RequestCutter" 67 "length" (ad 2) U ∧ vk_R "RequestCutter" 68 "ending" (ad 3) U) ∧
  va_Nw (.methodLinkNest "RequestCutter" 19 y_C_init "RequestCutter") U ∧
  ∀ k, k < 5 → va_O "java/lang/String" (ad k) A U H ∧ va_OF "java/lang/String" "hash" "I" (.int (hsh k)) (ad k) A U H
theorem SX.same {ad : Nat → Nat} {A : Nat → Prop} {u U : State} {H : Heap} (hv : U.vm = u.vm) (h : SX ad A u H) : SX ad A U H := by
  obtain ⟨⟨a1, a2, a3, a4, a5⟩, ⟨b1, b2, b3, b4⟩, c, d⟩ := h
  have al : u.vm.Alike U.vm := by rw [hv]; exact Vm.Alike.refl _
  exact ⟨⟨a1.same hv, a2.same hv, a3.same hv, a4.same hv, a5.same hv⟩, ⟨b1.same hv, b2.same hv, b3.same hv, b4.same hv⟩, va_Nw.same rfl hv.symm c, fun k hk => ⟨(d k hk).1.moved al, (d k hk).2.moved al⟩⟩
theorem SX.to {ad : Nat → Nat} {A B : Nat → Prop} {s U : State} {H : Heap} (h : SX ad A s s.heap) (hW : s.WarmedH U.vm) (hk : ∀ a : Nat, a < s.heap.size → ¬ A a → H[a]? = s.heap[a]?) (hAB : ∀ q, B q → A q) : SX ad B U H := by
  obtain ⟨⟨a1, a2, a3, a4, a5⟩, ⟨b1, b2, b3, b4⟩, c, d⟩ := h
  exact ⟨⟨a1.warm hW, a2.warm hW, a3.warm hW, a4.warm hW, a5.warm hW⟩, ⟨b1.warm hW, b2.warm hW, b3.warm hW, b4.warm hW⟩, va_Nw.warmM hW c, fun k h5 => ⟨(((d k h5).1.kept hk).narrow hAB).moved hW.alike, (((d k h5).2.kept hk).narrow hAB).moved hW.alike⟩⟩
abbrev Ev := Program × Launch × Env × Room × State × MethodId × Array Value × List Frame × Method × Code × (State → Prop) × va_G × (Nat → Prop) × Nat
def V : Ev → Nat → Nat → va_W → Nat → List (Option Value) → List Value → Prop := fun (p, l, e, R, s, m, args, below, meth, c, Q, D, A, nL) k n ws pc lv st =>
  ∀ (H : Heap) (locs : List Loc) (ls : Array Slot), va_P D kl ws H → va_D A ws → va_S A s.heap H locs → lh ls nL lv → W p l e R s m args below meth c H locs k n Q (F0 m pc ls st)
def Cx : Ev → ByteArray → String → Room → ClassId → ClassId → (Nat → Nat) → Prop := fun (p, l, e, R, s, m, args, below, meth, c, Q, D, A, nL) cc own rm cB cI ad =>
  p.tables.exec = Jvm.exec ∧ c.code = cc ∧ c.maxLocals = nL ∧ s.vm.findClass own = some m.cls ∧ (∀ w ∈ gd_tbl, w.before args s = true) ∧ va_K D kl [(cB, .byte), (cI, .int)] s ∧ SX ad A s s.heap ∧ (∀ q, s.heap.size ≤ q → A q) ∧ R = rm
def RetI {S : Type} : Ev → (Int32 → S → Prop) → (S → va_W) → Nat → Nat → FieldType → Prop := fun (p, l, e, R, s, m, args, below, meth, c, Q, D, A, nL) post wf k n ty =>
  Q = MQ below (va_Qi post (fun u t => va_P D kl (wf u) t.heap ∧ va_D A (wf u)) A) args s k n A ∧ meth.sig.returnType = some ty ∧ meth.locks = false
def RetV {S : Type} : Ev → (S → Prop) → (S → va_W) → Nat → Nat → Prop := fun (p, l, e, R, s, m, args, below, meth, c, Q, D, A, nL) post wf k n =>
  Q = MQ below (va_Qv post (fun u t => va_P D kl (wf u) t.heap ∧ va_D A (wf u)) A) args s k n A ∧ meth.sig.returnType = none ∧ meth.locks = false ∧ (meth.name = "<init>" ∨ True)
def InI : Ev → Prop := fun (p, l, e, R, s, m, args, below, meth, c, Q, D, A, nL) => meth.name = "<init>"
def CtI {S : Type} (l : Launch) (y : MethodName) (bt : ByteArray) (ml : Nat) (ty : FieldType) (rm : Room) (D : va_G) (cB cI : ClassId) (ad : Nat → Nat) (as : List Value) (ws : va_W) (post : Int32 → S → Prop) (wf : S → va_W) (mc ms : Nat) : Prop :=
  ∀ sz, Met l y (.code y bt ml (some ty) :: gd_tbl) rm (va_Pc as (fun U => U.heap.size = sz ∧ va_P D kl ws U.heap ∧ va_K D kl [(cB, .byte), (cI, .int)] U ∧ va_D (fun _ => True) ws ∧ SX ad (va_A ws sz) U U.heap)) (va_Qi post (fun u t => va_P D kl (wf u) t.heap ∧ va_D (va_A ws sz) (wf u)) (va_A ws sz)) mc ms (va_A ws sz)
def CtV {S : Type} (l : Launch) (y : MethodName) (bt : ByteArray) (ml : Nat) (rm : Room) (D : va_G) (cB cI : ClassId) (ad : Nat → Nat) (as : List Value) (ws : va_W) (post : S → Prop) (wf : S → va_W) (mc ms : Nat) : Prop :=
  ∀ sz, Met l y (.code y bt ml none :: gd_tbl) rm (va_Pc as (fun U => U.heap.size = sz ∧ va_P D kl ws U.heap ∧ va_K D kl [(cB, .byte), (cI, .int)] U ∧ va_D (fun _ => True) ws ∧ SX ad (va_A ws sz) U U.heap)) (va_Qv post (fun u t => va_P D kl (wf u) t.heap ∧ va_D (va_A ws sz) (wf u)) (va_A ws sz)) mc ms (va_A ws sz)
theorem CtI.mk {S : Type} {l : Launch} {y : MethodName} {bt : ByteArray} {ml : Nat} {ty : FieldType} {rm : Room} {D : va_G} {cB cI : ClassId} {ad : Nat → Nat} {as : List Value} {ws : va_W} {post : Int32 → S → Prop} {wf : S → va_W} {mc ms : Nat} {own : String} (hy : plainName y.cls = true) (ho : y.cls = own) (hc : ∀ v ∈ as, v.category = 1) (hln : as.length ≤ ml)
    (body : ∀ E : Ev, Cx E bt own rm cB cI ad → RetI E post wf mc ms ty → V E 0 0 ws 0 (lvE as ml) []) : CtI l y bt ml ty rm D cB cI ad as ws post wf mc ms := by
  intro sz
  refine Met.ofW (cc := bt) (maxL := ml) (ret := some ty) hy rfl ?_
  intro p e s m args below meth c s₁ B hml hv
  obtain ⟨rfl, hsz, hP, hK, hD0, hX⟩ := hv
  subst hsz
  have hts := atoms_spec (ws := .code y bt ml (some ty) :: gd_tbl) B.pre
  rw [lg_entry_eq]
  exact body (p, l, e, rm, s, m, as.toArray, below, meth, c, _, D, va_A ws s.heap.size, ml) ⟨B.exec, B.bytes, hml, by rw [← ho]; exact findClass_of_methodNamed B.named, fun w hw => hts w (List.mem_cons_of_mem _ hw), hK, hX, fun q h => Or.inr h, rfl⟩ ⟨rfl, B.returns, B.notSynchronized⟩ s.heap [] _ hP hD0.self va_S.rf (lh_entry hc hln)
theorem CtV.mk {S : Type} {l : Launch} {y : MethodName} {bt : ByteArray} {ml : Nat} {rm : Room} {D : va_G} {cB cI : ClassId} {ad : Nat → Nat} {as : List Value} {ws : va_W} {post : S → Prop} {wf : S → va_W} {mc ms : Nat} {own : String} (hy : plainName y.cls = true) (ho : y.cls = own) (hc : ∀ v ∈ as, v.category = 1) (hln : as.length ≤ ml)
    (body : ∀ E : Ev, Cx E bt own rm cB cI ad → RetV E post wf mc ms → (y.name = "<init>" → InI E) → V E 0 0 ws 0 (lvE as ml) []) : CtV l y bt ml rm D cB cI ad as ws post wf mc ms := by
  intro sz
  refine Met.ofW (cc := bt) (maxL := ml) (ret := none) hy rfl ?_
  intro p e s m args below meth c s₁ B hml hv
  obtain ⟨rfl, hsz, hP, hK, hD0, hX⟩ := hv
  subst hsz
  have hts := atoms_spec (ws := .code y bt ml none :: gd_tbl) B.pre
  rw [lg_entry_eq]
  exact body (p, l, e, rm, s, m, as.toArray, below, meth, c, _, D, va_A ws s.heap.size, ml) ⟨B.exec, B.bytes, hml, by rw [← ho]; exact findClass_of_methodNamed B.named, fun w hw => hts w (List.mem_cons_of_mem _ hw), hK, hX, fun q h => Or.inr h, rfl⟩ ⟨rfl, B.returns, B.notSynchronized, Or.inr trivial⟩ (fun hn => (name_of_methodNamed B.named B.method).1.trans hn) s.heap [] _ hP hD0.self va_S.rf (lh_entry hc hln)
abbrev r1 : Room := { frames := 6, cells := 0, slots := 0, locals := 196 }
abbrev r2 : Room := { frames := 5, cells := 0, slots := 0, locals := 166 }
abbrev r3 : Room := { frames := 4, cells := 0, slots := 0, locals := 138 }
abbrev r4 : Room := { frames := 3, cells := 0, slots := 0, locals := 110 }
end
section
section VR
variable {E : Ev} {cc : ByteArray} {own : String} {rm : Room} {cB cI : ClassId} {ad : Nat → Nat} {k n pc : Nat} {ws : va_W} {lv lv' : List (Option Value)} {st : List Value}
theorem v_iconst {j : Int} {v : Int32} (h : Cx E cc own rm cB cI ad) (hd : decode cc pc = .ok (.iconst j, 1)) (hv : Int32.ofInt j = v) (kk : V E k n ws (pc + 1) lv (.int v :: st)) : V E k n ws pc lv st := by
  obtain ⟨p, l, e, R, s, m, args, below, meth, c, Q, D, A, nL⟩ := E
  obtain ⟨hx, hb, hml, hown, hts, hK, hX, hA, hR⟩ := h
  intro H locs ls hP hD hS hl
  exact lv_iconst hx hb hd hv (kk H locs ls hP hD hS hl)
theorem v_bipush {j : Int} {v : Int32} (h : Cx E cc own rm cB cI ad) (hd : decode cc pc = .ok (.bipush j, 2)) (hv : (Int8.ofInt j).toInt32 = v) (kk : V E k n ws (pc + 2) lv (.int v :: st)) : V E k n ws pc lv st := by
  obtain ⟨p, l, e, R, s, m, args, below, meth, c, Q, D, A, nL⟩ := E
  obtain ⟨hx, hb, hml, hown, hts, hK, hX, hA, hR⟩ := h
  intro H locs ls hP hD hS hl
  exact lv_bipush hx hb hd hv (kk H locs ls hP hD hS hl)
theorem v_sipush {j : Int} {v : Int32} (h : Cx E cc own rm cB cI ad) (hd : decode cc pc = .ok (.sipush j, 3)) (hv : (Int16.ofInt j).toInt32 = v) (kk : V E k n ws (pc + 3) lv (.int v :: st)) : V E k n ws pc lv st := by
  obtain ⟨p, l, e, R, s, m, args, below, meth, c, Q, D, A, nL⟩ := E
  obtain ⟨hx, hb, hml, hown, hts, hK, hX, hA, hR⟩ := h
  intro H locs ls hP hD hS hl
  exact lv_sipush hx hb hd hv (kk H locs ls hP hD hS hl)
theorem v_ldc {j : Nat} {v v2 : Int32} (h : Cx E cc own rm cB cI ad) (hd : decode cc pc = .ok (.ldc j, 2)) (hw : Cond.constant own j v2 ∈ gd_tbl) (hv : v2 = v) (kk : V E k n ws (pc + 2) lv (.int v :: st)) : V E k n ws pc lv st := by
  obtain ⟨p, l, e, R, s, m, args, below, meth, c, Q, D, A, nL⟩ := E
  obtain ⟨hx, hb, hml, hown, hts, hK, hX, hA, hR⟩ := h
  intro H locs ls hP hD hS hl
  exact lv_ldc hx hb hown (hts _ (by rw [← hv]; exact hw)) hd (kk H locs ls hP hD hS hl)
theorem v_null (h : Cx E cc own rm cB cI ad) (hd : decode cc pc = .ok (.aconst_null, 1)) (kk : V E k n ws (pc + 1) lv (.null :: st)) : V E k n ws pc lv st := by
  obtain ⟨p, l, e, R, s, m, args, below, meth, c, Q, D, A, nL⟩ := E
  obtain ⟨hx, hb, hml, hown, hts, hK, hX, hA, hR⟩ := h
  intro H locs ls hP hD hS hl
  exact lv_null hx hb hd (kk H locs ls hP hD hS hl)
theorem v_iload_n {i : Fin 4} {x : Int32} (h : Cx E cc own rm cB cI ad) (hd : decode cc pc = .ok (.iload_n i, 1)) (hi : lv[(i : Nat)]? = some (some (.int x))) (kk : V E k n ws (pc + 1) lv (.int x :: st)) : V E k n ws pc lv st := by
  obtain ⟨p, l, e, R, s, m, args, below, meth, c, Q, D, A, nL⟩ := E
  obtain ⟨hx, hb, hml, hown, hts, hK, hX, hA, hR⟩ := h
  intro H locs ls hP hD hS hl
  exact lv_iload_n hx hb hd rfl (lh_at hl hi) (kk H locs ls hP hD hS hl)
theorem v_iload {i : Nat} {x : Int32} (h : Cx E cc own rm cB cI ad) (hd : decode cc pc = .ok (.iload i, 2)) (hi : lv[i]? = some (some (.int x))) (kk : V E k n ws (pc + 2) lv (.int x :: st)) : V E k n ws pc lv st := by
  obtain ⟨p, l, e, R, s, m, args, below, meth, c, Q, D, A, nL⟩ := E
  obtain ⟨hx, hb, hml, hown, hts, hK, hX, hA, hR⟩ := h
  intro H locs ls hP hD hS hl
  exact lv_iload hx hb hd (lh_at hl hi) (kk H locs ls hP hD hS hl)
theorem v_aload_n {i : Fin 4} {x : Nat} (h : Cx E cc own rm cB cI ad) (hd : decode cc pc = .ok (.aload_n i, 1)) (hi : lv[(i : Nat)]? = some (some (.ref x))) (kk : V E k n ws (pc + 1) lv (.ref x :: st)) : V E k n ws pc lv st := by
  obtain ⟨p, l, e, R, s, m, args, below, meth, c, Q, D, A, nL⟩ := E
  obtain ⟨hx, hb, hml, hown, hts, hK, hX, hA, hR⟩ := h
  intro H locs ls hP hD hS hl
  exact lv_aload_n hx hb hd rfl (lh_at hl hi) (kk H locs ls hP hD hS hl)
theorem v_aload {i : Nat} {x : Nat} (h : Cx E cc own rm cB cI ad) (hd : decode cc pc = .ok (.aload i, 2)) (hi : lv[i]? = some (some (.ref x))) (kk : V E k n ws (pc + 2) lv (.ref x :: st)) : V E k n ws pc lv st := by
  obtain ⟨p, l, e, R, s, m, args, below, meth, c, Q, D, A, nL⟩ := E
  obtain ⟨hx, hb, hml, hown, hts, hK, hX, hA, hR⟩ := h
  intro H locs ls hP hD hS hl
  exact lv_aload hx hb hd (lh_at hl hi) (kk H locs ls hP hD hS hl)
theorem v_istore_n {i : Fin 4} {x : Int32} (h : Cx E cc own rm cB cI ad) (hd : decode cc pc = .ok (.istore_n i, 1)) (hi : (i : Nat) < lv.length) (hs : lv.set (i : Nat) (some (.int x)) = lv') (kk : V E k n ws (pc + 1) lv' st) : V E k n ws pc lv (.int x :: st) := by
  obtain ⟨p, l, e, R, s, m, args, below, meth, c, Q, D, A, nL⟩ := E
  obtain ⟨hx, hb, hml, hown, hts, hK, hX, hA, hR⟩ := h
  intro H locs ls hP hD hS hl
  subst hs
  obtain ⟨hL, l0, h1, h2, h3⟩ := hl
  exact lv_istore_n hx hb hd rfl h1 (by rw [← hL]; exact hi) rfl (fun ls' hl' => kk H locs ls' hP hD hS (lh_put hL h2 h3 rfl hl'))
theorem v_istore {i : Nat} {x : Int32} (h : Cx E cc own rm cB cI ad) (hd : decode cc pc = .ok (.istore i, 2)) (hi : i < lv.length) (hs : lv.set i (some (.int x)) = lv') (kk : V E k n ws (pc + 2) lv' st) : V E k n ws pc lv (.int x :: st) := by
  obtain ⟨p, l, e, R, s, m, args, below, meth, c, Q, D, A, nL⟩ := E
  obtain ⟨hx, hb, hml, hown, hts, hK, hX, hA, hR⟩ := h
  intro H locs ls hP hD hS hl
  subst hs
  obtain ⟨hL, l0, h1, h2, h3⟩ := hl
  exact lv_istore hx hb hd h1 (by rw [← hL]; exact hi) rfl (fun ls' hl' => kk H locs ls' hP hD hS (lh_put hL h2 h3 rfl hl'))
theorem v_astore_n {i : Fin 4} {x : Nat} (h : Cx E cc own rm cB cI ad) (hd : decode cc pc = .ok (.astore_n i, 1)) (hi : (i : Nat) < lv.length) (hs : lv.set (i : Nat) (some (.ref x)) = lv') (kk : V E k n ws (pc + 1) lv' st) : V E k n ws pc lv (.ref x :: st) := by
  obtain ⟨p, l, e, R, s, m, args, below, meth, c, Q, D, A, nL⟩ := E
  obtain ⟨hx, hb, hml, hown, hts, hK, hX, hA, hR⟩ := h
  intro H locs ls hP hD hS hl
  subst hs
  obtain ⟨hL, l0, h1, h2, h3⟩ := hl
  exact lv_astore_n hx hb hd rfl h1 (by rw [← hL]; exact hi) rfl (fun ls' hl' => kk H locs ls' hP hD hS (lh_put hL h2 h3 rfl hl'))
theorem v_astore {i : Nat} {x : Nat} (h : Cx E cc own rm cB cI ad) (hd : decode cc pc = .ok (.astore i, 2)) (hi : i < lv.length) (hs : lv.set i (some (.ref x)) = lv') (kk : V E k n ws (pc + 2) lv' st) : V E k n ws pc lv (.ref x :: st) := by
  obtain ⟨p, l, e, R, s, m, args, below, meth, c, Q, D, A, nL⟩ := E
  obtain ⟨hx, hb, hml, hown, hts, hK, hX, hA, hR⟩ := h
  intro H locs ls hP hD hS hl
  subst hs
  obtain ⟨hL, l0, h1, h2, h3⟩ := hl
  exact lv_astore hx hb hd h1 (by rw [← hL]; exact hi) rfl (fun ls' hl' => kk H locs ls' hP hD hS (lh_put hL h2 h3 rfl hl'))
theorem v_iinc {i : Nat} {j : Int} {x v : Int32} (h : Cx E cc own rm cB cI ad) (hd : decode cc pc = .ok (.iinc i j, 3)) (hi : lv[i]? = some (some (.int x))) (hv : x + Int32.ofInt j = v) (hs : lv.set i (some (.int v)) = lv') (kk : V E k n ws (pc + 3) lv' st) : V E k n ws pc lv st := by
  obtain ⟨p, l, e, R, s, m, args, below, meth, c, Q, D, A, nL⟩ := E
  obtain ⟨hx, hb, hml, hown, hts, hK, hX, hA, hR⟩ := h
  intro H locs ls hP hD hS hl
  subst hs
  obtain ⟨hL, l0, h1, h2, h3⟩ := hl
  obtain ⟨q, hq⟩ := List.getElem?_of_mem (h2 i _ hi)
  exact lv_iinc hx hb hd h1 hq hv (by rw [← hL]; exact (List.getElem?_eq_some_iff.mp hi).1) rfl (fun ls' hl' => kk H locs ls' hP hD hS (lh_put hL h2 h3 rfl hl'))
theorem v_iadd {x y : Int32} (h : Cx E cc own rm cB cI ad) (hd : decode cc pc = .ok (.iadd, 1)) (kk : V E k n ws (pc + 1) lv (.int (x + y) :: st)) : V E k n ws pc lv (.int y :: .int x :: st) := by
  obtain ⟨p, l, e, R, s, m, args, below, meth, c, Q, D, A, nL⟩ := E
  obtain ⟨hx, hb, hml, hown, hts, hK, hX, hA, hR⟩ := h
  intro H locs ls hP hD hS hl
  exact lv_iadd hx hb hd (kk H locs ls hP hD hS hl)
theorem v_isub {x y : Int32} (h : Cx E cc own rm cB cI ad) (hd : decode cc pc = .ok (.isub, 1)) (kk : V E k n ws (pc + 1) lv (.int (x - y) :: st)) : V E k n ws pc lv (.int y :: .int x :: st) := by
  obtain ⟨p, l, e, R, s, m, args, below, meth, c, Q, D, A, nL⟩ := E
  obtain ⟨hx, hb, hml, hown, hts, hK, hX, hA, hR⟩ := h
  intro H locs ls hP hD hS hl
  exact lv_isub hx hb hd (kk H locs ls hP hD hS hl)
theorem v_imul {x y : Int32} (h : Cx E cc own rm cB cI ad) (hd : decode cc pc = .ok (.imul, 1)) (kk : V E k n ws (pc + 1) lv (.int (x * y) :: st)) : V E k n ws pc lv (.int y :: .int x :: st) := by
  obtain ⟨p, l, e, R, s, m, args, below, meth, c, Q, D, A, nL⟩ := E
  obtain ⟨hx, hb, hml, hown, hts, hK, hX, hA, hR⟩ := h
  intro H locs ls hP hD hS hl
  exact lv_imul hx hb hd (kk H locs ls hP hD hS hl)
theorem v_iand {x y : Int32} (h : Cx E cc own rm cB cI ad) (hd : decode cc pc = .ok (.iand, 1)) (kk : V E k n ws (pc + 1) lv (.int (x &&& y) :: st)) : V E k n ws pc lv (.int y :: .int x :: st) := by
  obtain ⟨p, l, e, R, s, m, args, below, meth, c, Q, D, A, nL⟩ := E
  obtain ⟨hx, hb, hml, hown, hts, hK, hX, hA, hR⟩ := h
  intro H locs ls hP hD hS hl
  exact lv_iand hx hb hd (kk H locs ls hP hD hS hl)
theorem v_ishr {x y : Int32} (h : Cx E cc own rm cB cI ad) (hd : decode cc pc = .ok (.ishr, 1)) (kk : V E k n ws (pc + 1) lv (.int (x >>> (y &&& 31)) :: st)) : V E k n ws pc lv (.int y :: .int x :: st) := by
  obtain ⟨p, l, e, R, s, m, args, below, meth, c, Q, D, A, nL⟩ := E
  obtain ⟨hx, hb, hml, hown, hts, hK, hX, hA, hR⟩ := h
  intro H locs ls hP hD hS hl
  exact lv_ishr hx hb hd (kk H locs ls hP hD hS hl)
theorem v_irem {x y : Int32} (h : Cx E cc own rm cB cI ad) (hd : decode cc pc = .ok (.irem, 1)) (hne : ¬ y = 0) (kk : V E k n ws (pc + 1) lv (.int (x - x / y * y) :: st)) : V E k n ws pc lv (.int y :: .int x :: st) := by
  obtain ⟨p, l, e, R, s, m, args, below, meth, c, Q, D, A, nL⟩ := E
  obtain ⟨hx, hb, hml, hown, hts, hK, hX, hA, hR⟩ := h
  intro H locs ls hP hD hS hl
  exact lv_irem hx hb hd hne (kk H locs ls hP hD hS hl)
theorem v_ineg {x : Int32} (h : Cx E cc own rm cB cI ad) (hd : decode cc pc = .ok (.ineg, 1)) (kk : V E k n ws (pc + 1) lv (.int (-x) :: st)) : V E k n ws pc lv (.int x :: st) := by
  obtain ⟨p, l, e, R, s, m, args, below, meth, c, Q, D, A, nL⟩ := E
  obtain ⟨hx, hb, hml, hown, hts, hK, hX, hA, hR⟩ := h
  intro H locs ls hP hD hS hl
  exact lv_ineg hx hb hd (kk H locs ls hP hD hS hl)
theorem v_i2b {x : Int32} (h : Cx E cc own rm cB cI ad) (hd : decode cc pc = .ok (.i2b, 1)) (kk : V E k n ws (pc + 1) lv (.int x.toInt8.toInt32 :: st)) : V E k n ws pc lv (.int x :: st) := by
  obtain ⟨p, l, e, R, s, m, args, below, meth, c, Q, D, A, nL⟩ := E
  obtain ⟨hx, hb, hml, hown, hts, hK, hX, hA, hR⟩ := h
  intro H locs ls hP hD hS hl
  exact lv_i2b hx hb hd rfl (kk H locs ls hP hD hS hl)
theorem v_dup {v : Value} (h : Cx E cc own rm cB cI ad) (hd : decode cc pc = .ok (.dup, 1)) (hc : v.category = 1) (kk : V E k n ws (pc + 1) lv (v :: v :: st)) : V E k n ws pc lv (v :: st) := by
  obtain ⟨p, l, e, R, s, m, args, below, meth, c, Q, D, A, nL⟩ := E
  obtain ⟨hx, hb, hml, hown, hts, hK, hX, hA, hR⟩ := h
  intro H locs ls hP hD hS hl
  exact lv_dup hx hb hd hc (kk H locs ls hP hD hS hl)
theorem v_pop {v : Value} (h : Cx E cc own rm cB cI ad) (hd : decode cc pc = .ok (.pop, 1)) (hc : v.category = 1) (kk : V E k n ws (pc + 1) lv st) : V E k n ws pc lv (v :: st) := by
  obtain ⟨p, l, e, R, s, m, args, below, meth, c, Q, D, A, nL⟩ := E
  obtain ⟨hx, hb, hml, hown, hts, hK, hX, hA, hR⟩ := h
  intro H locs ls hP hD hS hl
  exact lv_pop hx hb hd hc (kk H locs ls hP hD hS hl)
theorem v_icmp_eq {x y : Int32} {off : Int} (tgt : Nat) (h : Cx E cc own rm cB cI ad) (hd : decode cc pc = .ok (.if_icmp .eq off, 3)) (ht : (pc : Int) + off = (tgt : Int)) (kt : x = y → V E k n ws tgt lv st) (kf : ¬ x = y → V E k n ws (pc + 3) lv st) : V E k n ws pc lv (.int y :: .int x :: st) := by
  obtain ⟨p, l, e, R, s, m, args, below, meth, c, Q, D, A, nL⟩ := E
  obtain ⟨hx, hb, hml, hown, hts, hK, hX, hA, hR⟩ := h
  intro H locs ls hP hD hS hl
  exact lv_icmp_eq hx hb hd ht (fun q => kt q H locs ls hP hD hS hl) (fun q => kf q H locs ls hP hD hS hl)
theorem v_if_eq {x : Int32} {off : Int} (tgt : Nat) (h : Cx E cc own rm cB cI ad) (hd : decode cc pc = .ok (.ifCond .eq off, 3)) (ht : (pc : Int) + off = (tgt : Int)) (kt : x = 0 → V E k n ws tgt lv st) (kf : ¬ x = 0 → V E k n ws (pc + 3) lv st) : V E k n ws pc lv (.int x :: st) := by
  obtain ⟨p, l, e, R, s, m, args, below, meth, c, Q, D, A, nL⟩ := E
  obtain ⟨hx, hb, hml, hown, hts, hK, hX, hA, hR⟩ := h
  intro H locs ls hP hD hS hl
  exact lv_if_eq hx hb hd ht (fun q => kt q H locs ls hP hD hS hl) (fun q => kf q H locs ls hP hD hS hl)
theorem v_icmp_ne {x y : Int32} {off : Int} (tgt : Nat) (h : Cx E cc own rm cB cI ad) (hd : decode cc pc = .ok (.if_icmp .ne off, 3)) (ht : (pc : Int) + off = (tgt : Int)) (kt : ¬ x = y → V E k n ws tgt lv st) (kf : x = y → V E k n ws (pc + 3) lv st) : V E k n ws pc lv (.int y :: .int x :: st) := by
  obtain ⟨p, l, e, R, s, m, args, below, meth, c, Q, D, A, nL⟩ := E
  obtain ⟨hx, hb, hml, hown, hts, hK, hX, hA, hR⟩ := h
  intro H locs ls hP hD hS hl
  exact lv_icmp_ne hx hb hd ht (fun q => kt q H locs ls hP hD hS hl) (fun q => kf q H locs ls hP hD hS hl)
theorem v_if_ne {x : Int32} {off : Int} (tgt : Nat) (h : Cx E cc own rm cB cI ad) (hd : decode cc pc = .ok (.ifCond .ne off, 3)) (ht : (pc : Int) + off = (tgt : Int)) (kt : ¬ x = 0 → V E k n ws tgt lv st) (kf : x = 0 → V E k n ws (pc + 3) lv st) : V E k n ws pc lv (.int x :: st) := by
  obtain ⟨p, l, e, R, s, m, args, below, meth, c, Q, D, A, nL⟩ := E
  obtain ⟨hx, hb, hml, hown, hts, hK, hX, hA, hR⟩ := h
  intro H locs ls hP hD hS hl
  exact lv_if_ne hx hb hd ht (fun q => kt q H locs ls hP hD hS hl) (fun q => kf q H locs ls hP hD hS hl)
theorem v_icmp_lt {x y : Int32} {off : Int} (tgt : Nat) (h : Cx E cc own rm cB cI ad) (hd : decode cc pc = .ok (.if_icmp .lt off, 3)) (ht : (pc : Int) + off = (tgt : Int)) (kt : x < y → V E k n ws tgt lv st) (kf : ¬ x < y → V E k n ws (pc + 3) lv st) : V E k n ws pc lv (.int y :: .int x :: st) := by
  obtain ⟨p, l, e, R, s, m, args, below, meth, c, Q, D, A, nL⟩ := E
  obtain ⟨hx, hb, hml, hown, hts, hK, hX, hA, hR⟩ := h
  intro H locs ls hP hD hS hl
  exact lv_icmp_lt hx hb hd ht (fun q => kt q H locs ls hP hD hS hl) (fun q => kf q H locs ls hP hD hS hl)
theorem v_if_lt {x : Int32} {off : Int} (tgt : Nat) (h : Cx E cc own rm cB cI ad) (hd : decode cc pc = .ok (.ifCond .lt off, 3)) (ht : (pc : Int) + off = (tgt : Int)) (kt : x < 0 → V E k n ws tgt lv st) (kf : ¬ x < 0 → V E k n ws (pc + 3) lv st) : V E k n ws pc lv (.int x :: st) := by
  obtain ⟨p, l, e, R, s, m, args, below, meth, c, Q, D, A, nL⟩ := E
  obtain ⟨hx, hb, hml, hown, hts, hK, hX, hA, hR⟩ := h
  intro H locs ls hP hD hS hl
  exact lv_if_lt hx hb hd ht (fun q => kt q H locs ls hP hD hS hl) (fun q => kf q H locs ls hP hD hS hl)
theorem v_icmp_ge {x y : Int32} {off : Int} (tgt : Nat) (h : Cx E cc own rm cB cI ad) (hd : decode cc pc = .ok (.if_icmp .ge off, 3)) (ht : (pc : Int) + off = (tgt : Int)) (kt : y ≤ x → V E k n ws tgt lv st) (kf : ¬ y ≤ x → V E k n ws (pc + 3) lv st) : V E k n ws pc lv (.int y :: .int x :: st) := by
  obtain ⟨p, l, e, R, s, m, args, below, meth, c, Q, D, A, nL⟩ := E
  obtain ⟨hx, hb, hml, hown, hts, hK, hX, hA, hR⟩ := h
  intro H locs ls hP hD hS hl
  exact lv_icmp_ge hx hb hd ht (fun q => kt q H locs ls hP hD hS hl) (fun q => kf q H locs ls hP hD hS hl)
theorem v_if_ge {x : Int32} {off : Int} (tgt : Nat) (h : Cx E cc own rm cB cI ad) (hd : decode cc pc = .ok (.ifCond .ge off, 3)) (ht : (pc : Int) + off = (tgt : Int)) (kt : 0 ≤ x → V E k n ws tgt lv st) (kf : ¬ 0 ≤ x → V E k n ws (pc + 3) lv st) : V E k n ws pc lv (.int x :: st) := by
  obtain ⟨p, l, e, R, s, m, args, below, meth, c, Q, D, A, nL⟩ := E
  obtain ⟨hx, hb, hml, hown, hts, hK, hX, hA, hR⟩ := h
  intro H locs ls hP hD hS hl
  exact lv_if_ge hx hb hd ht (fun q => kt q H locs ls hP hD hS hl) (fun q => kf q H locs ls hP hD hS hl)
theorem v_icmp_gt {x y : Int32} {off : Int} (tgt : Nat) (h : Cx E cc own rm cB cI ad) (hd : decode cc pc = .ok (.if_icmp .gt off, 3)) (ht : (pc : Int) + off = (tgt : Int)) (kt : y < x → V E k n ws tgt lv st) (kf : ¬ y < x → V E k n ws (pc + 3) lv st) : V E k n ws pc lv (.int y :: .int x :: st) := by
  obtain ⟨p, l, e, R, s, m, args, below, meth, c, Q, D, A, nL⟩ := E
  obtain ⟨hx, hb, hml, hown, hts, hK, hX, hA, hR⟩ := h
  intro H locs ls hP hD hS hl
  exact lv_icmp_gt hx hb hd ht (fun q => kt q H locs ls hP hD hS hl) (fun q => kf q H locs ls hP hD hS hl)
theorem v_if_gt {x : Int32} {off : Int} (tgt : Nat) (h : Cx E cc own rm cB cI ad) (hd : decode cc pc = .ok (.ifCond .gt off, 3)) (ht : (pc : Int) + off = (tgt : Int)) (kt : 0 < x → V E k n ws tgt lv st) (kf : ¬ 0 < x → V E k n ws (pc + 3) lv st) : V E k n ws pc lv (.int x :: st) := by
  obtain ⟨p, l, e, R, s, m, args, below, meth, c, Q, D, A, nL⟩ := E
  obtain ⟨hx, hb, hml, hown, hts, hK, hX, hA, hR⟩ := h
  intro H locs ls hP hD hS hl
  exact lv_if_gt hx hb hd ht (fun q => kt q H locs ls hP hD hS hl) (fun q => kf q H locs ls hP hD hS hl)
theorem v_icmp_le {x y : Int32} {off : Int} (tgt : Nat) (h : Cx E cc own rm cB cI ad) (hd : decode cc pc = .ok (.if_icmp .le off, 3)) (ht : (pc : Int) + off = (tgt : Int)) (kt : x ≤ y → V E k n ws tgt lv st) (kf : ¬ x ≤ y → V E k n ws (pc + 3) lv st) : V E k n ws pc lv (.int y :: .int x :: st) := by
  obtain ⟨p, l, e, R, s, m, args, below, meth, c, Q, D, A, nL⟩ := E
  obtain ⟨hx, hb, hml, hown, hts, hK, hX, hA, hR⟩ := h
  intro H locs ls hP hD hS hl
  exact lv_icmp_le hx hb hd ht (fun q => kt q H locs ls hP hD hS hl) (fun q => kf q H locs ls hP hD hS hl)
theorem v_if_le {x : Int32} {off : Int} (tgt : Nat) (h : Cx E cc own rm cB cI ad) (hd : decode cc pc = .ok (.ifCond .le off, 3)) (ht : (pc : Int) + off = (tgt : Int)) (kt : x ≤ 0 → V E k n ws tgt lv st) (kf : ¬ x ≤ 0 → V E k n ws (pc + 3) lv st) : V E k n ws pc lv (.int x :: st) := by
  obtain ⟨p, l, e, R, s, m, args, below, meth, c, Q, D, A, nL⟩ := E
  obtain ⟨hx, hb, hml, hown, hts, hK, hX, hA, hR⟩ := h
  intro H locs ls hP hD hS hl
  exact lv_if_le hx hb hd ht (fun q => kt q H locs ls hP hD hS hl) (fun q => kf q H locs ls hP hD hS hl)
theorem v_goto {off : Int} (tgt : Nat) (h : Cx E cc own rm cB cI ad) (hd : decode cc pc = .ok (.goto off, 3)) (ht : (pc : Int) + off = (tgt : Int)) (kk : V E k n ws tgt lv st) : V E k n ws pc lv st := by
  obtain ⟨p, l, e, R, s, m, args, below, meth, c, Q, D, A, nL⟩ := E
  obtain ⟨hx, hb, hml, hown, hts, hK, hX, hA, hR⟩ := h
  intro H locs ls hP hD hS hl
  exact lv_goto hx hb hd ht (kk H locs ls hP hD hS hl)
theorem v_nonnull {x : Nat} {off : Int} (tgt : Nat) (h : Cx E cc own rm cB cI ad) (hd : decode cc pc = .ok (.ifnonnull off, 3)) (ht : (pc : Int) + off = (tgt : Int)) (kk : V E k n ws tgt lv st) : V E k n ws pc lv (.ref x :: st) := by
  obtain ⟨p, l, e, R, s, m, args, below, meth, c, Q, D, A, nL⟩ := E
  obtain ⟨hx, hb, hml, hown, hts, hK, hX, hA, hR⟩ := h
  intro H locs ls hP hD hS hl
  exact lv_ifnonnull hx hb hd ht (kk H locs ls hP hD hS hl)
theorem v_nonnullN {off : Int} (h : Cx E cc own rm cB cI ad) (hd : decode cc pc = .ok (.ifnonnull off, 3)) (kk : V E k n ws (pc + 3) lv st) : V E k n ws pc lv (.null :: st) := by
  obtain ⟨p, l, e, R, s, m, args, below, meth, c, Q, D, A, nL⟩ := E
  obtain ⟨hx, hb, hml, hown, hts, hK, hX, hA, hR⟩ := h
  intro H locs ls hP hD hS hl
  exact lv_ifnonnullN hx hb hd (kk H locs ls hP hD hS hl)
theorem v_lookup {dflt : Int} {ps : Array (Int × Int)} {len : Nat} {x : Int32} {off : Int} (tgt : Nat) (h : Cx E cc own rm cB cI ad) (hd : decode cc pc = .ok (.lookupswitch dflt ps, len)) (hp : (ps.toList.zip (ps.toList.drop 1)).all (fun (a, next) => a.1 < next.1) = true) (ho : Op.lookupswitch.offset ps.toList dflt x.toInt = off) (ht : (pc : Int) + off = (tgt : Int)) (kk : V E k n ws tgt lv st) : V E k n ws pc lv (.int x :: st) := by
  obtain ⟨p, l, e, R, s, m, args, below, meth, c, Q, D, A, nL⟩ := E
  obtain ⟨hx, hb, hml, hown, hts, hK, hX, hA, hR⟩ := h
  intro H locs ls hP hD hS hl
  exact lv_lookup hx hb hd hp ho ht (kk H locs ls hP hD hS hl)
theorem v_tabOut {dflt lo hi : Int} {offs : Array Int} {len : Nat} {x : Int32} (tgt : Nat) (h : Cx E cc own rm cB cI ad) (hd : decode cc pc = .ok (.tableswitch dflt lo hi offs, len)) (h1 : x.toInt < lo ∨ hi < x.toInt) (ht : (pc : Int) + dflt = (tgt : Int)) (kk : V E k n ws tgt lv st) : V E k n ws pc lv (.int x :: st) := by
  obtain ⟨p, l, e, R, s, m, args, below, meth, c, Q, D, A, nL⟩ := E
  obtain ⟨hx, hb, hml, hown, hts, hK, hX, hA, hR⟩ := h
  intro H locs ls hP hD hS hl
  exact lv_tableOut hx hb hd h1 ht (kk H locs ls hP hD hS hl)
theorem v_tabIn {dflt lo hi : Int} {offs : Array Int} {len : Nat} {x : Int32} {off : Int} (tgt : Nat) (h : Cx E cc own rm cB cI ad) (hd : decode cc pc = .ok (.tableswitch dflt lo hi offs, len)) (h1 : ¬ x.toInt < lo) (h2 : ¬ hi < x.toInt) (ho : offs[(x.toInt - lo).toNat]? = some off) (ht : (pc : Int) + off = (tgt : Int)) (kk : V E k n ws tgt lv st) : V E k n ws pc lv (.int x :: st) := by
  obtain ⟨p, l, e, R, s, m, args, below, meth, c, Q, D, A, nL⟩ := E
  obtain ⟨hx, hb, hml, hown, hts, hK, hX, hA, hR⟩ := h
  intro H locs ls hP hD hS hl
  exact lv_tableIn hx hb hd h1 h2 ho ht (kk H locs ls hP hD hS hl)
theorem v_get {C ref : String} {T : u_T} {N ci index a : Nat} {fs : List Value} {v : Value} (h : Cx E cc own rm cB cI ad) (hin : ∀ w ∈ u_ws C T N, w ∈ gd_tbl) (q0 : Nat) (he : ws[q0]? = some (a, .inr (ci, fs))) (hc : kl[ci]? = some (C, T, N)) (j : Nat) (hj : j < N) (hlk : Cond.fieldLink own index ref (T j).2.1 (T j).2.2.1 ∈ gd_tbl) (hsm : (T j).1 = ref) (hv : fs[j]? = some v) (hd : decode cc pc = .ok (.getfield index, 3)) (kk : V E k n ws (pc + 3) lv (v :: st)) : V E k n ws pc lv (.ref a :: st) := by
  obtain ⟨p, l, e, R, s, m, args, below, meth, c, Q, D, A, nL⟩ := E
  obtain ⟨hx, hb, hml, hown, hts, hK, hX, hA, hR⟩ := h
  intro H locs ls hP hD hS hl
  exact va_get (D := D) hx hb hts hin hown hK hP q0 he hc j hj (hts _ hlk) (fun _ h9 => by rw [← hsm]; exact h9) hv hd (kk H locs ls hP hD hS hl)
theorem v_put {C ref : String} {T : u_T} {N ci index a : Nat} {fs : List Value} {v : Value} {ty : FieldType} {t0 : Nat → FieldType} (h : Cx E cc own rm cB cI ad) (hin : ∀ w ∈ u_ws C T N, w ∈ gd_tbl) (hty : ∀ k, k < N → parseFieldDescriptor (T k).2.2.1 = some (t0 k)) (hnm : ∀ a, a < N → ∀ b, b < N → a ≠ b → (T a).2.1 ≠ (T b).2.1) (q0 : Nat) (he : ws[q0]? = some (a, .inr (ci, fs))) (hc : kl[ci]? = some (C, T, N)) (j : Nat) (hj : j < N) (hlk : Cond.fieldLink own index ref (T j).2.1 (T j).2.2.1 ∈ gd_tbl) (hsm : (T j).1 = ref) (hfin : (T j).2.2.2 = false) (hdsc : parseFieldDescriptor (T j).2.2.1 = some ty) (hnar : narrow ty v = v) (hfit : fits ty v = true) (hfl : j < fs.length) {ws' : va_W} (hws : ws.set q0 (a, .inr (ci, fs.set j v)) = ws') (hd : decode cc pc = .ok (.putfield index, 3)) (kk : V E k n ws' (pc + 3) lv st) : V E k n ws pc lv (v :: .ref a :: st) := by
  obtain ⟨p, l, e, R, s, m, args, below, meth, c, Q, D, A, nL⟩ := E
  obtain ⟨hx, hb, hml, hown, hts, hK, hX, hA, hR⟩ := h
  intro H locs ls hP hD hS hl
  subst hws
  exact va_put (D := D) hx hb hts hin t0 hty hnm hown hK hP hD hS q0 he hc j hj (hts _ hlk) (fun _ h9 => by rw [← hsm]; exact h9) hfin hdsc hnar hfit hfl hd (fun H1 locs1 hP1 hD1 hS1 => kk H1 locs1 ls hP1 hD1 hS1 hl)
theorem v_putF {C ref : String} {T : u_T} {N ci index a : Nat} {fs : List Value} {v : Value} {ty : FieldType} {t0 : Nat → FieldType} (h : Cx E cc own rm cB cI ad) (hin : ∀ w ∈ u_ws C T N, w ∈ gd_tbl) (hty : ∀ k, k < N → parseFieldDescriptor (T k).2.2.1 = some (t0 k)) (hnm : ∀ a, a < N → ∀ b, b < N → a ≠ b → (T a).2.1 ≠ (T b).2.1) (q0 : Nat) (he : ws[q0]? = some (a, .inr (ci, fs))) (hc : kl[ci]? = some (C, T, N)) (j : Nat) (hj : j < N) (hlk : Cond.fieldLink own index ref (T j).2.1 (T j).2.2.1 ∈ gd_tbl) (hsm : (T j).1 = ref) (hfin : (T j).2.2.2 = true) (hn1 : InI E) (hdc : (T j).1 = own) (hdsc : parseFieldDescriptor (T j).2.2.1 = some ty) (hnar : narrow ty v = v) (hfit : fits ty v = true) (hfl : j < fs.length) {ws' : va_W} (hws : ws.set q0 (a, .inr (ci, fs.set j v)) = ws') (hd : decode cc pc = .ok (.putfield index, 3)) (kk : V E k n ws' (pc + 3) lv st) : V E k n ws pc lv (v :: .ref a :: st) := by
  obtain ⟨p, l, e, R, s, m, args, below, meth, c, Q, D, A, nL⟩ := E
  obtain ⟨hx, hb, hml, hown, hts, hK, hX, hA, hR⟩ := h
  intro H locs ls hP hD hS hl
  subst hws
  exact va_putF (D := D) hx hb hts hin t0 hty hnm hown hK hP hD hS q0 he hc j hj (hts _ hlk) (fun _ h9 => by rw [← hsm]; exact h9) hfin hn1 hdc hdsc hnar hfit hfl hd (fun H1 locs1 hP1 hD1 hS1 => kk H1 locs1 ls hP1 hD1 hS1 hl)
theorem v_bald {a N : Nat} {f : Nat → Int32} {j : Nat} (h : Cx E cc own rm cB cI ad) (q0 : Nat) (he : ws[q0]? = some (a, .inl (cB, N, .inl f))) (hj : j < N) (hN : N < 2 ^ 31) (hd : decode cc pc = .ok (.baload, 1)) (kk : V E k n ws (pc + 1) lv (.int (f j) :: st)) : V E k n ws pc lv (.int (nI j) :: .ref a :: st) := by
  obtain ⟨p, l, e, R, s, m, args, below, meth, c, Q, D, A, nL⟩ := E
  obtain ⟨hx, hb, hml, hown, hts, hK, hX, hA, hR⟩ := h
  intro H locs ls hP hD hS hl
  refine va_bald (D := D) hx hb hK hP q0 0 he rfl (vp_in_nI hj hN) hd ?_
  rw [nI_clamp (Nat.lt_trans hj hN)]
  exact kk H locs ls hP hD hS hl
theorem v_iald {a N : Nat} {f : Nat → Int32} {j : Nat} (h : Cx E cc own rm cB cI ad) (q0 : Nat) (he : ws[q0]? = some (a, .inl (cI, N, .inl f))) (hj : j < N) (hN : N < 2 ^ 31) (hd : decode cc pc = .ok (.iaload, 1)) (kk : V E k n ws (pc + 1) lv (.int (f j) :: st)) : V E k n ws pc lv (.int (nI j) :: .ref a :: st) := by
  obtain ⟨p, l, e, R, s, m, args, below, meth, c, Q, D, A, nL⟩ := E
  obtain ⟨hx, hb, hml, hown, hts, hK, hX, hA, hR⟩ := h
  intro H locs ls hP hD hS hl
  refine va_iald (D := D) hx hb hK hP q0 1 he rfl (vp_in_nI hj hN) hd ?_
  rw [nI_clamp (Nat.lt_trans hj hN)]
  exact kk H locs ls hP hD hS hl
theorem v_bast {a N : Nat} {f : Nat → Int32} {j : Nat} {x y : Int32} (h : Cx E cc own rm cB cI ad) (q0 : Nat) (he : ws[q0]? = some (a, .inl (cB, N, .inl f))) (hj : j < N) (hN : N < 2 ^ 31) (hy : (vp_nar .byte x) = y) {ws' : va_W} (hws : ws.set q0 (a, .inl (cB, N, .inl (upd f j y))) = ws') (hd : decode cc pc = .ok (.bastore, 1)) (kk : V E k n ws' (pc + 1) lv st) : V E k n ws pc lv (.int x :: .int (nI j) :: .ref a :: st) := by
  obtain ⟨p, l, e, R, s, m, args, below, meth, c, Q, D, A, nL⟩ := E
  obtain ⟨hx, hb, hml, hown, hts, hK, hX, hA, hR⟩ := h
  intro H locs ls hP hD hS hl
  subst hws
  subst hy
  refine va_bast (D := D) hx hb hK hP hD hS q0 0 he rfl (vp_in_nI hj hN) hd (fun H1 locs1 hP1 hD1 hS1 => ?_)
  rw [nI_clamp (Nat.lt_trans hj hN)] at hP1 hD1
  exact kk H1 locs1 ls hP1 hD1 hS1 hl
theorem v_iast {a N : Nat} {f : Nat → Int32} {j : Nat} {x y : Int32} (h : Cx E cc own rm cB cI ad) (q0 : Nat) (he : ws[q0]? = some (a, .inl (cI, N, .inl f))) (hj : j < N) (hN : N < 2 ^ 31) (hy : x = y) {ws' : va_W} (hws : ws.set q0 (a, .inl (cI, N, .inl (upd f j y))) = ws') (hd : decode cc pc = .ok (.iastore, 1)) (kk : V E k n ws' (pc + 1) lv st) : V E k n ws pc lv (.int x :: .int (nI j) :: .ref a :: st) := by
  obtain ⟨p, l, e, R, s, m, args, below, meth, c, Q, D, A, nL⟩ := E
  obtain ⟨hx, hb, hml, hown, hts, hK, hX, hA, hR⟩ := h
  intro H locs ls hP hD hS hl
  subst hws
  subst hy
  refine va_iast (D := D) hx hb hK hP hD hS q0 1 he rfl (vp_in_nI hj hN) hd (fun H1 locs1 hP1 hD1 hS1 => ?_)
  rw [nI_clamp (Nat.lt_trans hj hN)] at hP1 hD1
  exact kk H1 locs1 ls hP1 hD1 hS1 hl
theorem v_ldcS {tx : String} {index q : Nat} (h : Cx E cc own rm cB cI ad) (hZ : ∀ (A : Nat → Prop) (U : State), SX ad A U U.heap → vk_R own index tx q U) (hd : decode cc pc = .ok (.ldc index, 2)) (kk : V E k n ws (pc + 2) lv (.ref q :: st)) : V E k n ws pc lv st := by
  obtain ⟨p, l, e, R, s, m, args, below, meth, c, Q, D, A, nL⟩ := E
  obtain ⟨hx, hb, hml, hown, hts, hK, hX, hA, hR⟩ := h
  intro H locs ls hP hD hS hl
  exact va_ldcS hx hb hown (hZ A s hX) hd (kk H locs ls hP hD hS hl)
theorem v_copy {a0 a n0 n1 : Nat} {f g : Nat → Int32} {sp dp j : Nat} (h : Cx E cc own rm cB cI ad) (ho : own = "RequestCutter") (hrf : 1 ≤ rm.frames) (hrl : (st.map fun v => v.category).sum + (nativeFrameWords "java/lang/System" "arraycopy" 5 + 11) ≤ rm.locals) (q0 q1 : Nat) (h0 : ws[q0]? = some (a0, .inl (cB, n0, .inl f))) (h1 : ws[q1]? = some (a, .inl (cB, n1, .inl g))) (hs1 : sp + j ≤ n0) (hs2 : dp + j ≤ n1) (hN0 : n0 < 2 ^ 31) (hN1 : n1 < 2 ^ 31) (hfit : ∀ i, fits .byte (.int (f i)) = true) {ws' : va_W} (hws : ws.set q1 (a, .inl (cB, n1, .inl (va_cpy f g sp dp j))) = ws') (hd : decode cc pc = .ok (.invokestatic 34, 3)) (kk : V E k n ws' (pc + 3) lv st) : V E k n ws pc lv (.int (nI j) :: .int (nI dp) :: .ref a :: .int (nI sp) :: .ref a0 :: st) := by
  obtain ⟨p, l, e, R, s, m, args, below, meth, c, Q, D, A, nL⟩ := E
  obtain ⟨hx, hb, hml, hown, hts, hK, hX, hA, hR⟩ := h
  intro H locs ls hP hD hS hl
  subst hws
  subst hR
  subst ho
  refine va_copyi (D := D) hx hb (by rw [hml, lh_size hl]) hown (hts _ k_88) (hts _ k_90) (hts _ k_89) (hts _ k_4) hK hP hD hS q0 q1 0 0 h0 h1 rfl rfl rfl (nI_pos (by omega)) (nI_pos (by omega)) (nI_pos (by omega)) ?_ ?_ (fun i _ => hfit _) hrf hrl hd (fun H1 locs1 hP1 hD1 hS1 => ?_)
  · rw [nI_clamp (by omega), nI_clamp (by omega)]; exact hs1
  · rw [nI_clamp (by omega), nI_clamp (by omega)]; exact hs2
  · rw [nI_clamp (by omega), nI_clamp (by omega), nI_clamp (by omega)] at hP1 hD1
    exact kk H1 locs1 ls hP1 hD1 hS1 hl
theorem v_max {x y : Int32} {v : Int32} (h : Cx E cc own rm cB cI ad) (ho : own = "RequestCutter$Cutter") (hrf : 1 ≤ rm.frames) (hrl : (st.map fun v => v.category).sum + 13 ≤ rm.locals) (hk : k ≤ rm.cells) (hn : n ≤ rm.slots) (hv : (if x < y then y else x) = v) (hd : decode cc pc = .ok (.invokestatic 46, 3)) (kk : V E k n ws (pc + 3) lv (.int v :: st)) : V E k n ws pc lv (.int y :: .int x :: st) := by
  obtain ⟨p, l, e, R, s, m, args, below, meth, c, Q, D, A, nL⟩ := E
  obtain ⟨hx, hb, hml, hown, hts, hK, hX, hA, hR⟩ := h
  intro H locs ls hP hD hS hl
  subst hR
  subst ho
  subst hv
  exact va_mmax hx hb (by rw [hml, lh_size hl]) hown (hts _ k_112) (hts _ k_113) (hts _ k_5) (hts _ k_114) hrf hrl hk hn hd (kk H locs ls hP hD hS hl)
theorem v_iret {S : Type} {post : Int32 → S → Prop} {wf : S → va_W} {ty : FieldType} {r : Int32} (h : Cx E cc own rm cB cI ad) (hr : RetI E post wf k n ty) (hn : narrow ty (.int r) = .int r) (hd : decode cc pc = .ok (.ireturn, 1)) (u : S) (hw : wf u = ws) (hp : post r u) : V E k n ws pc lv [.int r] := by
  obtain ⟨p, l, e, R, s, m, args, below, meth, c, Q, D, A, nL⟩ := E
  obtain ⟨hx, hb, hml, hown, hts, hK, hX, hA, hR⟩ := h
  intro H locs ls hP hD hS hl
  obtain ⟨hQ, hrt, hlk⟩ := hr
  subst hQ
  subst hw
  exact W.zret hx hb hrt hn (fun t ht hW => ⟨⟨r, u, rfl, hp, by rw [ht]; exact hP, hD⟩, hS.F ht⟩) hS.2.2 hd hlk
theorem v_vret {S : Type} {post : S → Prop} {wf : S → va_W} (h : Cx E cc own rm cB cI ad) (hr : RetV E post wf k n) (hd : decode cc pc = .ok (.return_, 1)) (u : S) (hw : wf u = ws) (hp : post u) : V E k n ws pc lv [] := by
  obtain ⟨p, l, e, R, s, m, args, below, meth, c, Q, D, A, nL⟩ := E
  obtain ⟨hx, hb, hml, hown, hts, hK, hX, hA, hR⟩ := h
  intro H locs ls hP hD hS hl
  obtain ⟨hQ, hrt, hlk, -⟩ := hr
  subst hQ
  subst hw
  exact W.vret hx hb hrt (fun t ht hW => ⟨⟨u, rfl, hp, by rw [ht]; exact hP, hD⟩, hS.F ht⟩) hS.2.2 hd hlk
theorem v_widen {k' n' : Nat} (h1 : k ≤ k') (h2 : n ≤ n') (kk : V E k' n' ws pc lv st) : V E k n ws pc lv st := by
  obtain ⟨p, l, e, R, s, m, args, below, meth, c, Q, D, A, nL⟩ := E
  intro H locs ls hP hD hS hl
  exact W.widen h1 h2 (kk H locs ls hP hD hS hl)
theorem v_sub {ws' : va_W} (is : List Nat) (h1 : is.filterMap (fun i => ws[i]?) = ws') (h2 : is.map (fun i => ws[i]?) = ws'.map some) (h3 : va_nd is = true) (kk : V E k n ws' pc lv st) : V E k n ws pc lv st := by
  obtain ⟨p, l, e, R, s, m, args, below, meth, c, Q, D, A, nL⟩ := E
  intro H locs ls hP hD hS hl
  exact kk H locs ls (hP.sub is h1) (hD.sub is h3 h2) hS hl
theorem v_objInit {idx a : Nat} (h : Cx E cc own rm cB cI ad) (hw : Cond.methodLink own idx Lib.objectInit ∈ gd_tbl) (hrf : 1 ≤ rm.frames) (hrl : (st.map fun v => v.category).sum + 12 ≤ rm.locals) (hd : decode cc pc = .ok (.invokespecial idx, 3)) (kk : V E k n ws (pc + 3) lv st) : V E k n ws pc lv (.ref a :: st) := by
  obtain ⟨p, l, e, R, s, m, args, below, meth, c, Q, D, A, nL⟩ := E
  obtain ⟨hx, hb, hml, hown, hts, hK, hX, hA, hR⟩ := h
  intro H locs ls hP hD hS hl
  subst hR
  refine W.objInit hx hb hown (hts _ hw) (hts _ k_16) (hts _ k_17) rfl (by rw [hml]; exact lh_size hl) rfl hd hrf ?_ ?_
  · show 2 * 0 + _ + 12 ≤ _
    omega
  · exact kk H locs ls hP hD hS hl
theorem v_newb {N : Nat} (h : Cx E cc own rm cB cI ad) (hN : N ≤ 65536) (hc : k + 1 ≤ rm.cells) (hs : n + N ≤ rm.slots) (hd : decode cc pc = .ok (.newarray .byte, 2)) (kk : ∀ q : Nat, V E (k + 1) (n + N) (ws ++ [(q, .inl (cB, N, .inl (fun _ => 0)))]) (pc + 2) lv (.ref q :: st)) : V E k n ws pc lv (.int (nI N) :: st) := by
  obtain ⟨p, l, e, R, s, m, args, below, meth, c, Q, D, A, nL⟩ := E
  obtain ⟨hx, hb, hml, hown, hts, hK, hX, hA, hR⟩ := h
  intro H locs ls hP hD hS hl
  subst hR
  refine va_newa (D := D) (atype := .byte) (a0 := (N, .inl (fun _ => 0))) hx hb (hts _ k_49) (ty := .byte) rfl hK hP hD hS hA (fun cA => rfl) (nI_pos (by omega)) (nI_clamp (by omega)) (by show N * 1 ≤ _; omega) hc hs hd (fun q cA H1 hK1 hP1 hD1 hS1 => ?_)
  have e1 := (hK.2 0 _ rfl).2
  have e2 := (hK1.2 2 _ rfl).2
  have e3 : cB = cA := Option.some.inj (e1.symm.trans e2)
  subst e3
  exact kk q H1 locs ls hP1 hD1 hS1 hl
theorem v_newi {N : Nat} (h : Cx E cc own rm cB cI ad) (hN : N ≤ 65536) (hc : k + 1 ≤ rm.cells) (hs : n + N ≤ rm.slots) (hd : decode cc pc = .ok (.newarray .int, 2)) (kk : ∀ q : Nat, V E (k + 1) (n + N) (ws ++ [(q, .inl (cI, N, .inl (fun _ => 0)))]) (pc + 2) lv (.ref q :: st)) : V E k n ws pc lv (.int (nI N) :: st) := by
  obtain ⟨p, l, e, R, s, m, args, below, meth, c, Q, D, A, nL⟩ := E
  obtain ⟨hx, hb, hml, hown, hts, hK, hX, hA, hR⟩ := h
  intro H locs ls hP hD hS hl
  subst hR
  refine va_newa (D := D) (atype := .int) (a0 := (N, .inl (fun _ => 0))) hx hb (hts _ k_50) (ty := .int) rfl hK hP hD hS hA (fun cA => rfl) (nI_pos (by omega)) (nI_clamp (by omega)) (by show N * 4 ≤ _; omega) hc hs hd (fun q cA H1 hK1 hP1 hD1 hS1 => ?_)
  have e1 := (hK.2 1 _ rfl).2
  have e2 := (hK1.2 2 _ rfl).2
  have e3 : cI = cA := Option.some.inj (e1.symm.trans e2)
  subst e3
  exact kk q H1 locs ls hP1 hD1 hS1 hl
theorem v_new {C : String} {T : u_T} {N ci index : Nat} {fs : List Value} {t0 : Nat → FieldType} (h : Cx E cc own rm cB cI ad) (hin : ∀ w ∈ u_ws C T N, w ∈ gd_tbl) (hty : ∀ k, k < N → parseFieldDescriptor (T k).2.2.1 = some (t0 k)) (hcl : Cond.classLink own index C ∈ gd_tbl) (hi1 : Cond.instantiable C N ∈ gd_tbl) (hi2 : Cond.initialized C ∈ gd_tbl) (hc : kl[ci]? = some (C, T, N)) (hfs : ∀ j, j < N → defaultValue (t0 j) = vp_V fs j) (hk : k + 1 ≤ rm.cells) (hs : n + N ≤ rm.slots) (hd : decode cc pc = .ok (.new index, 3)) (kk : ∀ q : Nat, V E (k + 1) (n + N) (ws ++ [(q, .inr (ci, fs))]) (pc + 3) lv (.ref q :: st)) : V E k n ws pc lv st := by
  obtain ⟨p, l, e, R, s, m, args, below, meth, c, Q, D, A, nL⟩ := E
  obtain ⟨hx, hb, hml, hown, hts, hK, hX, hA, hR⟩ := h
  intro H locs ls hP hD hS hl
  subst hR
  exact va_new (D := D) hx hb hts hin t0 hty hown (hts _ hcl) (hts _ hi1) (hts _ hi2) hK hP hD hS hA hc hfs hk hs hd (fun q H1 hP1 hD1 hS1 => kk q H1 locs ls hP1 hD1 hS1 hl)
end VR
end
section
section VN
variable {E : Ev} {cc : ByteArray} {own : String} {rm : Room} {cB cI : ClassId} {ad : Nat → Nat} {k n pc : Nat} {ws : va_W} {lv lv' : List (Option Value)} {st : List Value}
theorem v_iaddN {a b : Nat} (h : Cx E cc own rm cB cI ad) (hd : decode cc pc = .ok (.iadd, 1)) (kk : V E k n ws (pc + 1) lv (.int (nI (a + b)) :: st)) : V E k n ws pc lv (.int (nI b) :: .int (nI a) :: st) := v_iadd h hd (by rw [nI_add]; exact kk)
theorem v_isubN {a b : Nat} (h : Cx E cc own rm cB cI ad) (hd : decode cc pc = .ok (.isub, 1)) (kk : V E k n ws (pc + 1) lv (.int (nI (a - b)) :: st)) (hle : b ≤ a := by omega) : V E k n ws pc lv (.int (nI b) :: .int (nI a) :: st) := v_isub h hd (by rw [pk_sub hle]; exact kk)
theorem v_imulN {a b : Nat} (h : Cx E cc own rm cB cI ad) (hd : decode cc pc = .ok (.imul, 1)) (kk : V E k n ws (pc + 1) lv (.int (nI (a * b)) :: st)) : V E k n ws pc lv (.int (nI b) :: .int (nI a) :: st) := v_imul h hd (by rw [pk_mul]; exact kk)
theorem v_iremN {a b : Nat} (h : Cx E cc own rm cB cI ad) (hd : decode cc pc = .ok (.irem, 1)) (kk : V E k n ws (pc + 1) lv (.int (nI (a % b)) :: st)) (ha : a < 2 ^ 31 := by omega) (hb0 : 0 < b := by omega) (hb : b < 2 ^ 31 := by omega) : V E k n ws pc lv (.int (nI b) :: .int (nI a) :: st) := v_irem h hd (nI_ne0 hb0 hb) (by rw [pk_rem ha hb0 hb]; exact kk)
theorem v_iinc1 {i a : Nat} (h : Cx E cc own rm cB cI ad) (hd : decode cc pc = .ok (.iinc i 1, 3)) (hi : lv[i]? = some (some (.int (nI a)))) (hs : lv.set i (some (.int (nI (a + 1)))) = lv') (kk : V E k n ws (pc + 3) lv' st) : V E k n ws pc lv st := v_iinc h hd hi (nI_1 a) hs kk
theorem v_topi {x y : Int32} (e : x = y) (kk : V E k n ws pc lv (.int y :: st)) : V E k n ws pc lv (.int x :: st) := by rw [e]; exact kk
theorem v_eqN {a b : Nat} {off : Int} (tgt : Nat) (h : Cx E cc own rm cB cI ad) (hd : decode cc pc = .ok (.if_icmp .eq off, 3)) (ht : (pc : Int) + off = (tgt : Int)) (kt : a = b → V E k n ws tgt lv st) (kf : ¬ a = b → V E k n ws (pc + 3) lv st) (ha : a < 2 ^ 31 := by omega) (hb : b < 2 ^ 31 := by omega) : V E k n ws pc lv (.int (nI b) :: .int (nI a) :: st) := v_icmp_eq tgt h hd ht (fun q => kt ((nI_eq ha hb).mp q)) (fun q => kf (fun z => q ((nI_eq ha hb).mpr z)))
theorem v_neN {a b : Nat} {off : Int} (tgt : Nat) (h : Cx E cc own rm cB cI ad) (hd : decode cc pc = .ok (.if_icmp .ne off, 3)) (ht : (pc : Int) + off = (tgt : Int)) (kt : ¬ a = b → V E k n ws tgt lv st) (kf : a = b → V E k n ws (pc + 3) lv st) (ha : a < 2 ^ 31 := by omega) (hb : b < 2 ^ 31 := by omega) : V E k n ws pc lv (.int (nI b) :: .int (nI a) :: st) := v_icmp_ne tgt h hd ht (fun q => kt (fun z => q ((nI_eq ha hb).mpr z))) (fun q => kf ((nI_eq ha hb).mp q))
theorem v_ltN {a b : Nat} {off : Int} (tgt : Nat) (h : Cx E cc own rm cB cI ad) (hd : decode cc pc = .ok (.if_icmp .lt off, 3)) (ht : (pc : Int) + off = (tgt : Int)) (kt : a < b → V E k n ws tgt lv st) (kf : b ≤ a → V E k n ws (pc + 3) lv st) (ha : a < 2 ^ 31 := by omega) (hb : b < 2 ^ 31 := by omega) : V E k n ws pc lv (.int (nI b) :: .int (nI a) :: st) := v_icmp_lt tgt h hd ht (fun q => kt ((nI_ltI ha hb).mp q)) (fun q => kf (Nat.not_lt.mp (fun z => q ((nI_ltI ha hb).mpr z))))
theorem v_geN {a b : Nat} {off : Int} (tgt : Nat) (h : Cx E cc own rm cB cI ad) (hd : decode cc pc = .ok (.if_icmp .ge off, 3)) (ht : (pc : Int) + off = (tgt : Int)) (kt : b ≤ a → V E k n ws tgt lv st) (kf : a < b → V E k n ws (pc + 3) lv st) (ha : a < 2 ^ 31 := by omega) (hb : b < 2 ^ 31 := by omega) : V E k n ws pc lv (.int (nI b) :: .int (nI a) :: st) := v_icmp_ge tgt h hd ht (fun q => kt ((nI_leI hb ha).mp q)) (fun q => kf (Nat.not_le.mp (fun z => q ((nI_leI hb ha).mpr z))))
theorem v_gtN {a b : Nat} {off : Int} (tgt : Nat) (h : Cx E cc own rm cB cI ad) (hd : decode cc pc = .ok (.if_icmp .gt off, 3)) (ht : (pc : Int) + off = (tgt : Int)) (kt : b < a → V E k n ws tgt lv st) (kf : a ≤ b → V E k n ws (pc + 3) lv st) (ha : a < 2 ^ 31 := by omega) (hb : b < 2 ^ 31 := by omega) : V E k n ws pc lv (.int (nI b) :: .int (nI a) :: st) := v_icmp_gt tgt h hd ht (fun q => kt ((nI_ltI hb ha).mp q)) (fun q => kf (Nat.not_lt.mp (fun z => q ((nI_ltI hb ha).mpr z))))
theorem v_leN {a b : Nat} {off : Int} (tgt : Nat) (h : Cx E cc own rm cB cI ad) (hd : decode cc pc = .ok (.if_icmp .le off, 3)) (ht : (pc : Int) + off = (tgt : Int)) (kt : a ≤ b → V E k n ws tgt lv st) (kf : b < a → V E k n ws (pc + 3) lv st) (ha : a < 2 ^ 31 := by omega) (hb : b < 2 ^ 31 := by omega) : V E k n ws pc lv (.int (nI b) :: .int (nI a) :: st) := v_icmp_le tgt h hd ht (fun q => kt ((nI_leI ha hb).mp q)) (fun q => kf (Nat.not_le.mp (fun z => q ((nI_leI ha hb).mpr z))))
theorem nI_z {a : Nat} (ha : a < 2 ^ 31) : nI a = 0 ↔ a = 0 := by rw [← nI_0]; exact nI_eq ha (by decide)
theorem nI_lez {a : Nat} (ha : a < 2 ^ 31) : nI a ≤ 0 ↔ a ≤ 0 := by rw [← nI_0]; exact nI_leI ha (by decide)
theorem nI_ltz {a : Nat} (ha : a < 2 ^ 31) : 0 < nI a ↔ 0 < a := by rw [← nI_0]; exact nI_ltI (by decide) ha
theorem v_eqZ {a : Nat} {off : Int} (tgt : Nat) (h : Cx E cc own rm cB cI ad) (hd : decode cc pc = .ok (.ifCond .eq off, 3)) (ht : (pc : Int) + off = (tgt : Int)) (kt : a = 0 → V E k n ws tgt lv st) (kf : ¬ a = 0 → V E k n ws (pc + 3) lv st) (ha : a < 2 ^ 31 := by omega) : V E k n ws pc lv (.int (nI a) :: st) := v_if_eq tgt h hd ht (fun q => kt ((nI_z ha).mp q)) (fun q => kf (fun z => q ((nI_z ha).mpr z)))
theorem v_neZ {a : Nat} {off : Int} (tgt : Nat) (h : Cx E cc own rm cB cI ad) (hd : decode cc pc = .ok (.ifCond .ne off, 3)) (ht : (pc : Int) + off = (tgt : Int)) (kt : ¬ a = 0 → V E k n ws tgt lv st) (kf : a = 0 → V E k n ws (pc + 3) lv st) (ha : a < 2 ^ 31 := by omega) : V E k n ws pc lv (.int (nI a) :: st) := v_if_ne tgt h hd ht (fun q => kt (fun z => q ((nI_z ha).mpr z))) (fun q => kf ((nI_z ha).mp q))
theorem v_gtZ {a : Nat} {off : Int} (tgt : Nat) (h : Cx E cc own rm cB cI ad) (hd : decode cc pc = .ok (.ifCond .gt off, 3)) (ht : (pc : Int) + off = (tgt : Int)) (kt : 0 < a → V E k n ws tgt lv st) (kf : a ≤ 0 → V E k n ws (pc + 3) lv st) (ha : a < 2 ^ 31 := by omega) : V E k n ws pc lv (.int (nI a) :: st) := v_if_gt tgt h hd ht (fun q => kt ((nI_ltz ha).mp q)) (fun q => kf (Nat.not_lt.mp (fun z => q ((nI_ltz ha).mpr z))))
theorem v_leZ {a : Nat} {off : Int} (tgt : Nat) (h : Cx E cc own rm cB cI ad) (hd : decode cc pc = .ok (.ifCond .le off, 3)) (ht : (pc : Int) + off = (tgt : Int)) (kt : a ≤ 0 → V E k n ws tgt lv st) (kf : 0 < a → V E k n ws (pc + 3) lv st) (ha : a < 2 ^ 31 := by omega) : V E k n ws pc lv (.int (nI a) :: st) := v_if_le tgt h hd ht (fun q => kt ((nI_lez ha).mp q)) (fun q => kf (Nat.not_le.mp (fun z => q ((nI_lez ha).mpr z))))
theorem v_ltZ {a : Nat} {off : Int} (tgt : Nat) (h : Cx E cc own rm cB cI ad) (hd : decode cc pc = .ok (.ifCond .lt off, 3)) (ht : (pc : Int) + off = (tgt : Int)) (kf : V E k n ws (pc + 3) lv st) (ha : a < 2 ^ 31 := by omega) : V E k n ws pc lv (.int (nI a) :: st) := v_if_lt tgt h hd ht (fun q => absurd q (nI_pos ha)) (fun _ => kf)
theorem v_geZ {a : Nat} {off : Int} (tgt : Nat) (h : Cx E cc own rm cB cI ad) (hd : decode cc pc = .ok (.ifCond .ge off, 3)) (ht : (pc : Int) + off = (tgt : Int)) (kt : V E k n ws tgt lv st) (ha : a < 2 ^ 31 := by omega) : V E k n ws pc lv (.int (nI a) :: st) := v_if_ge tgt h hd ht (fun _ => kt) (fun q => absurd (nI_pos' ha) q)
/-- a truth value as an int -/
def bI (b : Bool) : Int32 := if b then 1 else 0
theorem v_eqB {b : Bool} {off : Int} (tgt : Nat) (h : Cx E cc own rm cB cI ad) (hd : decode cc pc = .ok (.ifCond .eq off, 3)) (ht : (pc : Int) + off = (tgt : Int)) (kt : b = false → V E k n ws tgt lv st) (kf : b = true → V E k n ws (pc + 3) lv st) : V E k n ws pc lv (.int (bI b) :: st) := v_if_eq tgt h hd ht (fun q => kt (by cases b with | false => rfl | true => exact absurd q (by decide))) (fun q => kf (by cases b with | true => rfl | false => exact absurd rfl q))
theorem v_neB {b : Bool} {off : Int} (tgt : Nat) (h : Cx E cc own rm cB cI ad) (hd : decode cc pc = .ok (.ifCond .ne off, 3)) (ht : (pc : Int) + off = (tgt : Int)) (kt : b = true → V E k n ws tgt lv st) (kf : b = false → V E k n ws (pc + 3) lv st) : V E k n ws pc lv (.int (bI b) :: st) := v_if_ne tgt h hd ht (fun q => kt (by cases b with | true => rfl | false => exact absurd rfl q)) (fun q => kf (by cases b with | false => rfl | true => exact absurd q (by decide)))
theorem bI_nar (b : Bool) : narrow .boolean (.int (bI b)) = .int (bI b) := by cases b <;> decide
theorem fm_of {ws wc : va_W} {is : List Nat} (h : is.map (fun i => ws[i]?) = wc.map some) : is.filterMap (fun i => ws[i]?) = wc := by
  have e : is.filterMap (fun i => ws[i]?) = (is.map (fun i => ws[i]?)).filterMap id := by rw [List.filterMap_map]; rfl
  rw [e, h, List.filterMap_map]
  show wc.filterMap (fun x => some x) = wc
  exact List.filterMap_some
def LkV (own : String) (idx : Nat) (C : String) (y : MethodName) (bt : ByteArray) (ml : Nat) (ret : Option FieldType) (n : Nat) : Prop :=
  Cond.methodLink own idx y ∈ gd_tbl ∧ Cond.instanceMethod y ∈ gd_tbl ∧ Cond.selects C y y ∈ gd_tbl ∧ Cond.initialized C ∈ gd_tbl ∧ Cond.code y bt ml ret ∈ gd_tbl ∧ (y.cls = C ∧ y.cls ≠ "java/lang/invoke/MethodHandle" ∧ y.cls ≠ "java/lang/invoke/VarHandle" ∧ (parseMethodDescriptor y.desc).map (fun d => d.parameters.length) = some n)
theorem gd_V {own : String} {idx : Nat} {C : String} {y : MethodName} {bt : ByteArray} {ml : Nat} {ret : Option FieldType} {n : Nat} (L : LkV own idx C y bt ml ret n) : GoodIn gd_tbl (wsV own idx C y (.code y bt ml ret :: gd_tbl)) := by
  obtain ⟨h1, h2, h3, h4, h5, -⟩ := L
  intro w hw
  have hm : w ∈ gd_tbl := by
    rcases List.mem_append.mp hw with hw | hw
    · simp only [List.mem_cons, List.not_mem_nil, or_false] at hw
      rcases hw with rfl | rfl | rfl | rfl
      · exact h1
      · exact h2
      · exact h3
      · exact h4
    · rcases List.mem_cons.mp hw with rfl | hw
      · exact h5
      · exact hw
  exact ⟨hm, gd_good w hm⟩
theorem gd_C {y : MethodName} {bt : ByteArray} {ml : Nat} {ret : Option FieldType} (h5 : Cond.code y bt ml ret ∈ gd_tbl) : GoodIn gd_tbl (.code y bt ml ret :: gd_tbl) := by
  intro w hw
  have hm : w ∈ gd_tbl := by
    rcases List.mem_cons.mp hw with rfl | hw
    · exact h5
    · exact hw
  exact ⟨hm, gd_good w hm⟩
theorem v_callI {S : Type} {post : Int32 → S → Prop} {wf : S → va_W} {ty : FieldType} {y : MethodName} {bt : ByteArray} {ml idx b n0 mc ms : Nat} {C : String} {rm2 : Room} {As : List Value} {wc wr : va_W} (h : Cx E cc own rm cB cI ad) (L : LkV own idx C y bt ml (some ty) n0) (hM : ∀ (l : Launch) (D : va_G), CtI l y bt ml ty rm2 D cB cI ad (.ref b :: As) wc post wf mc ms) (isC isR : List Nat) (hC : isC.map (fun i => ws[i]?) = wc.map some) (hRr : isR.map (fun i => ws[i]?) = wr.map some) (hnC : va_nd isC = true) (hnR : va_nd isR = true) (hdis : ∀ i ∈ isR, i ∉ isC) {ci : Nat} {q : vw_C} {fs : List Value} (hkc : kl[ci]? = some q) (hqc : q.1 = C) (hrv : wc[0]? = some (b, .inr (ci, fs))) (hrc : rm2.cells = mc) (hrs : rm2.slots = ms) (hrm : rm2.frames + 1 ≤ rm.frames ∧ 8 + (ml + 11) + rm2.locals ≤ rm.locals) (hn0 : As.length = n0) (hst : (st.map fun v => v.category).sum ≤ 8) (hcl : k + mc ≤ rm.cells) (hsl : n + ms ≤ rm.slots) (hd : decode cc pc = .ok (.invokevirtual idx, 3)) {st0 : List Value} (hst0 : st0 = As.reverse ++ .ref b :: st) (kk : ∀ (r : Int32) (u : S), post r u → V E (k + mc) (n + ms) (wr ++ wf u) (pc + 3) lv (.int r :: st)) : V E k n ws pc lv st0 := by
  obtain ⟨p, l, e, R, s, m, args, below, meth, c, Q, D, A, nL⟩ := E
  obtain ⟨hx, hb, hml, hown, hts, hK, hX, hA, hR⟩ := h
  intro H locs ls hP hD hS hl
  subst hR
  subst hst0
  have hPc := hP.sub (ws' := wc) isC (fm_of hC)
  have hDc := hD.sub (ws' := wc) isC hnC hC
  have hFc := va_free (wc := wc) hD hS hA isC hC
  have hbl : FrameBlind (va_Pc (.ref b :: As) (fun U => U.heap.size = H.size ∧ va_P D kl wc U.heap ∧ va_K D kl [(cB, .byte), (cI, .int)] U ∧ va_D (fun _ => True) wc ∧ SX ad (va_A wc H.size) U U.heap)) := fun a U g mk q => by
    obtain ⟨q0, q1, qP, qK, qD, qX⟩ := q
    exact ⟨q0, q1, qP, va_K.moved (u := U) (U := U.calling g mk a) (Vm.Alike.refl U.vm) qK, qD, SX.same (u := U) (U := U.calling g mk a) rfl qX⟩
  have hpre : ∀ U : State, U.heap = H → s.WarmedH U.vm → va_Pc (.ref b :: As) (fun U => U.heap.size = H.size ∧ va_P D kl wc U.heap ∧ va_K D kl [(cB, .byte), (cI, .int)] U ∧ va_D (fun _ => True) wc ∧ SX ad (va_A wc H.size) U U.heap) (Value.ref b :: As).toArray U := fun U hU hW => ⟨rfl, by rw [hU], by rw [hU]; exact hPc, va_K.moved hW.alike hK, hDc.weaken (fun _ _ _ _ => trivial), by rw [hU]; exact hX.to hW hS.2.1 hFc⟩
  refine va_calli (va_runV (C := C) (As := As) (rest := st) ⟨hx, hb, hml, hown, hts⟩ (hM l D H.size) (cwV n0 hts (gd_V L) rfl hrc hrs L.2.2.2.2.2 hrm) ⟨hbl, by have := va_recv hK hPc hkc hrv; rw [hqc] at this; exact this, fun U hU hW => hpre U hU hW⟩ rfl hn0 (lh_size hl) rfl (lv_room hst) hd ⟨hcl, hsl⟩) hS (fun q _ h => hFc q h) hFc (fun r u t H1 locs1 ht hvm hw hB hz1 hk1 hS1 => ?_)
  obtain ⟨hP1, hD1⟩ := hB
  rw [ht] at hP1
  obtain ⟨hP2, hD2⟩ := va_join (wr := wr) (w1 := wf u) hP hD isC isR hC hRr hnR hdis hk1 hFc hP1 hD1
  exact kk r u hw H1 locs1 ls hP2 hD2 hS1 hl
theorem v_callV {S : Type} {post : S → Prop} {wf : S → va_W} {y : MethodName} {bt : ByteArray} {ml idx b n0 mc ms : Nat} {C : String} {rm2 : Room} {As : List Value} {wc wr : va_W} (h : Cx E cc own rm cB cI ad) (L : LkV own idx C y bt ml none n0) (hM : ∀ (l : Launch) (D : va_G), CtV l y bt ml rm2 D cB cI ad (.ref b :: As) wc post wf mc ms) (isC isR : List Nat) (hC : isC.map (fun i => ws[i]?) = wc.map some) (hRr : isR.map (fun i => ws[i]?) = wr.map some) (hnC : va_nd isC = true) (hnR : va_nd isR = true) (hdis : ∀ i ∈ isR, i ∉ isC) {ci : Nat} {q : vw_C} {fs : List Value} (hkc : kl[ci]? = some q) (hqc : q.1 = C) (hrv : wc[0]? = some (b, .inr (ci, fs))) (hrc : rm2.cells = mc) (hrs : rm2.slots = ms) (hrm : rm2.frames + 1 ≤ rm.frames ∧ 8 + (ml + 11) + rm2.locals ≤ rm.locals) (hn0 : As.length = n0) (hst : (st.map fun v => v.category).sum ≤ 8) (hcl : k + mc ≤ rm.cells) (hsl : n + ms ≤ rm.slots) (hd : decode cc pc = .ok (.invokevirtual idx, 3)) {st0 : List Value} (hst0 : st0 = As.reverse ++ .ref b :: st) (kk : ∀ (u : S), post u → V E (k + mc) (n + ms) (wr ++ wf u) (pc + 3) lv st) : V E k n ws pc lv st0 := by
  obtain ⟨p, l, e, R, s, m, args, below, meth, c, Q, D, A, nL⟩ := E
  obtain ⟨hx, hb, hml, hown, hts, hK, hX, hA, hR⟩ := h
  intro H locs ls hP hD hS hl
  subst hR
  subst hst0
  have hPc := hP.sub (ws' := wc) isC (fm_of hC)
  have hDc := hD.sub (ws' := wc) isC hnC hC
  have hFc := va_free (wc := wc) hD hS hA isC hC
  have hbl : FrameBlind (va_Pc (.ref b :: As) (fun U => U.heap.size = H.size ∧ va_P D kl wc U.heap ∧ va_K D kl [(cB, .byte), (cI, .int)] U ∧ va_D (fun _ => True) wc ∧ SX ad (va_A wc H.size) U U.heap)) := fun a U g mk q => by
    obtain ⟨q0, q1, qP, qK, qD, qX⟩ := q
    exact ⟨q0, q1, qP, va_K.moved (u := U) (U := U.calling g mk a) (Vm.Alike.refl U.vm) qK, qD, SX.same (u := U) (U := U.calling g mk a) rfl qX⟩
  have hpre : ∀ U : State, U.heap = H → s.WarmedH U.vm → va_Pc (.ref b :: As) (fun U => U.heap.size = H.size ∧ va_P D kl wc U.heap ∧ va_K D kl [(cB, .byte), (cI, .int)] U ∧ va_D (fun _ => True) wc ∧ SX ad (va_A wc H.size) U U.heap) (Value.ref b :: As).toArray U := fun U hU hW => ⟨rfl, by rw [hU], by rw [hU]; exact hPc, va_K.moved hW.alike hK, hDc.weaken (fun _ _ _ _ => trivial), by rw [hU]; exact hX.to hW hS.2.1 hFc⟩
  refine va_callv (va_runV (C := C) (As := As) (rest := st) ⟨hx, hb, hml, hown, hts⟩ (hM l D H.size) (cwV n0 hts (gd_V L) rfl hrc hrs L.2.2.2.2.2 hrm) ⟨hbl, by have := va_recv hK hPc hkc hrv; rw [hqc] at this; exact this, fun U hU hW => hpre U hU hW⟩ rfl hn0 (lh_size hl) rfl (lv_room hst) hd ⟨hcl, hsl⟩) hS (fun q _ h => hFc q h) hFc (fun u t H1 locs1 ht hvm hw hB hz1 hk1 hS1 => ?_)
  obtain ⟨hP1, hD1⟩ := hB
  rw [ht] at hP1
  obtain ⟨hP2, hD2⟩ := va_join (wr := wr) (w1 := wf u) hP hD isC isR hC hRr hnR hdis hk1 hFc hP1 hD1
  exact kk u hw H1 locs1 ls hP2 hD2 hS1 hl
theorem v_callN {S : Type} {post : S → Prop} {wf : S → va_W} {y : MethodName} {bt : ByteArray} {ml idx b n0 mc ms : Nat} {C : String} {rm2 : Room} {As : List Value} {wc wr : va_W} (h : Cx E cc own rm cB cI ad) (hw1 : Cond.methodLink own idx y ∈ gd_tbl) (hw2 : Cond.instanceMethod y ∈ gd_tbl) (hw3 : Cond.initialized y.cls ∈ gd_tbl) (hw4 : Cond.code y bt ml none ∈ gd_tbl) (hyn : y.name = "<init>") (hyd : y.cls ≠ "java/lang/invoke/MethodHandle" ∧ y.cls ≠ "java/lang/invoke/VarHandle" ∧ (parseMethodDescriptor y.desc).map (fun d => d.parameters.length) = some n0) (hM : ∀ (l : Launch) (D : va_G), CtV l y bt ml rm2 D cB cI ad (.ref b :: As) wc post wf mc ms) (isC isR : List Nat) (hC : isC.map (fun i => ws[i]?) = wc.map some) (hRr : isR.map (fun i => ws[i]?) = wr.map some) (hnC : va_nd isC = true) (hnR : va_nd isR = true) (hdis : ∀ i ∈ isR, i ∉ isC)  (hrc : rm2.cells = mc) (hrs : rm2.slots = ms) (hrm : rm2.frames + 1 ≤ rm.frames ∧ 8 + (ml + 11) + rm2.locals ≤ rm.locals) (hn0 : As.length = n0) (hst : (st.map fun v => v.category).sum ≤ 8) (hcl : k + mc ≤ rm.cells) (hsl : n + ms ≤ rm.slots) (hd : decode cc pc = .ok (.invokespecial idx, 3)) {st0 : List Value} (hst0 : st0 = As.reverse ++ .ref b :: st) (kk : ∀ (u : S), post u → V E (k + mc) (n + ms) (wr ++ wf u) (pc + 3) lv st) : V E k n ws pc lv st0 := by
  obtain ⟨p, l, e, R, s, m, args, below, meth, c, Q, D, A, nL⟩ := E
  obtain ⟨hx, hb, hml, hown, hts, hK, hX, hA, hR⟩ := h
  intro H locs ls hP hD hS hl
  subst hR
  subst hst0
  have hPc := hP.sub (ws' := wc) isC (fm_of hC)
  have hDc := hD.sub (ws' := wc) isC hnC hC
  have hFc := va_free (wc := wc) hD hS hA isC hC
  have hbl : FrameBlind (va_Pc (.ref b :: As) (fun U => U.heap.size = H.size ∧ va_P D kl wc U.heap ∧ va_K D kl [(cB, .byte), (cI, .int)] U ∧ va_D (fun _ => True) wc ∧ SX ad (va_A wc H.size) U U.heap)) := fun a U g mk q => by
    obtain ⟨q0, q1, qP, qK, qD, qX⟩ := q
    exact ⟨q0, q1, qP, va_K.moved (u := U) (U := U.calling g mk a) (Vm.Alike.refl U.vm) qK, qD, SX.same (u := U) (U := U.calling g mk a) rfl qX⟩
  have hpre : ∀ U : State, U.heap = H → s.WarmedH U.vm → va_Pc (.ref b :: As) (fun U => U.heap.size = H.size ∧ va_P D kl wc U.heap ∧ va_K D kl [(cB, .byte), (cI, .int)] U ∧ va_D (fun _ => True) wc ∧ SX ad (va_A wc H.size) U U.heap) (Value.ref b :: As).toArray U := fun U hU hW => ⟨rfl, by rw [hU], by rw [hU]; exact hPc, va_K.moved hW.alike hK, hDc.weaken (fun _ _ _ _ => trivial), by rw [hU]; exact hX.to hW hS.2.1 hFc⟩
  refine va_callv (va_runI (As := As) (rest := st) ⟨hx, hb, hml, hown, hts⟩ (hM l D H.size) (cwI n0 hts (gd_C hw4) rfl hrc hrs (hts _ hw3) (hts _ hw1) (hts _ hw2) hyn hyd hrm) ⟨hbl, fun U hU hW => hpre U hU hW⟩ rfl hn0 (lh_size hl) rfl (lv_room hst) hd ⟨hcl, hsl⟩) hS (fun q _ h => hFc q h) hFc (fun u t H1 locs1 ht hvm hw hB hz1 hk1 hS1 => ?_)
  obtain ⟨hP1, hD1⟩ := hB
  rw [ht] at hP1
  obtain ⟨hP2, hD2⟩ := va_join (wr := wr) (w1 := wf u) hP hD isC isR hC hRr hnR hdis hk1 hFc hP1 hD1
  exact kk u hw H1 locs1 ls hP2 hD2 hS1 hl
theorem v_callC {S : Type} {post : S → Prop} {wf : S → va_W} {y : MethodName} {bt : ByteArray} {ml idx b n0 mc ms : Nat} {C : String} {rm2 : Room} {As : List Value} {wc wr : va_W} (h : Cx E cc own rm cB cI ad) {host : String} (hw1 : ∀ (A : Nat → Prop) (U : State), SX ad A U U.heap → va_Nw (.methodLinkNest own idx y host) U) (hw2 : Cond.instanceMethod y ∈ gd_tbl) (hw3 : Cond.initialized y.cls ∈ gd_tbl) (hw4 : Cond.code y bt ml none ∈ gd_tbl) (hyn : y.name = "<init>") (hyd : y.cls ≠ "java/lang/invoke/MethodHandle" ∧ y.cls ≠ "java/lang/invoke/VarHandle" ∧ (parseMethodDescriptor y.desc).map (fun d => d.parameters.length) = some n0) (hM : ∀ (l : Launch) (D : va_G), CtV l y bt ml rm2 D cB cI ad (.ref b :: As) wc post wf mc ms) (isC isR : List Nat) (hC : isC.map (fun i => ws[i]?) = wc.map some) (hRr : isR.map (fun i => ws[i]?) = wr.map some) (hnC : va_nd isC = true) (hnR : va_nd isR = true) (hdis : ∀ i ∈ isR, i ∉ isC)  (hrc : rm2.cells = mc) (hrs : rm2.slots = ms) (hrm : rm2.frames + 1 ≤ rm.frames ∧ 8 + (ml + 11) + rm2.locals ≤ rm.locals) (hn0 : As.length = n0) (hst : (st.map fun v => v.category).sum ≤ 8) (hcl : k + mc ≤ rm.cells) (hsl : n + ms ≤ rm.slots) (hd : decode cc pc = .ok (.invokespecial idx, 3)) {st0 : List Value} (hst0 : st0 = As.reverse ++ .ref b :: st) (kk : ∀ (u : S), post u → V E (k + mc) (n + ms) (wr ++ wf u) (pc + 3) lv st) : V E k n ws pc lv st0 := by
  obtain ⟨p, l, e, R, s, m, args, below, meth, c, Q, D, A, nL⟩ := E
  obtain ⟨hx, hb, hml, hown, hts, hK, hX, hA, hR⟩ := h
  intro H locs ls hP hD hS hl
  subst hR
  subst hst0
  have hPc := hP.sub (ws' := wc) isC (fm_of hC)
  have hDc := hD.sub (ws' := wc) isC hnC hC
  have hFc := va_free (wc := wc) hD hS hA isC hC
  have hbl : FrameBlind (va_Pc (.ref b :: As) (fun U => U.heap.size = H.size ∧ va_P D kl wc U.heap ∧ va_K D kl [(cB, .byte), (cI, .int)] U ∧ va_D (fun _ => True) wc ∧ SX ad (va_A wc H.size) U U.heap)) := fun a U g mk q => by
    obtain ⟨q0, q1, qP, qK, qD, qX⟩ := q
    exact ⟨q0, q1, qP, va_K.moved (u := U) (U := U.calling g mk a) (Vm.Alike.refl U.vm) qK, qD, SX.same (u := U) (U := U.calling g mk a) rfl qX⟩
  have hpre : ∀ U : State, U.heap = H → s.WarmedH U.vm → va_Pc (.ref b :: As) (fun U => U.heap.size = H.size ∧ va_P D kl wc U.heap ∧ va_K D kl [(cB, .byte), (cI, .int)] U ∧ va_D (fun _ => True) wc ∧ SX ad (va_A wc H.size) U U.heap) (Value.ref b :: As).toArray U := fun U hU hW => ⟨rfl, by rw [hU], by rw [hU]; exact hPc, va_K.moved hW.alike hK, hDc.weaken (fun _ _ _ _ => trivial), by rw [hU]; exact hX.to hW hS.2.1 hFc⟩
  refine va_callv (va_runIN (As := As) (rest := st) ⟨hx, hb, hml, hown, hts⟩ (hM l D H.size) ⟨va_cnB n0 hts (gd_C hw4) rfl hrc hrs (hw1 A s hX) (hts _ hw3) hyd hrm, hyn, hts _ hw2⟩ ⟨hbl, fun U hU hW => hpre U hU hW⟩ rfl hn0 (lh_size hl) rfl (lv_room hst) hd ⟨hcl, hsl⟩) hS (fun q _ h => hFc q h) hFc (fun u t H1 locs1 ht hvm hw hB hz1 hk1 hS1 => ?_)
  obtain ⟨hP1, hD1⟩ := hB
  rw [ht] at hP1
  obtain ⟨hP2, hD2⟩ := va_join (wr := wr) (w1 := wf u) hP hD isC isR hC hRr hnR hdis hk1 hFc hP1 hD1
  exact kk u hw H1 locs1 ls hP2 hD2 hS1 hl
end VN
end
section
abbrev wX (cB cI : ClassId) (g : Nat → Nat) (T : Nat → Int32) (len : Nat) (I : Nat → Int32) (many : Nat) (K : Nat → Int32) (wd ft : Nat) (at_ sz : Nat → Int32) (cw ce : Nat) (cf : Value) (cn : Int32) : va_W :=
  [(g 0, .inr (0, [.ref (g 1), .int (nI len), .ref (g 2), .int (nI many), .ref (g 4), .ref (g 3), .int (nI wd), .int (nI ft)])), (g 1, .inl (cB, 10240, .inl T)), (g 2, .inl (cB, 65536, .inl I)), (g 3, .inl (cB, 65536, .inl K)), (g 4, .inr (1, [.ref (g 5), .ref (g 6), .int (nI cw), .int (nI ce), cf, .int cn])), (g 5, .inl (cI, 1100, .inl at_)), (g 6, .inl (cI, 1100, .inl sz))]
abbrev wM (cB cI : ClassId) (g : Nat → Nat) (T I K F L : Nat → Int32) (tp wt wd ks ft at_ : Nat) : va_W :=
  [(g 0, .inr (2, [.ref (g 1), .ref (g 2), .ref (g 3), .ref (g 4), .ref (g 5), .int (nI tp), .int (nI wt), .int (nI wd), .int (nI ks), .int (nI ft), .int (nI at_)])), (g 1, .inl (cB, 10240, .inl T)), (g 2, .inl (cB, 65536, .inl I)), (g 3, .inl (cB, 65536, .inl K)), (g 4, .inl (cI, 1025, .inl F)), (g 5, .inl (cI, 1025, .inl L))]
section VW
variable {E : Ev} {cc : ByteArray} {rm : Room} {cB cI : ClassId} {ad : Nat → Nat} {k n pc : Nat} {lv lv' : List (Option Value)} {st : List Value} {g : Nat → Nat}
theorem gX_tape {T : Nat → Int32} {len : Nat} {I : Nat → Int32} {many : Nat} {K : Nat → Int32} {wd ft : Nat} {at_ sz : Nat → Int32} {cw ce : Nat} {cf : Value} {cn : Int32} (h : Cx E cc "RequestCutter" rm cB cI ad) (hd : decode cc pc = .ok (.getfield 9, 3)) (kk : V E k n (wX cB cI g T len I many K wd ft at_ sz cw ce cf cn) (pc + 3) lv (.ref (g 1) :: st)) : V E k n (wX cB cI g T len I many K wd ft at_ sz cw ce cf cn) pc lv (.ref (g 0) :: st) := v_get (C := "RequestCutter") (T := F_X) (N := 8) (ci := 0) h i_X 0 rfl rfl 0 (by decide) k_51 rfl rfl hd kk
theorem gX_length {T : Nat → Int32} {len : Nat} {I : Nat → Int32} {many : Nat} {K : Nat → Int32} {wd ft : Nat} {at_ sz : Nat → Int32} {cw ce : Nat} {cf : Value} {cn : Int32} (h : Cx E cc "RequestCutter" rm cB cI ad) (hd : decode cc pc = .ok (.getfield 27, 3)) (kk : V E k n (wX cB cI g T len I many K wd ft at_ sz cw ce cf cn) (pc + 3) lv (.int (nI len) :: st)) : V E k n (wX cB cI g T len I many K wd ft at_ sz cw ce cf cn) pc lv (.ref (g 0) :: st) := v_get (C := "RequestCutter") (T := F_X) (N := 8) (ci := 0) h i_X 0 rfl rfl 1 (by decide) k_52 rfl rfl hd kk
theorem pX_length {T : Nat → Int32} {len : Nat} {I : Nat → Int32} {many : Nat} {K : Nat → Int32} {wd ft : Nat} {at_ sz : Nat → Int32} {cw ce : Nat} {cf : Value} {cn : Int32} {z : Nat} (h : Cx E cc "RequestCutter" rm cB cI ad) (hd : decode cc pc = .ok (.putfield 27, 3)) (kk : V E k n (wX cB cI g T z I many K wd ft at_ sz cw ce cf cn) (pc + 3) lv st) : V E k n (wX cB cI g T len I many K wd ft at_ sz cw ce cf cn) pc lv (.int (nI z) :: .ref (g 0) :: st) := v_put (C := "RequestCutter") (T := F_X) (N := 8) (ci := 0) (t0 := t_X) (ty := .int) h i_X t_X_ok n_X 0 rfl rfl 1 (by decide) k_52 rfl rfl (by decide +kernel) rfl rfl (Nat.le_of_ble_eq_true rfl) rfl hd kk
theorem gX_input {T : Nat → Int32} {len : Nat} {I : Nat → Int32} {many : Nat} {K : Nat → Int32} {wd ft : Nat} {at_ sz : Nat → Int32} {cw ce : Nat} {cf : Value} {cn : Int32} (h : Cx E cc "RequestCutter" rm cB cI ad) (hd : decode cc pc = .ok (.getfield 14, 3)) (kk : V E k n (wX cB cI g T len I many K wd ft at_ sz cw ce cf cn) (pc + 3) lv (.ref (g 2) :: st)) : V E k n (wX cB cI g T len I many K wd ft at_ sz cw ce cf cn) pc lv (.ref (g 0) :: st) := v_get (C := "RequestCutter") (T := F_X) (N := 8) (ci := 0) h i_X 0 rfl rfl 2 (by decide) k_53 rfl rfl hd kk
theorem gX_many {T : Nat → Int32} {len : Nat} {I : Nat → Int32} {many : Nat} {K : Nat → Int32} {wd ft : Nat} {at_ sz : Nat → Int32} {cw ce : Nat} {cf : Value} {cn : Int32} (h : Cx E cc "RequestCutter" rm cB cI ad) (hd : decode cc pc = .ok (.getfield 31, 3)) (kk : V E k n (wX cB cI g T len I many K wd ft at_ sz cw ce cf cn) (pc + 3) lv (.int (nI many) :: st)) : V E k n (wX cB cI g T len I many K wd ft at_ sz cw ce cf cn) pc lv (.ref (g 0) :: st) := v_get (C := "RequestCutter") (T := F_X) (N := 8) (ci := 0) h i_X 0 rfl rfl 3 (by decide) k_54 rfl rfl hd kk
theorem pX_many {T : Nat → Int32} {len : Nat} {I : Nat → Int32} {many : Nat} {K : Nat → Int32} {wd ft : Nat} {at_ sz : Nat → Int32} {cw ce : Nat} {cf : Value} {cn : Int32} {z : Nat} (h : Cx E cc "RequestCutter" rm cB cI ad) (hd : decode cc pc = .ok (.putfield 31, 3)) (kk : V E k n (wX cB cI g T len I z K wd ft at_ sz cw ce cf cn) (pc + 3) lv st) : V E k n (wX cB cI g T len I many K wd ft at_ sz cw ce cf cn) pc lv (.int (nI z) :: .ref (g 0) :: st) := v_put (C := "RequestCutter") (T := F_X) (N := 8) (ci := 0) (t0 := t_X) (ty := .int) h i_X t_X_ok n_X 0 rfl rfl 3 (by decide) k_54 rfl rfl (by decide +kernel) rfl rfl (Nat.le_of_ble_eq_true rfl) rfl hd kk
theorem gX_cutter {T : Nat → Int32} {len : Nat} {I : Nat → Int32} {many : Nat} {K : Nat → Int32} {wd ft : Nat} {at_ sz : Nat → Int32} {cw ce : Nat} {cf : Value} {cn : Int32} (h : Cx E cc "RequestCutter" rm cB cI ad) (hd : decode cc pc = .ok (.getfield 20, 3)) (kk : V E k n (wX cB cI g T len I many K wd ft at_ sz cw ce cf cn) (pc + 3) lv (.ref (g 4) :: st)) : V E k n (wX cB cI g T len I many K wd ft at_ sz cw ce cf cn) pc lv (.ref (g 0) :: st) := v_get (C := "RequestCutter") (T := F_X) (N := 8) (ci := 0) h i_X 0 rfl rfl 4 (by decide) k_55 rfl rfl hd kk
theorem gX_kept {T : Nat → Int32} {len : Nat} {I : Nat → Int32} {many : Nat} {K : Nat → Int32} {wd ft : Nat} {at_ sz : Nat → Int32} {cw ce : Nat} {cf : Value} {cn : Int32} (h : Cx E cc "RequestCutter" rm cB cI ad) (hd : decode cc pc = .ok (.getfield 24, 3)) (kk : V E k n (wX cB cI g T len I many K wd ft at_ sz cw ce cf cn) (pc + 3) lv (.ref (g 3) :: st)) : V E k n (wX cB cI g T len I many K wd ft at_ sz cw ce cf cn) pc lv (.ref (g 0) :: st) := v_get (C := "RequestCutter") (T := F_X) (N := 8) (ci := 0) h i_X 0 rfl rfl 5 (by decide) k_56 rfl rfl hd kk
theorem gX_words {T : Nat → Int32} {len : Nat} {I : Nat → Int32} {many : Nat} {K : Nat → Int32} {wd ft : Nat} {at_ sz : Nat → Int32} {cw ce : Nat} {cf : Value} {cn : Int32} (h : Cx E cc "RequestCutter" rm cB cI ad) (hd : decode cc pc = .ok (.getfield 40, 3)) (kk : V E k n (wX cB cI g T len I many K wd ft at_ sz cw ce cf cn) (pc + 3) lv (.int (nI wd) :: st)) : V E k n (wX cB cI g T len I many K wd ft at_ sz cw ce cf cn) pc lv (.ref (g 0) :: st) := v_get (C := "RequestCutter") (T := F_X) (N := 8) (ci := 0) h i_X 0 rfl rfl 6 (by decide) k_57 rfl rfl hd kk
theorem pX_words {T : Nat → Int32} {len : Nat} {I : Nat → Int32} {many : Nat} {K : Nat → Int32} {wd ft : Nat} {at_ sz : Nat → Int32} {cw ce : Nat} {cf : Value} {cn : Int32} {z : Nat} (h : Cx E cc "RequestCutter" rm cB cI ad) (hd : decode cc pc = .ok (.putfield 40, 3)) (kk : V E k n (wX cB cI g T len I many K z ft at_ sz cw ce cf cn) (pc + 3) lv st) : V E k n (wX cB cI g T len I many K wd ft at_ sz cw ce cf cn) pc lv (.int (nI z) :: .ref (g 0) :: st) := v_put (C := "RequestCutter") (T := F_X) (N := 8) (ci := 0) (t0 := t_X) (ty := .int) h i_X t_X_ok n_X 0 rfl rfl 6 (by decide) k_57 rfl rfl (by decide +kernel) rfl rfl (Nat.le_of_ble_eq_true rfl) rfl hd kk
theorem gX_fault {T : Nat → Int32} {len : Nat} {I : Nat → Int32} {many : Nat} {K : Nat → Int32} {wd ft : Nat} {at_ sz : Nat → Int32} {cw ce : Nat} {cf : Value} {cn : Int32} (h : Cx E cc "RequestCutter" rm cB cI ad) (hd : decode cc pc = .ok (.getfield 43, 3)) (kk : V E k n (wX cB cI g T len I many K wd ft at_ sz cw ce cf cn) (pc + 3) lv (.int (nI ft) :: st)) : V E k n (wX cB cI g T len I many K wd ft at_ sz cw ce cf cn) pc lv (.ref (g 0) :: st) := v_get (C := "RequestCutter") (T := F_X) (N := 8) (ci := 0) h i_X 0 rfl rfl 7 (by decide) k_58 rfl rfl hd kk
theorem pX_fault {T : Nat → Int32} {len : Nat} {I : Nat → Int32} {many : Nat} {K : Nat → Int32} {wd ft : Nat} {at_ sz : Nat → Int32} {cw ce : Nat} {cf : Value} {cn : Int32} {z : Nat} (h : Cx E cc "RequestCutter" rm cB cI ad) (hd : decode cc pc = .ok (.putfield 43, 3)) (kk : V E k n (wX cB cI g T len I many K wd z at_ sz cw ce cf cn) (pc + 3) lv st) : V E k n (wX cB cI g T len I many K wd ft at_ sz cw ce cf cn) pc lv (.int (nI z) :: .ref (g 0) :: st) := v_put (C := "RequestCutter") (T := F_X) (N := 8) (ci := 0) (t0 := t_X) (ty := .int) h i_X t_X_ok n_X 0 rfl rfl 7 (by decide) k_58 rfl rfl (by decide +kernel) rfl rfl (Nat.le_of_ble_eq_true rfl) rfl hd kk
theorem gXC_at {T : Nat → Int32} {len : Nat} {I : Nat → Int32} {many : Nat} {K : Nat → Int32} {wd ft : Nat} {at_ sz : Nat → Int32} {cw ce : Nat} {cf : Value} {cn : Int32} (h : Cx E cc "RequestCutter" rm cB cI ad) (hd : decode cc pc = .ok (.getfield 82, 3)) (kk : V E k n (wX cB cI g T len I many K wd ft at_ sz cw ce cf cn) (pc + 3) lv (.ref (g 5) :: st)) : V E k n (wX cB cI g T len I many K wd ft at_ sz cw ce cf cn) pc lv (.ref (g 4) :: st) := v_get (C := "RequestCutter$Cutter") (T := F_C) (N := 6) (ci := 1) h i_C 4 rfl rfl 0 (by decide) k_26 rfl rfl hd kk
theorem gXC_size {T : Nat → Int32} {len : Nat} {I : Nat → Int32} {many : Nat} {K : Nat → Int32} {wd ft : Nat} {at_ sz : Nat → Int32} {cw ce : Nat} {cf : Value} {cn : Int32} (h : Cx E cc "RequestCutter" rm cB cI ad) (hd : decode cc pc = .ok (.getfield 78, 3)) (kk : V E k n (wX cB cI g T len I many K wd ft at_ sz cw ce cf cn) (pc + 3) lv (.ref (g 6) :: st)) : V E k n (wX cB cI g T len I many K wd ft at_ sz cw ce cf cn) pc lv (.ref (g 4) :: st) := v_get (C := "RequestCutter$Cutter") (T := F_C) (N := 6) (ci := 1) h i_C 4 rfl rfl 1 (by decide) k_28 rfl rfl hd kk
theorem gXC_words {T : Nat → Int32} {len : Nat} {I : Nat → Int32} {many : Nat} {K : Nat → Int32} {wd ft : Nat} {at_ sz : Nat → Int32} {cw ce : Nat} {cf : Value} {cn : Int32} (h : Cx E cc "RequestCutter" rm cB cI ad) (hd : decode cc pc = .ok (.getfield 70, 3)) (kk : V E k n (wX cB cI g T len I many K wd ft at_ sz cw ce cf cn) (pc + 3) lv (.int (nI cw) :: st)) : V E k n (wX cB cI g T len I many K wd ft at_ sz cw ce cf cn) pc lv (.ref (g 4) :: st) := v_get (C := "RequestCutter$Cutter") (T := F_C) (N := 6) (ci := 1) h i_C 4 rfl rfl 2 (by decide) k_30 rfl rfl hd kk
theorem gXC_end {T : Nat → Int32} {len : Nat} {I : Nat → Int32} {many : Nat} {K : Nat → Int32} {wd ft : Nat} {at_ sz : Nat → Int32} {cw ce : Nat} {cf : Value} {cn : Int32} (h : Cx E cc "RequestCutter" rm cB cI ad) (hd : decode cc pc = .ok (.getfield 71, 3)) (kk : V E k n (wX cB cI g T len I many K wd ft at_ sz cw ce cf cn) (pc + 3) lv (.int (nI ce) :: st)) : V E k n (wX cB cI g T len I many K wd ft at_ sz cw ce cf cn) pc lv (.ref (g 4) :: st) := v_get (C := "RequestCutter$Cutter") (T := F_C) (N := 6) (ci := 1) h i_C 4 rfl rfl 3 (by decide) k_32 rfl rfl hd kk
theorem gXC_fault {T : Nat → Int32} {len : Nat} {I : Nat → Int32} {many : Nat} {K : Nat → Int32} {wd ft : Nat} {at_ sz : Nat → Int32} {cw ce : Nat} {cf : Value} {cn : Int32} (h : Cx E cc "RequestCutter" rm cB cI ad) (hd : decode cc pc = .ok (.getfield 50, 3)) (kk : V E k n (wX cB cI g T len I many K wd ft at_ sz cw ce cf cn) (pc + 3) lv (cf :: st)) : V E k n (wX cB cI g T len I many K wd ft at_ sz cw ce cf cn) pc lv (.ref (g 4) :: st) := v_get (C := "RequestCutter$Cutter") (T := F_C) (N := 6) (ci := 1) h i_C 4 rfl rfl 4 (by decide) k_34 rfl rfl hd kk
theorem gC_at {T : Nat → Int32} {len : Nat} {I : Nat → Int32} {many : Nat} {K : Nat → Int32} {wd ft : Nat} {at_ sz : Nat → Int32} {cw ce : Nat} {cf : Value} {cn : Int32} (h : Cx E cc "RequestCutter$Cutter" rm cB cI ad) (hd : decode cc pc = .ok (.getfield 7, 3)) (kk : V E k n (wX cB cI g T len I many K wd ft at_ sz cw ce cf cn) (pc + 3) lv (.ref (g 5) :: st)) : V E k n (wX cB cI g T len I many K wd ft at_ sz cw ce cf cn) pc lv (.ref (g 4) :: st) := v_get (C := "RequestCutter$Cutter") (T := F_C) (N := 6) (ci := 1) h i_C 4 rfl rfl 0 (by decide) k_25 rfl rfl hd kk
theorem gC_size {T : Nat → Int32} {len : Nat} {I : Nat → Int32} {many : Nat} {K : Nat → Int32} {wd ft : Nat} {at_ sz : Nat → Int32} {cw ce : Nat} {cf : Value} {cn : Int32} (h : Cx E cc "RequestCutter$Cutter" rm cB cI ad) (hd : decode cc pc = .ok (.getfield 13, 3)) (kk : V E k n (wX cB cI g T len I many K wd ft at_ sz cw ce cf cn) (pc + 3) lv (.ref (g 6) :: st)) : V E k n (wX cB cI g T len I many K wd ft at_ sz cw ce cf cn) pc lv (.ref (g 4) :: st) := v_get (C := "RequestCutter$Cutter") (T := F_C) (N := 6) (ci := 1) h i_C 4 rfl rfl 1 (by decide) k_27 rfl rfl hd kk
theorem gC_words {T : Nat → Int32} {len : Nat} {I : Nat → Int32} {many : Nat} {K : Nat → Int32} {wd ft : Nat} {at_ sz : Nat → Int32} {cw ce : Nat} {cf : Value} {cn : Int32} (h : Cx E cc "RequestCutter$Cutter" rm cB cI ad) (hd : decode cc pc = .ok (.getfield 27, 3)) (kk : V E k n (wX cB cI g T len I many K wd ft at_ sz cw ce cf cn) (pc + 3) lv (.int (nI cw) :: st)) : V E k n (wX cB cI g T len I many K wd ft at_ sz cw ce cf cn) pc lv (.ref (g 4) :: st) := v_get (C := "RequestCutter$Cutter") (T := F_C) (N := 6) (ci := 1) h i_C 4 rfl rfl 2 (by decide) k_29 rfl rfl hd kk
theorem pC_words {T : Nat → Int32} {len : Nat} {I : Nat → Int32} {many : Nat} {K : Nat → Int32} {wd ft : Nat} {at_ sz : Nat → Int32} {cw ce : Nat} {cf : Value} {cn : Int32} {z : Nat} (h : Cx E cc "RequestCutter$Cutter" rm cB cI ad) (hd : decode cc pc = .ok (.putfield 27, 3)) (kk : V E k n (wX cB cI g T len I many K wd ft at_ sz z ce cf cn) (pc + 3) lv st) : V E k n (wX cB cI g T len I many K wd ft at_ sz cw ce cf cn) pc lv (.int (nI z) :: .ref (g 4) :: st) := v_put (C := "RequestCutter$Cutter") (T := F_C) (N := 6) (ci := 1) (t0 := t_C) (ty := .int) h i_C t_C_ok n_C 4 rfl rfl 2 (by decide) k_29 rfl rfl (by decide +kernel) rfl rfl (Nat.le_of_ble_eq_true rfl) rfl hd kk
theorem gC_end {T : Nat → Int32} {len : Nat} {I : Nat → Int32} {many : Nat} {K : Nat → Int32} {wd ft : Nat} {at_ sz : Nat → Int32} {cw ce : Nat} {cf : Value} {cn : Int32} (h : Cx E cc "RequestCutter$Cutter" rm cB cI ad) (hd : decode cc pc = .ok (.getfield 24, 3)) (kk : V E k n (wX cB cI g T len I many K wd ft at_ sz cw ce cf cn) (pc + 3) lv (.int (nI ce) :: st)) : V E k n (wX cB cI g T len I many K wd ft at_ sz cw ce cf cn) pc lv (.ref (g 4) :: st) := v_get (C := "RequestCutter$Cutter") (T := F_C) (N := 6) (ci := 1) h i_C 4 rfl rfl 3 (by decide) k_31 rfl rfl hd kk
theorem pC_end {T : Nat → Int32} {len : Nat} {I : Nat → Int32} {many : Nat} {K : Nat → Int32} {wd ft : Nat} {at_ sz : Nat → Int32} {cw ce : Nat} {cf : Value} {cn : Int32} {z : Nat} (h : Cx E cc "RequestCutter$Cutter" rm cB cI ad) (hd : decode cc pc = .ok (.putfield 24, 3)) (kk : V E k n (wX cB cI g T len I many K wd ft at_ sz cw z cf cn) (pc + 3) lv st) : V E k n (wX cB cI g T len I many K wd ft at_ sz cw ce cf cn) pc lv (.int (nI z) :: .ref (g 4) :: st) := v_put (C := "RequestCutter$Cutter") (T := F_C) (N := 6) (ci := 1) (t0 := t_C) (ty := .int) h i_C t_C_ok n_C 4 rfl rfl 3 (by decide) k_31 rfl rfl (by decide +kernel) rfl rfl (Nat.le_of_ble_eq_true rfl) rfl hd kk
theorem gC_fault {T : Nat → Int32} {len : Nat} {I : Nat → Int32} {many : Nat} {K : Nat → Int32} {wd ft : Nat} {at_ sz : Nat → Int32} {cw ce : Nat} {cf : Value} {cn : Int32} (h : Cx E cc "RequestCutter$Cutter" rm cB cI ad) (hd : decode cc pc = .ok (.getfield 16, 3)) (kk : V E k n (wX cB cI g T len I many K wd ft at_ sz cw ce cf cn) (pc + 3) lv (cf :: st)) : V E k n (wX cB cI g T len I many K wd ft at_ sz cw ce cf cn) pc lv (.ref (g 4) :: st) := v_get (C := "RequestCutter$Cutter") (T := F_C) (N := 6) (ci := 1) h i_C 4 rfl rfl 4 (by decide) k_33 rfl rfl hd kk
theorem pC_fault {T : Nat → Int32} {len : Nat} {I : Nat → Int32} {many : Nat} {K : Nat → Int32} {wd ft : Nat} {at_ sz : Nat → Int32} {cw ce : Nat} {cf : Value} {cn : Int32} {z : Nat} (h : Cx E cc "RequestCutter$Cutter" rm cB cI ad) (hd : decode cc pc = .ok (.putfield 16, 3)) (kk : V E k n (wX cB cI g T len I many K wd ft at_ sz cw ce (.ref z) cn) (pc + 3) lv st) : V E k n (wX cB cI g T len I many K wd ft at_ sz cw ce cf cn) pc lv (.ref z :: .ref (g 4) :: st) := v_put (C := "RequestCutter$Cutter") (T := F_C) (N := 6) (ci := 1) (t0 := t_C) (ty := .object "java/lang/String") h i_C t_C_ok n_C 4 rfl rfl 4 (by decide) k_33 rfl rfl (by decide +kernel) rfl rfl (Nat.le_of_ble_eq_true rfl) rfl hd kk
theorem pC_faultN {T : Nat → Int32} {len : Nat} {I : Nat → Int32} {many : Nat} {K : Nat → Int32} {wd ft : Nat} {at_ sz : Nat → Int32} {cw ce : Nat} {cf : Value} {cn : Int32}  (h : Cx E cc "RequestCutter$Cutter" rm cB cI ad) (hd : decode cc pc = .ok (.putfield 16, 3)) (kk : V E k n (wX cB cI g T len I many K wd ft at_ sz cw ce .null cn) (pc + 3) lv st) : V E k n (wX cB cI g T len I many K wd ft at_ sz cw ce cf cn) pc lv (.null :: .ref (g 4) :: st) := v_put (C := "RequestCutter$Cutter") (T := F_C) (N := 6) (ci := 1) (t0 := t_C) (ty := .object "java/lang/String") h i_C t_C_ok n_C 4 rfl rfl 4 (by decide) k_33 rfl rfl (by decide +kernel) rfl rfl (Nat.le_of_ble_eq_true rfl) rfl hd kk
theorem gC_number {T : Nat → Int32} {len : Nat} {I : Nat → Int32} {many : Nat} {K : Nat → Int32} {wd ft : Nat} {at_ sz : Nat → Int32} {cw ce : Nat} {cf : Value} {cn : Int32} (h : Cx E cc "RequestCutter$Cutter" rm cB cI ad) (hd : decode cc pc = .ok (.getfield 20, 3)) (kk : V E k n (wX cB cI g T len I many K wd ft at_ sz cw ce cf cn) (pc + 3) lv (.int cn :: st)) : V E k n (wX cB cI g T len I many K wd ft at_ sz cw ce cf cn) pc lv (.ref (g 4) :: st) := v_get (C := "RequestCutter$Cutter") (T := F_C) (N := 6) (ci := 1) h i_C 4 rfl rfl 5 (by decide) k_35 rfl rfl hd kk
theorem pC_number {T : Nat → Int32} {len : Nat} {I : Nat → Int32} {many : Nat} {K : Nat → Int32} {wd ft : Nat} {at_ sz : Nat → Int32} {cw ce : Nat} {cf : Value} {cn : Int32} {z : Int32} (h : Cx E cc "RequestCutter$Cutter" rm cB cI ad) (hd : decode cc pc = .ok (.putfield 20, 3)) (kk : V E k n (wX cB cI g T len I many K wd ft at_ sz cw ce cf z) (pc + 3) lv st) : V E k n (wX cB cI g T len I many K wd ft at_ sz cw ce cf cn) pc lv (.int z :: .ref (g 4) :: st) := v_put (C := "RequestCutter$Cutter") (T := F_C) (N := 6) (ci := 1) (t0 := t_C) (ty := .int) h i_C t_C_ok n_C 4 rfl rfl 5 (by decide) k_35 rfl rfl (by decide +kernel) rfl rfl (Nat.le_of_ble_eq_true rfl) rfl hd kk
theorem gM_tape {T I K F L : Nat → Int32} {tp wt wd ks ft at_ : Nat} (h : Cx E cc "RequestCutterModel" rm cB cI ad) (hd : decode cc pc = .ok (.getfield 7, 3)) (kk : V E k n (wM cB cI g T I K F L tp wt wd ks ft at_) (pc + 3) lv (.ref (g 1) :: st)) : V E k n (wM cB cI g T I K F L tp wt wd ks ft at_) pc lv (.ref (g 0) :: st) := v_get (C := "RequestCutterModel") (T := F_M) (N := 11) (ci := 2) h i_M 0 rfl rfl 0 (by decide) k_211 rfl rfl hd kk
theorem gM_input {T I K F L : Nat → Int32} {tp wt wd ks ft at_ : Nat} (h : Cx E cc "RequestCutterModel" rm cB cI ad) (hd : decode cc pc = .ok (.getfield 14, 3)) (kk : V E k n (wM cB cI g T I K F L tp wt wd ks ft at_) (pc + 3) lv (.ref (g 2) :: st)) : V E k n (wM cB cI g T I K F L tp wt wd ks ft at_) pc lv (.ref (g 0) :: st) := v_get (C := "RequestCutterModel") (T := F_M) (N := 11) (ci := 2) h i_M 0 rfl rfl 1 (by decide) k_212 rfl rfl hd kk
theorem gM_kept {T I K F L : Nat → Int32} {tp wt wd ks ft at_ : Nat} (h : Cx E cc "RequestCutterModel" rm cB cI ad) (hd : decode cc pc = .ok (.getfield 17, 3)) (kk : V E k n (wM cB cI g T I K F L tp wt wd ks ft at_) (pc + 3) lv (.ref (g 3) :: st)) : V E k n (wM cB cI g T I K F L tp wt wd ks ft at_) pc lv (.ref (g 0) :: st) := v_get (C := "RequestCutterModel") (T := F_M) (N := 11) (ci := 2) h i_M 0 rfl rfl 2 (by decide) k_213 rfl rfl hd kk
theorem gM_from {T I K F L : Nat → Int32} {tp wt wd ks ft at_ : Nat} (h : Cx E cc "RequestCutterModel" rm cB cI ad) (hd : decode cc pc = .ok (.getfield 20, 3)) (kk : V E k n (wM cB cI g T I K F L tp wt wd ks ft at_) (pc + 3) lv (.ref (g 4) :: st)) : V E k n (wM cB cI g T I K F L tp wt wd ks ft at_) pc lv (.ref (g 0) :: st) := v_get (C := "RequestCutterModel") (T := F_M) (N := 11) (ci := 2) h i_M 0 rfl rfl 3 (by decide) k_214 rfl rfl hd kk
theorem gM_long1 {T I K F L : Nat → Int32} {tp wt wd ks ft at_ : Nat} (h : Cx E cc "RequestCutterModel" rm cB cI ad) (hd : decode cc pc = .ok (.getfield 24, 3)) (kk : V E k n (wM cB cI g T I K F L tp wt wd ks ft at_) (pc + 3) lv (.ref (g 5) :: st)) : V E k n (wM cB cI g T I K F L tp wt wd ks ft at_) pc lv (.ref (g 0) :: st) := v_get (C := "RequestCutterModel") (T := F_M) (N := 11) (ci := 2) h i_M 0 rfl rfl 4 (by decide) k_215 rfl rfl hd kk
theorem gM_taped {T I K F L : Nat → Int32} {tp wt wd ks ft at_ : Nat} (h : Cx E cc "RequestCutterModel" rm cB cI ad) (hd : decode cc pc = .ok (.getfield 27, 3)) (kk : V E k n (wM cB cI g T I K F L tp wt wd ks ft at_) (pc + 3) lv (.int (nI tp) :: st)) : V E k n (wM cB cI g T I K F L tp wt wd ks ft at_) pc lv (.ref (g 0) :: st) := v_get (C := "RequestCutterModel") (T := F_M) (N := 11) (ci := 2) h i_M 0 rfl rfl 5 (by decide) k_216 rfl rfl hd kk
theorem pM_taped {T I K F L : Nat → Int32} {tp wt wd ks ft at_ : Nat} {z : Nat} (h : Cx E cc "RequestCutterModel" rm cB cI ad) (hd : decode cc pc = .ok (.putfield 27, 3)) (kk : V E k n (wM cB cI g T I K F L z wt wd ks ft at_) (pc + 3) lv st) : V E k n (wM cB cI g T I K F L tp wt wd ks ft at_) pc lv (.int (nI z) :: .ref (g 0) :: st) := v_put (C := "RequestCutterModel") (T := F_M) (N := 11) (ci := 2) (t0 := t_M) (ty := .int) h i_M t_M_ok n_M 0 rfl rfl 5 (by decide) k_216 rfl rfl (by decide +kernel) rfl rfl (Nat.le_of_ble_eq_true rfl) rfl hd kk
theorem gM_waits {T I K F L : Nat → Int32} {tp wt wd ks ft at_ : Nat} (h : Cx E cc "RequestCutterModel" rm cB cI ad) (hd : decode cc pc = .ok (.getfield 35, 3)) (kk : V E k n (wM cB cI g T I K F L tp wt wd ks ft at_) (pc + 3) lv (.int (nI wt) :: st)) : V E k n (wM cB cI g T I K F L tp wt wd ks ft at_) pc lv (.ref (g 0) :: st) := v_get (C := "RequestCutterModel") (T := F_M) (N := 11) (ci := 2) h i_M 0 rfl rfl 6 (by decide) k_217 rfl rfl hd kk
theorem pM_waits {T I K F L : Nat → Int32} {tp wt wd ks ft at_ : Nat} {z : Nat} (h : Cx E cc "RequestCutterModel" rm cB cI ad) (hd : decode cc pc = .ok (.putfield 35, 3)) (kk : V E k n (wM cB cI g T I K F L tp z wd ks ft at_) (pc + 3) lv st) : V E k n (wM cB cI g T I K F L tp wt wd ks ft at_) pc lv (.int (nI z) :: .ref (g 0) :: st) := v_put (C := "RequestCutterModel") (T := F_M) (N := 11) (ci := 2) (t0 := t_M) (ty := .int) h i_M t_M_ok n_M 0 rfl rfl 6 (by decide) k_217 rfl rfl (by decide +kernel) rfl rfl (Nat.le_of_ble_eq_true rfl) rfl hd kk
theorem gM_words {T I K F L : Nat → Int32} {tp wt wd ks ft at_ : Nat} (h : Cx E cc "RequestCutterModel" rm cB cI ad) (hd : decode cc pc = .ok (.getfield 46, 3)) (kk : V E k n (wM cB cI g T I K F L tp wt wd ks ft at_) (pc + 3) lv (.int (nI wd) :: st)) : V E k n (wM cB cI g T I K F L tp wt wd ks ft at_) pc lv (.ref (g 0) :: st) := v_get (C := "RequestCutterModel") (T := F_M) (N := 11) (ci := 2) h i_M 0 rfl rfl 7 (by decide) k_218 rfl rfl hd kk
theorem pM_words {T I K F L : Nat → Int32} {tp wt wd ks ft at_ : Nat} {z : Nat} (h : Cx E cc "RequestCutterModel" rm cB cI ad) (hd : decode cc pc = .ok (.putfield 46, 3)) (kk : V E k n (wM cB cI g T I K F L tp wt z ks ft at_) (pc + 3) lv st) : V E k n (wM cB cI g T I K F L tp wt wd ks ft at_) pc lv (.int (nI z) :: .ref (g 0) :: st) := v_put (C := "RequestCutterModel") (T := F_M) (N := 11) (ci := 2) (t0 := t_M) (ty := .int) h i_M t_M_ok n_M 0 rfl rfl 7 (by decide) k_218 rfl rfl (by decide +kernel) rfl rfl (Nat.le_of_ble_eq_true rfl) rfl hd kk
theorem gM_keptSize {T I K F L : Nat → Int32} {tp wt wd ks ft at_ : Nat} (h : Cx E cc "RequestCutterModel" rm cB cI ad) (hd : decode cc pc = .ok (.getfield 49, 3)) (kk : V E k n (wM cB cI g T I K F L tp wt wd ks ft at_) (pc + 3) lv (.int (nI ks) :: st)) : V E k n (wM cB cI g T I K F L tp wt wd ks ft at_) pc lv (.ref (g 0) :: st) := v_get (C := "RequestCutterModel") (T := F_M) (N := 11) (ci := 2) h i_M 0 rfl rfl 8 (by decide) k_219 rfl rfl hd kk
theorem pM_keptSize {T I K F L : Nat → Int32} {tp wt wd ks ft at_ : Nat} {z : Nat} (h : Cx E cc "RequestCutterModel" rm cB cI ad) (hd : decode cc pc = .ok (.putfield 49, 3)) (kk : V E k n (wM cB cI g T I K F L tp wt wd z ft at_) (pc + 3) lv st) : V E k n (wM cB cI g T I K F L tp wt wd ks ft at_) pc lv (.int (nI z) :: .ref (g 0) :: st) := v_put (C := "RequestCutterModel") (T := F_M) (N := 11) (ci := 2) (t0 := t_M) (ty := .int) h i_M t_M_ok n_M 0 rfl rfl 8 (by decide) k_219 rfl rfl (by decide +kernel) rfl rfl (Nat.le_of_ble_eq_true rfl) rfl hd kk
theorem gM_fault {T I K F L : Nat → Int32} {tp wt wd ks ft at_ : Nat} (h : Cx E cc "RequestCutterModel" rm cB cI ad) (hd : decode cc pc = .ok (.getfield 56, 3)) (kk : V E k n (wM cB cI g T I K F L tp wt wd ks ft at_) (pc + 3) lv (.int (nI ft) :: st)) : V E k n (wM cB cI g T I K F L tp wt wd ks ft at_) pc lv (.ref (g 0) :: st) := v_get (C := "RequestCutterModel") (T := F_M) (N := 11) (ci := 2) h i_M 0 rfl rfl 9 (by decide) k_220 rfl rfl hd kk
theorem pM_fault {T I K F L : Nat → Int32} {tp wt wd ks ft at_ : Nat} {z : Nat} (h : Cx E cc "RequestCutterModel" rm cB cI ad) (hd : decode cc pc = .ok (.putfield 56, 3)) (kk : V E k n (wM cB cI g T I K F L tp wt wd ks z at_) (pc + 3) lv st) : V E k n (wM cB cI g T I K F L tp wt wd ks ft at_) pc lv (.int (nI z) :: .ref (g 0) :: st) := v_put (C := "RequestCutterModel") (T := F_M) (N := 11) (ci := 2) (t0 := t_M) (ty := .int) h i_M t_M_ok n_M 0 rfl rfl 9 (by decide) k_220 rfl rfl (by decide +kernel) rfl rfl (Nat.le_of_ble_eq_true rfl) rfl hd kk
theorem gM_at {T I K F L : Nat → Int32} {tp wt wd ks ft at_ : Nat} (h : Cx E cc "RequestCutterModel" rm cB cI ad) (hd : decode cc pc = .ok (.getfield 41, 3)) (kk : V E k n (wM cB cI g T I K F L tp wt wd ks ft at_) (pc + 3) lv (.int (nI at_) :: st)) : V E k n (wM cB cI g T I K F L tp wt wd ks ft at_) pc lv (.ref (g 0) :: st) := v_get (C := "RequestCutterModel") (T := F_M) (N := 11) (ci := 2) h i_M 0 rfl rfl 10 (by decide) k_221 rfl rfl hd kk
theorem pM_at {T I K F L : Nat → Int32} {tp wt wd ks ft at_ : Nat} {z : Nat} (h : Cx E cc "RequestCutterModel" rm cB cI ad) (hd : decode cc pc = .ok (.putfield 41, 3)) (kk : V E k n (wM cB cI g T I K F L tp wt wd ks ft z) (pc + 3) lv st) : V E k n (wM cB cI g T I K F L tp wt wd ks ft at_) pc lv (.int (nI z) :: .ref (g 0) :: st) := v_put (C := "RequestCutterModel") (T := F_M) (N := 11) (ci := 2) (t0 := t_M) (ty := .int) h i_M t_M_ok n_M 0 rfl rfl 10 (by decide) k_221 rfl rfl (by decide +kernel) rfl rfl (Nat.le_of_ble_eq_true rfl) rfl hd kk
theorem lX_input {T : Nat → Int32} {len : Nat} {I : Nat → Int32} {many : Nat} {K : Nat → Int32} {wd ft : Nat} {at_ sz : Nat → Int32} {cw ce : Nat} {cf : Value} {cn : Int32} {j : Nat} {own : String} (h : Cx E cc own rm cB cI ad) (hd : decode cc pc = .ok (.baload, 1)) (kk : V E k n (wX cB cI g T len I many K wd ft at_ sz cw ce cf cn) (pc + 1) lv (.int (I j) :: st)) (hj : j < 65536 := by omega) : V E k n (wX cB cI g T len I many K wd ft at_ sz cw ce cf cn) pc lv (.int (nI j) :: .ref (g 2) :: st) := v_bald h 2 rfl hj (by decide) hd kk
theorem lX_kept {T : Nat → Int32} {len : Nat} {I : Nat → Int32} {many : Nat} {K : Nat → Int32} {wd ft : Nat} {at_ sz : Nat → Int32} {cw ce : Nat} {cf : Value} {cn : Int32} {j : Nat} {own : String} (h : Cx E cc own rm cB cI ad) (hd : decode cc pc = .ok (.baload, 1)) (kk : V E k n (wX cB cI g T len I many K wd ft at_ sz cw ce cf cn) (pc + 1) lv (.int (K j) :: st)) (hj : j < 65536 := by omega) : V E k n (wX cB cI g T len I many K wd ft at_ sz cw ce cf cn) pc lv (.int (nI j) :: .ref (g 3) :: st) := v_bald h 3 rfl hj (by decide) hd kk
theorem lX_at {T : Nat → Int32} {len : Nat} {I : Nat → Int32} {many : Nat} {K : Nat → Int32} {wd ft : Nat} {at_ sz : Nat → Int32} {cw ce : Nat} {cf : Value} {cn : Int32} {j : Nat} {own : String} (h : Cx E cc own rm cB cI ad) (hd : decode cc pc = .ok (.iaload, 1)) (kk : V E k n (wX cB cI g T len I many K wd ft at_ sz cw ce cf cn) (pc + 1) lv (.int (at_ j) :: st)) (hj : j < 1100 := by omega) : V E k n (wX cB cI g T len I many K wd ft at_ sz cw ce cf cn) pc lv (.int (nI j) :: .ref (g 5) :: st) := v_iald h 5 rfl hj (by decide) hd kk
theorem lX_size {T : Nat → Int32} {len : Nat} {I : Nat → Int32} {many : Nat} {K : Nat → Int32} {wd ft : Nat} {at_ sz : Nat → Int32} {cw ce : Nat} {cf : Value} {cn : Int32} {j : Nat} {own : String} (h : Cx E cc own rm cB cI ad) (hd : decode cc pc = .ok (.iaload, 1)) (kk : V E k n (wX cB cI g T len I many K wd ft at_ sz cw ce cf cn) (pc + 1) lv (.int (sz j) :: st)) (hj : j < 1100 := by omega) : V E k n (wX cB cI g T len I many K wd ft at_ sz cw ce cf cn) pc lv (.int (nI j) :: .ref (g 6) :: st) := v_iald h 6 rfl hj (by decide) hd kk
theorem sX_tape {T : Nat → Int32} {len : Nat} {I : Nat → Int32} {many : Nat} {K : Nat → Int32} {wd ft : Nat} {at_ sz : Nat → Int32} {cw ce : Nat} {cf : Value} {cn : Int32} {j : Nat} {x y : Int32} {own : String} (h : Cx E cc own rm cB cI ad) (hd : decode cc pc = .ok (.bastore, 1)) (hy : vp_nar .byte x = y) (kk : V E k n (wX cB cI g (upd T j y) len I many K wd ft at_ sz cw ce cf cn) (pc + 1) lv st) (hj : j < 10240 := by omega) : V E k n (wX cB cI g T len I many K wd ft at_ sz cw ce cf cn) pc lv (.int x :: .int (nI j) :: .ref (g 1) :: st) := v_bast h 1 rfl hj (by decide) hy rfl hd kk
theorem sX_at {T : Nat → Int32} {len : Nat} {I : Nat → Int32} {many : Nat} {K : Nat → Int32} {wd ft : Nat} {at_ sz : Nat → Int32} {cw ce : Nat} {cf : Value} {cn : Int32} {j : Nat} {x y : Int32} {own : String} (h : Cx E cc own rm cB cI ad) (hd : decode cc pc = .ok (.iastore, 1)) (hy : x = y) (kk : V E k n (wX cB cI g T len I many K wd ft (upd at_ j y) sz cw ce cf cn) (pc + 1) lv st) (hj : j < 1100 := by omega) : V E k n (wX cB cI g T len I many K wd ft at_ sz cw ce cf cn) pc lv (.int x :: .int (nI j) :: .ref (g 5) :: st) := v_iast h 5 rfl hj (by decide) hy rfl hd kk
theorem sX_size {T : Nat → Int32} {len : Nat} {I : Nat → Int32} {many : Nat} {K : Nat → Int32} {wd ft : Nat} {at_ sz : Nat → Int32} {cw ce : Nat} {cf : Value} {cn : Int32} {j : Nat} {x y : Int32} {own : String} (h : Cx E cc own rm cB cI ad) (hd : decode cc pc = .ok (.iastore, 1)) (hy : x = y) (kk : V E k n (wX cB cI g T len I many K wd ft at_ (upd sz j y) cw ce cf cn) (pc + 1) lv st) (hj : j < 1100 := by omega) : V E k n (wX cB cI g T len I many K wd ft at_ sz cw ce cf cn) pc lv (.int x :: .int (nI j) :: .ref (g 6) :: st) := v_iast h 6 rfl hj (by decide) hy rfl hd kk
theorem lM_tape {T I K F L : Nat → Int32} {tp wt wd ks ft at_ : Nat} {j : Nat} {own : String} (h : Cx E cc own rm cB cI ad) (hd : decode cc pc = .ok (.baload, 1)) (kk : V E k n (wM cB cI g T I K F L tp wt wd ks ft at_) (pc + 1) lv (.int (T j) :: st)) (hj : j < 10240 := by omega) : V E k n (wM cB cI g T I K F L tp wt wd ks ft at_) pc lv (.int (nI j) :: .ref (g 1) :: st) := v_bald h 1 rfl hj (by decide) hd kk
theorem lM_input {T I K F L : Nat → Int32} {tp wt wd ks ft at_ : Nat} {j : Nat} {own : String} (h : Cx E cc own rm cB cI ad) (hd : decode cc pc = .ok (.baload, 1)) (kk : V E k n (wM cB cI g T I K F L tp wt wd ks ft at_) (pc + 1) lv (.int (I j) :: st)) (hj : j < 65536 := by omega) : V E k n (wM cB cI g T I K F L tp wt wd ks ft at_) pc lv (.int (nI j) :: .ref (g 2) :: st) := v_bald h 2 rfl hj (by decide) hd kk
theorem lM_kept {T I K F L : Nat → Int32} {tp wt wd ks ft at_ : Nat} {j : Nat} {own : String} (h : Cx E cc own rm cB cI ad) (hd : decode cc pc = .ok (.baload, 1)) (kk : V E k n (wM cB cI g T I K F L tp wt wd ks ft at_) (pc + 1) lv (.int (K j) :: st)) (hj : j < 65536 := by omega) : V E k n (wM cB cI g T I K F L tp wt wd ks ft at_) pc lv (.int (nI j) :: .ref (g 3) :: st) := v_bald h 3 rfl hj (by decide) hd kk
theorem lM_from {T I K F L : Nat → Int32} {tp wt wd ks ft at_ : Nat} {j : Nat} {own : String} (h : Cx E cc own rm cB cI ad) (hd : decode cc pc = .ok (.iaload, 1)) (kk : V E k n (wM cB cI g T I K F L tp wt wd ks ft at_) (pc + 1) lv (.int (F j) :: st)) (hj : j < 1025 := by omega) : V E k n (wM cB cI g T I K F L tp wt wd ks ft at_) pc lv (.int (nI j) :: .ref (g 4) :: st) := v_iald h 4 rfl hj (by decide) hd kk
theorem lM_long1 {T I K F L : Nat → Int32} {tp wt wd ks ft at_ : Nat} {j : Nat} {own : String} (h : Cx E cc own rm cB cI ad) (hd : decode cc pc = .ok (.iaload, 1)) (kk : V E k n (wM cB cI g T I K F L tp wt wd ks ft at_) (pc + 1) lv (.int (L j) :: st)) (hj : j < 1025 := by omega) : V E k n (wM cB cI g T I K F L tp wt wd ks ft at_) pc lv (.int (nI j) :: .ref (g 5) :: st) := v_iald h 5 rfl hj (by decide) hd kk
theorem sM_tape {T I K F L : Nat → Int32} {tp wt wd ks ft at_ : Nat} {j : Nat} {x y : Int32} {own : String} (h : Cx E cc own rm cB cI ad) (hd : decode cc pc = .ok (.bastore, 1)) (hy : vp_nar .byte x = y) (kk : V E k n (wM cB cI g (upd T j y) I K F L tp wt wd ks ft at_) (pc + 1) lv st) (hj : j < 10240 := by omega) : V E k n (wM cB cI g T I K F L tp wt wd ks ft at_) pc lv (.int x :: .int (nI j) :: .ref (g 1) :: st) := v_bast h 1 rfl hj (by decide) hy rfl hd kk
theorem sM_input {T I K F L : Nat → Int32} {tp wt wd ks ft at_ : Nat} {j : Nat} {x y : Int32} {own : String} (h : Cx E cc own rm cB cI ad) (hd : decode cc pc = .ok (.bastore, 1)) (hy : vp_nar .byte x = y) (kk : V E k n (wM cB cI g T (upd I j y) K F L tp wt wd ks ft at_) (pc + 1) lv st) (hj : j < 65536 := by omega) : V E k n (wM cB cI g T I K F L tp wt wd ks ft at_) pc lv (.int x :: .int (nI j) :: .ref (g 2) :: st) := v_bast h 2 rfl hj (by decide) hy rfl hd kk
theorem sM_kept {T I K F L : Nat → Int32} {tp wt wd ks ft at_ : Nat} {j : Nat} {x y : Int32} {own : String} (h : Cx E cc own rm cB cI ad) (hd : decode cc pc = .ok (.bastore, 1)) (hy : vp_nar .byte x = y) (kk : V E k n (wM cB cI g T I (upd K j y) F L tp wt wd ks ft at_) (pc + 1) lv st) (hj : j < 65536 := by omega) : V E k n (wM cB cI g T I K F L tp wt wd ks ft at_) pc lv (.int x :: .int (nI j) :: .ref (g 3) :: st) := v_bast h 3 rfl hj (by decide) hy rfl hd kk
theorem sM_from {T I K F L : Nat → Int32} {tp wt wd ks ft at_ : Nat} {j : Nat} {x y : Int32} {own : String} (h : Cx E cc own rm cB cI ad) (hd : decode cc pc = .ok (.iastore, 1)) (hy : x = y) (kk : V E k n (wM cB cI g T I K (upd F j y) L tp wt wd ks ft at_) (pc + 1) lv st) (hj : j < 1025 := by omega) : V E k n (wM cB cI g T I K F L tp wt wd ks ft at_) pc lv (.int x :: .int (nI j) :: .ref (g 4) :: st) := v_iast h 4 rfl hj (by decide) hy rfl hd kk
theorem sM_long1 {T I K F L : Nat → Int32} {tp wt wd ks ft at_ : Nat} {j : Nat} {x y : Int32} {own : String} (h : Cx E cc own rm cB cI ad) (hd : decode cc pc = .ok (.iastore, 1)) (hy : x = y) (kk : V E k n (wM cB cI g T I K F (upd L j y) tp wt wd ks ft at_) (pc + 1) lv st) (hj : j < 1025 := by omega) : V E k n (wM cB cI g T I K F L tp wt wd ks ft at_) pc lv (.int x :: .int (nI j) :: .ref (g 5) :: st) := v_iast h 5 rfl hj (by decide) hy rfl hd kk
end VW
end
section
/-! the plain law: what a cut finds, in numbers alone -/
def Fst (P : Nat → Prop) (lo q : Nat) : Prop := lo ≤ q ∧ (∀ j, lo ≤ j → j < q → P j) ∧ ¬ P q
theorem Fst.uniq {P : Nat → Prop} {lo a b : Nat} (ha : Fst P lo a) (hb : Fst P lo b) : a = b := by
  rcases Nat.lt_trichotomy a b with h | h | h
  · exact absurd (hb.2.1 a ha.1 h) ha.2.2
  · exact h
  · exact absurd (ha.2.1 b hb.1 h) hb.2.2
noncomputable def fs (P : Nat → Prop) (lo : Nat) : Nat := Classical.epsilon (Fst P lo)
theorem fs_eq {P : Nat → Prop} {lo q : Nat} (h : Fst P lo q) : fs P lo = q := Fst.uniq (Classical.epsilon_spec ⟨q, h⟩) h
theorem Fst.ex {P : Nat → Prop} {b : Nat} (hb : ∀ j, b ≤ j → ¬ P j) : ∀ (d lo : Nat), b ≤ lo + d → ∃ q, Fst P lo q := by
  intro d
  induction d with
  | zero => intro lo h; exact ⟨lo, Nat.le_refl _, fun j h1 h2 => by omega, hb lo (by omega)⟩
  | succ d ih =>
    intro lo h
    by_cases hp : P lo
    · obtain ⟨q, h1, h2, h3⟩ := ih (lo + 1) (by omega)
      refine ⟨q, by omega, fun j g1 g2 => ?_, h3⟩
      rcases Nat.eq_or_lt_of_le g1 with e | e
      · rw [← e]; exact hp
      · exact h2 j e g2
    · exact ⟨lo, Nat.le_refl _, fun j h1 h2 => by omega, hp⟩
theorem fs_spec {P : Nat → Prop} {b : Nat} (hb : ∀ j, b ≤ j → ¬ P j) (lo : Nat) : Fst P lo (fs P lo) := by
  obtain ⟨q, hq⟩ := Fst.ex hb b lo (by omega)
  rw [fs_eq hq]; exact hq
theorem Fst.step {P : Nat → Prop} {lo q : Nat} (hp : P lo) (h : Fst P (lo + 1) q) : Fst P lo q := by
  refine ⟨by have := h.1; omega, fun j g1 g2 => ?_, h.2.2⟩
  rcases Nat.eq_or_lt_of_le g1 with e | e
  · rw [← e]; exact hp
  · exact h.2.1 j e g2
-- a line with a number
def lnP (f : Nat → Int32) (n p q : Nat) : Prop := q + 1 < n ∧ q + 1 < p + 16 ∧ ¬ (f q = nI 13 ∧ f (q + 1) = nI 10)
noncomputable def lq (f : Nat → Int32) (n p : Nat) : Nat := fs (lnP f n p) (p + 1)
theorem lq_spec (f : Nat → Int32) (n p : Nat) : Fst (lnP f n p) (p + 1) (lq f n p) := fs_spec (b := n) (fun j h q => by have := q.1; omega) (p + 1)
def lwh (f : Nat → Int32) (n p : Nat) : Prop := lq f n p + 1 < n ∧ lq f n p + 1 < p + 16
def lk (f : Nat → Int32) (p : Nat) : Nat := if f (p + 1) = nI 45 then p + 2 else p + 1
def ldg (f : Nat → Int32) (a b : Nat) : Prop := ∀ i, a ≤ i → i < b → nI 48 ≤ f i ∧ f i ≤ nI 57
def lgd (f : Nat → Int32) (n p : Nat) : Prop := lk f p < lq f n p ∧ lq f n p ≤ lk f p + 6 ∧ ldg f (lk f p) (lq f n p)
def dv (f : Nat → Int32) (a : Nat) : Nat → Int32
  | 0 => nI 0
  | m + 1 => nI 10 * dv f a m + f (a + m) - nI 48
noncomputable def lval (f : Nat → Int32) (n p : Nat) : Int32 := if f (p + 1) = nI 45 then -(dv f (lk f p) (lq f n p - lk f p)) else dv f (lk f p) (lq f n p - lk f p)
/-- 0: a number; 1: it waits; 2: wrong -/
noncomputable def lc (f : Nat → Int32) (n p : Nat) : Nat := @ite Nat (lwh f n p) (Classical.propDecidable _) (@ite Nat (lgd f n p) (Classical.propDecidable _) 0 2) (if p + 16 ≤ n then 2 else 1)
theorem lc_ok {f : Nat → Int32} {n p : Nat} (h1 : lwh f n p) (h2 : lgd f n p) : lc f n p = 0 := by unfold lc; rw [if_pos h1, if_pos h2]
theorem lc_bad {f : Nat → Int32} {n p : Nat} (h1 : lwh f n p) (h2 : ¬ lgd f n p) : lc f n p = 2 := by unfold lc; rw [if_pos h1, if_neg h2]
theorem lc_far {f : Nat → Int32} {n p : Nat} (h1 : ¬ lwh f n p) (h2 : p + 16 ≤ n) : lc f n p = 2 := by unfold lc; rw [if_neg h1, if_pos h2]
theorem lc_wait {f : Nat → Int32} {n p : Nat} (h1 : ¬ lwh f n p) (h2 : ¬ p + 16 ≤ n) : lc f n p = 1 := by unfold lc; rw [if_neg h1, if_neg h2]
theorem lc_lt (f : Nat → Int32) (n p : Nat) : lc f n p < 3 := by
  by_cases h1 : lwh f n p
  · by_cases h2 : lgd f n p
    · rw [lc_ok h1 h2]; decide
    · rw [lc_bad h1 h2]; decide
  · by_cases h2 : p + 16 ≤ n
    · rw [lc_far h1 h2]; decide
    · rw [lc_wait h1 h2]; decide
theorem lc_0 {f : Nat → Int32} {n p : Nat} (h : lc f n p = 0) : lwh f n p ∧ lgd f n p := by
  by_cases h1 : lwh f n p
  · by_cases h2 : lgd f n p
    · exact ⟨h1, h2⟩
    · rw [lc_bad h1 h2] at h; exact absurd h (by decide)
  · by_cases h2 : p + 16 ≤ n
    · rw [lc_far h1 h2] at h; exact absurd h (by decide)
    · rw [lc_wait h1 h2] at h; exact absurd h (by decide)
theorem dig_of {x : Int32} (h : nI 48 ≤ x ∧ x ≤ nI 57) : ∃ j : Nat, 48 ≤ j ∧ j ≤ 57 ∧ x = nI j := by
  have h0 : ¬ x < 0 := fun q => by
    have a := Int32.le_iff_toInt_le.mp h.1
    have b := Int32.lt_iff_toInt_lt.mp q
    rw [nI_toInt (by decide)] at a
    simp at b
    omega
  obtain ⟨j, hj, rfl⟩ := nI_of h0
  exact ⟨j, (nI_leI (by decide) hj).mp h.1, (nI_leI hj (by decide)).mp h.2, rfl⟩
theorem dv_nat {f : Nat → Int32} {a : Nat} : ∀ m : Nat, m ≤ 6 → ldg f a (a + m) → ∃ v : Nat, v < 10 ^ m ∧ dv f a m = nI v := by
  intro m
  induction m with
  | zero => intro _ _; exact ⟨0, by decide, rfl⟩
  | succ m ih =>
    intro hm h
    obtain ⟨v, h1, h2⟩ := ih (by omega) (fun i g1 g2 => h i g1 (by omega))
    obtain ⟨j, g1, g2, g3⟩ := dig_of (h (a + m) (by omega) (by omega))
    refine ⟨10 * v + j - 48, ?_, ?_⟩
    · rw [Nat.pow_succ]; omega
    · show nI 10 * dv f a m + f (a + m) - nI 48 = _
      rw [h2, g3, pk_mul, nI_add, pk_sub (by omega)]
theorem dv_lgd {f : Nat → Int32} {n p : Nat} (h : lgd f n p) : ∃ v : Nat, v < 1000000 ∧ dv f (lk f p) (lq f n p - lk f p) = nI v := by
  obtain ⟨h1, h2, h3⟩ := h
  obtain ⟨v, g1, g2⟩ := dv_nat (f := f) (a := lk f p) (lq f n p - lk f p) (by omega) (by rw [show lk f p + (lq f n p - lk f p) = lq f n p by omega]; exact h3)
  refine ⟨v, ?_, g2⟩
  have : 10 ^ (lq f n p - lk f p) ≤ 10 ^ 6 := Nat.pow_le_pow_right (by decide) (by omega)
  omega
/-- the number of a line is small -/
theorem lval_rng {f : Nat → Int32} {n p : Nat} (h : lgd f n p) : (∃ v : Nat, v < 1000000 ∧ lval f n p = nI v) ∨ (∃ v : Nat, v < 1000000 ∧ lval f n p = -nI v) := by
  obtain ⟨v, h1, h2⟩ := dv_lgd h
  unfold lval
  split
  · exact Or.inr ⟨v, h1, by rw [h2]⟩
  · exact Or.inl ⟨v, h1, h2⟩
theorem lval_int {f : Nat → Int32} {n p : Nat} (h : lgd f n p) : -1000000 < (lval f n p).toInt ∧ (lval f n p).toInt < 1000000 := by
  rcases lval_rng h with ⟨v, h1, h2⟩ | ⟨v, h1, h2⟩
  · rw [h2, nI_toInt (by omega)]; omega
  · rw [h2, sb_negT (by omega)]; omega
noncomputable def lres (f : Nat → Int32) (n p : Nat) : Int32 := if lc f n p = 0 then lval f n p else if lc f n p = 1 then -1000000 else -1000001
theorem lval_nw {f : Nat → Int32} {n p : Nat} (h : lgd f n p) : ¬ lval f n p = -1000000 ∧ ¬ lval f n p = -1000001 := by
  have := lval_int h
  constructor
  · intro e
    rw [e, show (-1000000 : Int32).toInt = -1000000 by decide] at this
    omega
  · intro e
    rw [e, show (-1000001 : Int32).toInt = -1000001 by decide] at this
    omega
-- a word that tells its length
noncomputable def twh (f : Nat → Int32) (n p : Nat) : Nat := lq f n p + 2
noncomputable def tsz (f : Nat → Int32) (n p : Nat) : Nat := (lval f n p).toNatClampNeg
noncomputable def tnx (f : Nat → Int32) (n p : Nat) : Nat := twh f n p + tsz f n p + 2
/-- 0: it stands there; 6: it waits; 2, 3, 4: the fault -/
noncomputable def tcode (f : Nat → Int32) (n p : Nat) : Nat :=
  if n ≤ p then 6 else if ¬ f p = nI 36 then 2 else if lc f n p = 1 then 6 else if lc f n p = 2 then 3 else if lval f n p < 0 ∨ nI 16384 < lval f n p then 3 else
  if n ≤ twh f n p + tsz f n p then 6 else if ¬ f (twh f n p + tsz f n p) = nI 13 then 4 else if n ≤ twh f n p + tsz f n p + 1 then 6 else if ¬ f (twh f n p + tsz f n p + 1) = nI 10 then 4 else 0
noncomputable def tres (f : Nat → Int32) (n : Nat) : Nat → Nat → Nat
  | 0, _ => 0
  | k + 1, p => if tcode f n p = 0 then tres f n k (tnx f n p) else tcode f n p
noncomputable def tp_ (f : Nat → Int32) (n p : Nat) : Nat → Nat
  | 0 => p
  | i + 1 => tnx f n (tp_ f n p i)
/-- a length that is no fault -/
theorem tsz_ok {f : Nat → Int32} {n p : Nat} (h : lgd f n p) (h1 : ¬ (lval f n p < 0 ∨ nI 16384 < lval f n p)) : lval f n p = nI (tsz f n p) ∧ tsz f n p ≤ 16384 := by
  obtain ⟨j, hj, e⟩ := nI_of (fun q => h1 (Or.inl q))
  have h2 : ¬ nI 16384 < lval f n p := fun q => h1 (Or.inr q)
  have e2 : tsz f n p = j := by unfold tsz; rw [e, nI_clamp hj]
  rw [e2]
  rw [e] at h2
  exact ⟨e, by
    rcases Nat.lt_or_ge 16384 j with q | q
    · exact absurd ((nI_ltI (by decide) hj).mpr q) h2
    · exact q⟩
theorem tcode_0 {f : Nat → Int32} {n p : Nat} (h : tcode f n p = 0) : p < n ∧ f p = nI 36 ∧ lc f n p = 0 ∧ ¬ (lval f n p < 0 ∨ nI 16384 < lval f n p) ∧ twh f n p + tsz f n p + 2 ≤ n := by
  unfold tcode at h
  split at h
  · cases h
  split at h
  · cases h
  split at h
  · cases h
  split at h
  · cases h
  split at h
  · cases h
  split at h
  · cases h
  split at h
  · cases h
  split at h
  · cases h
  split at h
  · cases h
  rename_i a1 a2 a3 a4 a5 a6 a7 a8 a9
  have := lc_lt f n p
  exact ⟨by omega, Decidable.not_not.mp a2, by omega, a5, by omega⟩
-- a plain line
noncomputable def pq (f : Nat → Int32) (n : Nat) : Nat := fs (fun q => q < n ∧ q < 2048 ∧ ¬ f q = nI 10) 0
noncomputable def plast (f : Nat → Int32) (n : Nat) : Nat := if 0 < pq f n ∧ f (pq f n - 1) = nI 13 then pq f n - 1 else pq f n
noncomputable def sk (f : Nat → Int32) (last i : Nat) : Nat := fs (fun j => j < last ∧ f j = nI 32) i
noncomputable def we (f : Nat → Int32) (last i : Nat) : Nat := fs (fun j => j < last ∧ ¬ f j = nI 32) i
noncomputable def ps (f : Nat → Int32) (last : Nat) : Nat → Nat
  | 0 => sk f last 0
  | i + 1 => sk f last (we f last (ps f last i))
noncomputable def pN (f : Nat → Int32) (last : Nat) : Nat := fs (fun i => ps f last i < last) 0
theorem pq_spec (f : Nat → Int32) (n : Nat) : Fst (fun q => q < n ∧ q < 2048 ∧ ¬ f q = nI 10) 0 (pq f n) := fs_spec (b := n) (fun j h q => by have := q.1; omega) 0
theorem sk_spec (f : Nat → Int32) (last i : Nat) : Fst (fun j => j < last ∧ f j = nI 32) i (sk f last i) := fs_spec (b := last) (fun j h q => by have := q.1; omega) i
theorem we_spec (f : Nat → Int32) (last i : Nat) : Fst (fun j => j < last ∧ ¬ f j = nI 32) i (we f last i) := fs_spec (b := last) (fun j h q => by have := q.1; omega) i
theorem sk_end {f : Nat → Int32} {last i : Nat} (h : last ≤ i) : sk f last i = i := fs_eq ⟨Nat.le_refl _, fun j g1 g2 => by omega, fun q => by have := q.1; omega⟩
theorem sk_blank {f : Nat → Int32} {last i : Nat} (h : i < last) (hb : f i = nI 32) : sk f last i = sk f last (i + 1) := fs_eq (Fst.step ⟨h, hb⟩ (sk_spec f last (i + 1)))
theorem sk_word {f : Nat → Int32} {last i : Nat} (hb : ¬ f i = nI 32) : sk f last i = i := fs_eq ⟨Nat.le_refl _, fun j g1 g2 => by omega, fun q => hb q.2⟩
theorem sk_le {f : Nat → Int32} {last i : Nat} (h : i ≤ last) : sk f last i ≤ last := by
  have := sk_spec f last i
  rcases Nat.lt_or_ge last (sk f last i) with q | q
  · have := this.2.1 last h q; have := this.1; omega
  · exact q
theorem we_le {f : Nat → Int32} {last i : Nat} (h : i ≤ last) : we f last i ≤ last := by
  have := we_spec f last i
  rcases Nat.lt_or_ge last (we f last i) with q | q
  · have := this.2.1 last h q; have := this.1; omega
  · exact q
theorem ps_word {f : Nat → Int32} {last i : Nat} (h : ps f last i < last) : ¬ f (ps f last i) = nI 32 := by
  intro e
  cases i with
  | zero => exact (sk_spec f last 0).2.2 ⟨h, e⟩
  | succ i => exact (sk_spec f last (we f last (ps f last i))).2.2 ⟨h, e⟩
theorem we_gt {f : Nat → Int32} {last i : Nat} (h : i < last) (hb : ¬ f i = nI 32) : i < we f last i := by
  have := we_spec f last i
  rcases Nat.lt_or_ge i (we f last i) with q | q
  · exact q
  · have e : we f last i = i := by have := this.1; omega
    rw [e] at this
    exact absurd ⟨h, hb⟩ this.2.2
theorem ps_le (f : Nat → Int32) (last : Nat) : ∀ i, ps f last i ≤ last := by
  intro i
  induction i with
  | zero => exact sk_le (Nat.zero_le _)
  | succ i ih => exact sk_le (we_le ih)
theorem ps_next {f : Nat → Int32} {last i : Nat} : we f last (ps f last i) ≤ ps f last (i + 1) := (sk_spec f last (we f last (ps f last i))).1
theorem ps_two {f : Nat → Int32} {last : Nat} : ∀ i, ps f last i < last → (∀ j, j < i → ps f last j < last) → 2 * i ≤ ps f last i := by
  intro i
  induction i with
  | zero => intro _ _; omega
  | succ i ih =>
    intro h hj
    have h1 := hj i (by omega)
    have h2 := ih h1 (fun j g => hj j (by omega))
    have h3 := we_gt h1 (ps_word h1)
    have h4 : we f last (ps f last i) < last := Nat.lt_of_le_of_lt ps_next h
    have h5 : f (we f last (ps f last i)) = nI 32 := by
      refine Decidable.not_not.mp (fun q => ?_)
      exact (we_spec f last (ps f last i)).2.2 ⟨h4, q⟩
    have h6 : ps f last (i + 1) = sk f last (we f last (ps f last i) + 1) := sk_blank h4 h5
    have h7 := (sk_spec f last (we f last (ps f last i) + 1)).1
    omega
theorem ps_mono {f : Nat → Int32} {last i : Nat} (h : ps f last i < last) : ps f last i < ps f last (i + 1) := Nat.lt_of_lt_of_le (we_gt h (ps_word h)) ps_next
-- a cut
noncomputable def toldC (f : Nat → Int32) (n : Nat) : Nat := if lc f n 0 = 1 then 6 else if lc f n 0 = 2 then 1 else if nI 1024 < lval f n 0 then 1 else tres f n (lval f n 0).toNatClampNeg (lq f n 0 + 2)
noncomputable def toldN (f : Nat → Int32) (n : Nat) : Nat := (lval f n 0).toNatClampNeg
noncomputable def toldP (f : Nat → Int32) (n i : Nat) : Nat := tp_ f n (lq f n 0 + 2) i
noncomputable def plainC (f : Nat → Int32) (n : Nat) : Nat := if pq f n = 2048 then 5 else if pq f n = n then 6 else 0
noncomputable def cutC (f : Nat → Int32) (n : Nat) : Nat := if n = 0 then 6 else if f 0 = nI 42 then toldC f n else plainC f n
noncomputable def cutN (f : Nat → Int32) (n : Nat) : Nat := if f 0 = nI 42 then toldN f n else pN f (plast f n)
noncomputable def cutW (f : Nat → Int32) (n i : Nat) : Nat := if f 0 = nI 42 then twh f n (toldP f n i) else ps f (plast f n) i
noncomputable def cutZ (f : Nat → Int32) (n i : Nat) : Nat := if f 0 = nI 42 then tsz f n (toldP f n i) else we f (plast f n) (ps f (plast f n) i) - ps f (plast f n) i
noncomputable def cutE (f : Nat → Int32) (n : Nat) : Nat := if f 0 = nI 42 then toldP f n (toldN f n) else pq f n + 1
def sumZ (z : Nat → Nat) : Nat → Nat
  | 0 => 0
  | i + 1 => sumZ z i + z i
/-- the words as the model keeps them -/
def MK (I K F L : Nat → Int32) (wh z : Nat → Nat) (i : Nat) : Prop := ∀ j, j < i → F j = nI (sumZ z j) ∧ L j = nI (z j) ∧ sumZ z j + z j ≤ sumZ z i ∧ ∀ b, b < z j → K (sumZ z j + b) = I (wh j + b)
theorem MK.zero {I K F L : Nat → Int32} {wh z : Nat → Nat} : MK I K F L wh z 0 := fun j h => absurd h (Nat.not_lt_zero j)
theorem MK.add {I K F L : Nat → Int32} {wh z : Nat → Nat} {i : Nat} (h : MK I K F L wh z i) : MK I (va_cpy I K (wh i) (sumZ z i) (z i)) (upd F i (nI (sumZ z i))) (upd L i (nI (z i))) wh z (i + 1) := by
  intro j hj
  rcases Nat.eq_or_lt_of_le (Nat.le_of_lt_succ hj) with e | e
  · subst e
    refine ⟨pk_us, pk_us, Nat.le_refl _, fun b hb => ?_⟩
    rw [pk_cpy_in (by omega) (by omega)]
    congr 1; omega
  · obtain ⟨h1, h2, h3, h4⟩ := h j e
    refine ⟨by rw [pk_un (by omega)]; exact h1, by rw [pk_un (by omega)]; exact h2, by show _ ≤ sumZ z i + z i; omega, fun b hb => ?_⟩
    rw [pk_cpy_out (Or.inl (by omega))]
    exact h4 b hb
/-- the words as the component keeps them -/
def CK (A Z : Nat → Int32) (wh z : Nat → Nat) (i : Nat) : Prop := ∀ j, j < i → A j = nI (wh j) ∧ Z j = nI (z j)
theorem CK.zero {A Z : Nat → Int32} {wh z : Nat → Nat} : CK A Z wh z 0 := fun j h => absurd h (Nat.not_lt_zero j)
theorem CK.add {A Z : Nat → Int32} {wh z : Nat → Nat} {i : Nat} (h : CK A Z wh z i) : CK (upd A i (nI (wh i))) (upd Z i (nI (z i))) wh z (i + 1) := by
  intro j hj
  rcases Nat.eq_or_lt_of_le (Nat.le_of_lt_succ hj) with e | e
  · subst e; exact ⟨pk_us, pk_us⟩
  · obtain ⟨h1, h2⟩ := h j e
    exact ⟨by rw [pk_un (by omega)]; exact h1, by rw [pk_un (by omega)]; exact h2⟩
end
section
theorem cat_of {as : List Value} (h : (as.all fun v => v.category == 1) = true) : ∀ v ∈ as, v.category = 1 := fun v hv => by
  have := List.all_eq_true.mp h v hv
  simpa using this
theorem v_lv {E : Ev} {k n pc : Nat} {ws : va_W} {lv lv' : List (Option Value)} {st : List Value} (e : lv = lv') (kk : V E k n ws pc lv' st) : V E k n ws pc lv st := by rw [e]; exact kk
theorem v_ws {E : Ev} {k n pc : Nat} {ws ws' : va_W} {lv : List (Option Value)} {st : List Value} (e : ws = ws') (kk : V E k n ws' pc lv st) : V E k n ws pc lv st := by rw [e]; exact kk
def B8 (f : Nat → Int32) : Prop := ∀ j, (f j).toInt8.toInt32 = f j
theorem B8.fit {f : Nat → Int32} (h : B8 f) : ∀ j, fits .byte (.int (f j)) = true := fun j => by rw [← h j]; exact pk_fb _
theorem B8.nar {f : Nat → Int32} (h : B8 f) (j : Nat) : vp_nar .byte (f j) = f j := h j
theorem B8.cpy {f g : Nat → Int32} {sp dp n : Nat} (hf : B8 f) (hg : B8 g) : B8 (va_cpy f g sp dp n) := fun j => by
  unfold va_cpy
  split
  · exact hf _
  · exact hg _
theorem B8.zero : B8 (fun _ => 0) := fun _ => by show (0 : Int32).toInt8.toInt32 = 0; decide
theorem B8.upd {f : Nat → Int32} {k : Nat} {x : Int32} (hf : B8 f) : B8 (upd f k x.toInt8.toInt32) := fun j => by
  by_cases e : j = k
  · subst e; rw [pk_us]; exact pk_vb x
  · rw [pk_un e]; exact hf j
def endB (len : Nat) (x : Int32) : Bool := decide (¬ x < 0 ∧ x ≤ nI len)
def endN (len : Nat) (x : Int32) : Nat := if endB len x = true then x.toNatClampNeg else len
theorem endB_neg {len : Nat} {x : Int32} (h : x < 0) : endB len x = false := by simp [endB, h]
theorem endB_big {len j : Nat} (hj : j < 2 ^ 31) (hl : len < 2 ^ 31) (h : len < j) : endB len (nI j) = false := by
  have := nI_ge h hj
  simp [endB, this]
theorem endB_ok {len j : Nat} (hj : j < 2 ^ 31) (hl : len < 2 ^ 31) (h : j ≤ len) : endB len (nI j) = true := by
  have h1 := nI_le h hl
  have h2 := nI_pos hj
  unfold endB
  exact decide_eq_true ⟨h2, h1⟩
theorem endN_f {len : Nat} {x : Int32} (h : endB len x = false) : endN len x = len := by simp [endN, h]
theorem endN_t {len j : Nat} (hj : j < 2 ^ 31) (h : endB len (nI j) = true) : endN len (nI j) = j := by simp [endN, h, nI_clamp hj]
theorem endN_le {len : Nat} {x : Int32} (hl : len < 2 ^ 31) : endN len x ≤ len := by
  by_cases h : endB len x = true
  · have := of_decide_eq_true h
    obtain ⟨j, hj, rfl⟩ := nI_of this.1
    rw [endN_t hj h]
    exact (nI_leI hj hl).mp this.2
  · rw [endN_f (by simpa using h)]; exact Nat.le_refl _
theorem c_X_end (l : Launch) (D : va_G) {cB cI : ClassId} {ad g : Nat → Nat} {T : Nat → Int32} {len : Nat} {I : Nat → Int32} {many : Nat} {K : Nat → Int32} {wd ft : Nat} {at_ sz : Nat → Int32} {cw ce : Nat} {cf : Value} {cn : Int32} (x : Int32) (hlen : len ≤ 10240) : CtI l y_X_end prog_1_method_3_code 2 .boolean r1 D cB cI ad [.ref (g 0), .int x] (wX cB cI g T len I many K wd ft at_ sz cw ce cf cn) (fun (r : Int32) (u : Nat) => r = bI (endB len x) ∧ u = endN len x) (fun u => (wX cB cI g T u I many K wd ft at_ sz cw ce cf cn)) 0 0 := by
  refine CtI.mk (own := "RequestCutter") (by decide) rfl (cat_of rfl) (Nat.le_of_ble_eq_true rfl) (fun E h hr => ?_)
  refine v_lv (lv' := [_, _]) rfl ?_
  refine v_iload_n h d_X_end_0 rfl ?_
  refine v_if_lt 12 h d_X_end_1 (by decide) (fun q1 => ?_) (fun q1 => ?_)
  · refine v_iconst (v := nI 0) h d_X_end_12 (by decide) ?_
    exact v_iret h hr (by decide) d_X_end_13 len rfl ⟨by rw [endB_neg q1]; rfl, (endN_f (endB_neg q1)).symm⟩
  · obtain ⟨j, hj, rfl⟩ := nI_of q1
    refine v_iload_n h d_X_end_4 rfl ?_
    refine v_aload_n h d_X_end_5 rfl ?_
    refine gX_length h d_X_end_6 ?_
    refine v_leN 14 h d_X_end_9 (by decide) (fun q9 => ?_) (fun q9 => ?_)
    · have hB := endB_ok hj (by omega : len < 2 ^ 31) q9
      refine v_aload_n h d_X_end_14 rfl ?_
      refine v_iload_n h d_X_end_15 rfl ?_
      refine pX_length h d_X_end_16 ?_
      refine v_iconst (v := nI 1) h d_X_end_19 (by decide) ?_
      exact v_iret h hr (by decide) d_X_end_20 j rfl ⟨by rw [hB]; rfl, (endN_t hj hB).symm⟩
    · have hB := endB_big hj (by omega : len < 2 ^ 31) q9
      refine v_iconst (v := nI 0) h d_X_end_12 (by decide) ?_
      exact v_iret h hr (by decide) d_X_end_13 len rfl ⟨by rw [hB]; rfl, (endN_f hB).symm⟩
theorem c_M_end (l : Launch) (D : va_G) {cB cI : ClassId} {ad g : Nat → Nat} {T I K F L : Nat → Int32} {tp wt wd ks ft at_ : Nat} (x : Int32) (hlen : tp ≤ 10240) : CtI l y_M_end prog_4_method_4_code 2 .boolean r1 D cB cI ad [.ref (g 0), .int x] (wM cB cI g T I K F L tp wt wd ks ft at_) (fun (r : Int32) (u : Nat) => r = bI (endB tp x) ∧ u = endN tp x) (fun u => (wM cB cI g T I K F L u wt wd ks ft at_)) 0 0 := by
  refine CtI.mk (own := "RequestCutterModel") (by decide) rfl (cat_of rfl) (Nat.le_of_ble_eq_true rfl) (fun E h hr => ?_)
  refine v_lv (lv' := [_, _]) rfl ?_
  refine v_iload_n h d_M_end_0 rfl ?_
  refine v_if_lt 12 h d_M_end_1 (by decide) (fun q1 => ?_) (fun q1 => ?_)
  · refine v_iconst (v := nI 0) h d_M_end_12 (by decide) ?_
    exact v_iret h hr (by decide) d_M_end_13 tp rfl ⟨by rw [endB_neg q1]; rfl, (endN_f (endB_neg q1)).symm⟩
  · obtain ⟨j, hj, rfl⟩ := nI_of q1
    refine v_iload_n h d_M_end_4 rfl ?_
    refine v_aload_n h d_M_end_5 rfl ?_
    refine gM_taped h d_M_end_6 ?_
    refine v_leN 14 h d_M_end_9 (by decide) (fun q9 => ?_) (fun q9 => ?_)
    · have hB := endB_ok hj (by omega : tp < 2 ^ 31) q9
      refine v_aload_n h d_M_end_14 rfl ?_
      refine v_iload_n h d_M_end_15 rfl ?_
      refine pM_taped h d_M_end_16 ?_
      refine v_iconst (v := nI 1) h d_M_end_19 (by decide) ?_
      exact v_iret h hr (by decide) d_M_end_20 j rfl ⟨by rw [hB]; rfl, (endN_t hj hB).symm⟩
    · have hB := endB_big hj (by omega : tp < 2 ^ 31) q9
      refine v_iconst (v := nI 0) h d_M_end_12 (by decide) ?_
      exact v_iret h hr (by decide) d_M_end_13 tp rfl ⟨by rw [hB]; rfl, (endN_f hB).symm⟩
theorem c_X_fault (l : Launch) (D : va_G) {cB cI : ClassId} {ad g : Nat → Nat} {T : Nat → Int32} {len : Nat} {I : Nat → Int32} {many : Nat} {K : Nat → Int32} {wd ft : Nat} {at_ sz : Nat → Int32} {cw ce : Nat} {cf : Value} {cn : Int32} : CtI l y_X_fault prog_1_method_6_code 1 .int r1 D cB cI ad [.ref (g 0)] (wX cB cI g T len I many K wd ft at_ sz cw ce cf cn) (fun (r : Int32) (_ : Unit) => r = nI ft) (fun _ => (wX cB cI g T len I many K wd ft at_ sz cw ce cf cn)) 0 0 := by
  refine CtI.mk (own := "RequestCutter") (by decide) rfl (cat_of rfl) (Nat.le_of_ble_eq_true rfl) (fun E h hr => ?_)
  refine v_lv (lv' := [_]) rfl ?_
  refine v_aload_n h d_X_fault_0 rfl ?_
  refine gX_fault h d_X_fault_1 ?_
  exact v_iret h hr rfl d_X_fault_4 () rfl rfl
theorem c_M_fault (l : Launch) (D : va_G) {cB cI : ClassId} {ad g : Nat → Nat} {T I K F L : Nat → Int32} {tp wt wd ks ft at_ : Nat} : CtI l y_M_fault prog_4_method_15_code 1 .int r1 D cB cI ad [.ref (g 0)] (wM cB cI g T I K F L tp wt wd ks ft at_) (fun (r : Int32) (_ : Unit) => r = nI ft) (fun _ => (wM cB cI g T I K F L tp wt wd ks ft at_)) 0 0 := by
  refine CtI.mk (own := "RequestCutterModel") (by decide) rfl (cat_of rfl) (Nat.le_of_ble_eq_true rfl) (fun E h hr => ?_)
  refine v_lv (lv' := [_]) rfl ?_
  refine v_aload_n h d_M_fault_0 rfl ?_
  refine gM_fault h d_M_fault_1 ?_
  exact v_iret h hr rfl d_M_fault_4 () rfl rfl
theorem c_X_waiting (l : Launch) (D : va_G) {cB cI : ClassId} {ad g : Nat → Nat} {T : Nat → Int32} {len : Nat} {I : Nat → Int32} {many : Nat} {K : Nat → Int32} {wd ft : Nat} {at_ sz : Nat → Int32} {cw ce : Nat} {cf : Value} {cn : Int32} : CtI l y_X_waiting prog_1_method_10_code 1 .int r1 D cB cI ad [.ref (g 0)] (wX cB cI g T len I many K wd ft at_ sz cw ce cf cn) (fun (r : Int32) (_ : Unit) => r = nI many) (fun _ => (wX cB cI g T len I many K wd ft at_ sz cw ce cf cn)) 0 0 := by
  refine CtI.mk (own := "RequestCutter") (by decide) rfl (cat_of rfl) (Nat.le_of_ble_eq_true rfl) (fun E h hr => ?_)
  refine v_lv (lv' := [_]) rfl ?_
  refine v_aload_n h d_X_waiting_0 rfl ?_
  refine gX_many h d_X_waiting_1 ?_
  exact v_iret h hr rfl d_X_waiting_4 () rfl rfl
theorem c_M_waiting (l : Launch) (D : va_G) {cB cI : ClassId} {ad g : Nat → Nat} {T I K F L : Nat → Int32} {tp wt wd ks ft at_ : Nat} : CtI l y_M_waiting prog_4_method_18_code 1 .int r1 D cB cI ad [.ref (g 0)] (wM cB cI g T I K F L tp wt wd ks ft at_) (fun (r : Int32) (_ : Unit) => r = nI wt) (fun _ => (wM cB cI g T I K F L tp wt wd ks ft at_)) 0 0 := by
  refine CtI.mk (own := "RequestCutterModel") (by decide) rfl (cat_of rfl) (Nat.le_of_ble_eq_true rfl) (fun E h hr => ?_)
  refine v_lv (lv' := [_]) rfl ?_
  refine v_aload_n h d_M_waiting_0 rfl ?_
  refine gM_waits h d_M_waiting_1 ?_
  exact v_iret h hr rfl d_M_waiting_4 () rfl rfl
def sizeR (wd : Nat) (Z : Nat → Int32) (x : Int32) : Int32 := if ¬ x < 0 ∧ x < nI wd then Z x.toNatClampNeg else -1
theorem sizeR_neg {wd : Nat} {Z : Nat → Int32} {x : Int32} (h : x < 0) : sizeR wd Z x = -1 := by simp [sizeR, h]
theorem sizeR_out {wd j : Nat} {Z : Nat → Int32} (hj : j < 2 ^ 31) (h : wd ≤ j) : sizeR wd Z (nI j) = -1 := by
  have := nI_nlt h hj
  simp [sizeR, this]
theorem sizeR_in {wd j : Nat} {Z : Nat → Int32} (hw : wd < 2 ^ 31) (h : j < wd) : sizeR wd Z (nI j) = Z j := by
  have h1 := nI_lt h hw
  have h2 := nI_pos (Nat.lt_trans h hw)
  unfold sizeR
  rw [if_pos ⟨h2, h1⟩, nI_clamp (Nat.lt_trans h hw)]
theorem c_X_size (l : Launch) (D : va_G) {cB cI : ClassId} {ad g : Nat → Nat} {T : Nat → Int32} {len : Nat} {I : Nat → Int32} {many : Nat} {K : Nat → Int32} {wd ft : Nat} {at_ sz : Nat → Int32} {cw ce : Nat} {cf : Value} {cn : Int32} (x : Int32) (hw : wd ≤ 1100) : CtI l y_X_size prog_1_method_7_code 2 .int r1 D cB cI ad [.ref (g 0), .int x] (wX cB cI g T len I many K wd ft at_ sz cw ce cf cn) (fun (r : Int32) (_ : Unit) => r = sizeR wd sz x) (fun _ => (wX cB cI g T len I many K wd ft at_ sz cw ce cf cn)) 0 0 := by
  refine CtI.mk (own := "RequestCutter") (by decide) rfl (cat_of rfl) (Nat.le_of_ble_eq_true rfl) (fun E h hr => ?_)
  refine v_lv (lv' := [_, _]) rfl ?_
  refine v_iload_n h d_X_size_0 rfl ?_
  refine v_if_lt 24 h d_X_size_1 (by decide) (fun q1 => ?_) (fun q1 => ?_)
  · refine v_iconst (v := (-1)) h d_X_size_24 (by decide) ?_
    exact v_iret h hr rfl d_X_size_25 () rfl (sizeR_neg q1).symm
  · obtain ⟨j, hj, rfl⟩ := nI_of q1
    refine v_iload_n h d_X_size_4 rfl ?_
    refine v_aload_n h d_X_size_5 rfl ?_
    refine gX_words h d_X_size_6 ?_
    refine v_geN 24 h d_X_size_9 (by decide) (fun q9 => ?_) (fun q9 => ?_)
    · refine v_iconst (v := (-1)) h d_X_size_24 (by decide) ?_
      exact v_iret h hr rfl d_X_size_25 () rfl (sizeR_out hj q9).symm
    · refine v_aload_n h d_X_size_12 rfl ?_
      refine gX_cutter h d_X_size_13 ?_
      refine gXC_size h d_X_size_16 ?_
      refine v_iload_n h d_X_size_19 rfl ?_
      refine lX_size h d_X_size_20 ?_
      refine v_goto 25 h d_X_size_21 (by decide) ?_
      exact v_iret h hr rfl d_X_size_25 () rfl (sizeR_in (by omega) q9).symm
theorem c_M_size (l : Launch) (D : va_G) {cB cI : ClassId} {ad g : Nat → Nat} {T I K F L : Nat → Int32} {tp wt wd ks ft at_ : Nat} (x : Int32) (hw : wd ≤ 1025) : CtI l y_M_size prog_4_method_16_code 2 .int r2 D cB cI ad [.ref (g 0), .int x] (wM cB cI g T I K F L tp wt wd ks ft at_) (fun (r : Int32) (_ : Unit) => r = sizeR wd L x) (fun _ => (wM cB cI g T I K F L tp wt wd ks ft at_)) 0 0 := by
  refine CtI.mk (own := "RequestCutterModel") (by decide) rfl (cat_of rfl) (Nat.le_of_ble_eq_true rfl) (fun E h hr => ?_)
  refine v_lv (lv' := [_, _]) rfl ?_
  refine v_iload_n h d_M_size_0 rfl ?_
  refine v_if_lt 21 h d_M_size_1 (by decide) (fun q1 => ?_) (fun q1 => ?_)
  · refine v_iconst (v := (-1)) h d_M_size_21 (by decide) ?_
    exact v_iret h hr rfl d_M_size_22 () rfl (sizeR_neg q1).symm
  · obtain ⟨j, hj, rfl⟩ := nI_of q1
    refine v_iload_n h d_M_size_4 rfl ?_
    refine v_aload_n h d_M_size_5 rfl ?_
    refine gM_words h d_M_size_6 ?_
    refine v_geN 21 h d_M_size_9 (by decide) (fun q9 => ?_) (fun q9 => ?_)
    · refine v_iconst (v := (-1)) h d_M_size_21 (by decide) ?_
      exact v_iret h hr rfl d_M_size_22 () rfl (sizeR_out hj q9).symm
    · refine v_aload_n h d_M_size_12 rfl ?_
      refine gM_long1 h d_M_size_13 ?_
      refine v_iload_n h d_M_size_16 rfl ?_
      refine lM_long1 h d_M_size_17 ?_
      refine v_goto 22 h d_M_size_18 (by decide) ?_
      exact v_iret h hr rfl d_M_size_22 () rfl (sizeR_in (by omega) q9).symm
end
section
theorem cpy_succ {f g : Nat → Int32} {sp dp k : Nat} : upd (va_cpy f g sp dp k) (dp + k) (f (sp + k)) = va_cpy f g sp dp (k + 1) := by
  funext j
  by_cases e : j = dp + k
  · subst e; rw [pk_us, pk_cpy_in (by omega) (by omega)]; congr 1; omega
  · rw [pk_un e]
    by_cases h : dp ≤ j ∧ j < dp + k
    · rw [pk_cpy_in h.1 h.2, pk_cpy_in h.1 (by omega)]
    · rw [pk_cpy_out (by omega), pk_cpy_out (by omega)]
theorem cpy_zero {f g : Nat → Int32} {sp dp : Nat} : va_cpy f g sp dp 0 = g := by
  funext j; rw [pk_cpy_out (by omega)]
theorem go_succ {I : Nat → Int32} {m k : Nat} (h : m ≤ k) : upd (va_cpy I I m 0 (k - m)) (k - m) (va_cpy I I m 0 (k - m) k) = va_cpy I I m 0 (k + 1 - m) := by
  have e1 : va_cpy I I m 0 (k - m) k = I (m + (k - m)) := by rw [pk_cpy_out (by omega)]; congr 1; omega
  have e2 : upd (va_cpy I I m 0 (k - m)) (0 + (k - m)) (I (m + (k - m))) = va_cpy I I m 0 (k - m + 1) := cpy_succ
  rw [Nat.zero_add] at e2
  rw [e1, e2, show k + 1 - m = k - m + 1 by omega]
-- arrive
def arrI (T I : Nat → Int32) (n many : Nat) : Nat → Int32 := if many + n ≤ 65536 then va_cpy T I 0 many n else I
def arrN (n many : Nat) : Nat := if many + n ≤ 65536 then many + n else many
def arrR (n many : Nat) : Int32 := if many + n ≤ 65536 then nI (many + n) else -1
theorem c_X_arrive (l : Launch) (D : va_G) {cB cI : ClassId} {ad g : Nat → Nat} {T : Nat → Int32} {len : Nat} {I : Nat → Int32} {many : Nat} {K : Nat → Int32} {wd ft : Nat} {at_ sz : Nat → Int32} {cw ce : Nat} {cf : Value} {cn : Int32} (hlen : len ≤ 10240) (hmany : many ≤ 65536) (hT : B8 T) : CtI l y_X_arrive prog_1_method_4_code 2 .int r1 D cB cI ad [.ref (g 0)] (wX cB cI g T len I many K wd ft at_ sz cw ce cf cn) (fun (r : Int32) (u : (Nat → Int32) × Nat) => r = arrR len many ∧ u = (arrI T I len many, arrN len many)) (fun u => (wX cB cI g T 0 u.1 u.2 K wd ft at_ sz cw ce cf cn)) 0 0 := by
  refine CtI.mk (own := "RequestCutter") (by decide) rfl (cat_of rfl) (Nat.le_of_ble_eq_true rfl) (fun E h hr => ?_)
  refine v_lv (lv' := [_, _]) rfl ?_
  refine v_aload_n h d_X_arrive_0 rfl ?_
  refine gX_length h d_X_arrive_1 ?_
  refine v_istore_n (lv' := [_, _]) h d_X_arrive_4 (Nat.le_of_ble_eq_true rfl) rfl ?_
  refine v_aload_n h d_X_arrive_5 rfl ?_
  refine v_iconst (v := nI 0) h d_X_arrive_6 (by decide) ?_
  refine pX_length h d_X_arrive_7 ?_
  refine v_aload_n h d_X_arrive_10 rfl ?_
  refine gX_many h d_X_arrive_11 ?_
  refine v_iload_n h d_X_arrive_14 rfl ?_
  refine v_iaddN h d_X_arrive_15 ?_
  refine v_ldc (v := nI 65536) h d_X_arrive_16 k_18 (by decide) ?_
  refine v_leN 23 h d_X_arrive_18 (by decide) (fun q18 => ?_) (fun q18 => ?_)
  · refine v_aload_n h d_X_arrive_23 rfl ?_
    refine gX_tape h d_X_arrive_24 ?_
    refine v_iconst (v := nI 0) h d_X_arrive_27 (by decide) ?_
    refine v_aload_n h d_X_arrive_28 rfl ?_
    refine gX_input h d_X_arrive_29 ?_
    refine v_aload_n h d_X_arrive_32 rfl ?_
    refine gX_many h d_X_arrive_33 ?_
    refine v_iload_n h d_X_arrive_36 rfl ?_
    refine v_copy (ws' := (wX cB cI g T 0 (va_cpy T I 0 many len) many K wd ft at_ sz cw ce cf cn)) h rfl (by decide) (by decide) 1 2 rfl rfl (by omega) (by omega) (by decide) (by decide) hT.fit rfl d_X_arrive_37 ?_
    refine v_aload_n h d_X_arrive_40 rfl ?_
    refine v_dup h d_X_arrive_41 rfl ?_
    refine gX_many h d_X_arrive_42 ?_
    refine v_iload_n h d_X_arrive_45 rfl ?_
    refine v_iaddN h d_X_arrive_46 ?_
    refine pX_many h d_X_arrive_47 ?_
    refine v_aload_n h d_X_arrive_50 rfl ?_
    refine gX_many h d_X_arrive_51 ?_
    exact v_iret h hr rfl d_X_arrive_54 (va_cpy T I 0 many len, many + len) rfl ⟨by rw [arrR, if_pos q18], by rw [arrI, arrN, if_pos q18, if_pos q18]⟩
  · refine v_iconst (v := (-1)) h d_X_arrive_21 (by decide) ?_
    exact v_iret h hr rfl d_X_arrive_22 (I, many) rfl ⟨by rw [arrR, if_neg (by omega)], by rw [arrI, arrN, if_neg (by omega), if_neg (by omega)]⟩
theorem c_M_arrive (l : Launch) (D : va_G) {cB cI : ClassId} {ad g : Nat → Nat} {T I K F L : Nat → Int32} {tp wt wd ks ft at_ : Nat} (hlen : tp ≤ 10240) (hmany : wt ≤ 65536) (hT : B8 T) : CtI l y_M_arrive prog_4_method_5_code 3 .int r1 D cB cI ad [.ref (g 0)] (wM cB cI g T I K F L tp wt wd ks ft at_) (fun (r : Int32) (u : (Nat → Int32) × Nat) => r = arrR tp wt ∧ u = (arrI T I tp wt, arrN tp wt)) (fun u => (wM cB cI g T u.1 K F L 0 u.2 wd ks ft at_)) 0 0 := by
  refine CtI.mk (own := "RequestCutterModel") (by decide) rfl (cat_of rfl) (Nat.le_of_ble_eq_true rfl) (fun E h hr => ?_)
  refine v_lv (lv' := [_, _, _]) rfl ?_
  refine v_aload_n h d_M_arrive_0 rfl ?_
  refine gM_taped h d_M_arrive_1 ?_
  refine v_istore_n (lv' := [_, _, _]) h d_M_arrive_4 (Nat.le_of_ble_eq_true rfl) rfl ?_
  refine v_aload_n h d_M_arrive_5 rfl ?_
  refine v_iconst (v := nI 0) h d_M_arrive_6 (by decide) ?_
  refine pM_taped h d_M_arrive_7 ?_
  refine v_aload_n h d_M_arrive_10 rfl ?_
  refine gM_waits h d_M_arrive_11 ?_
  refine v_iload_n h d_M_arrive_14 rfl ?_
  refine v_iaddN h d_M_arrive_15 ?_
  refine v_ldc (v := nI 65536) h d_M_arrive_16 k_210 (by decide) ?_
  refine v_leN 23 h d_M_arrive_18 (by decide) (fun q18 => ?_) (fun q18 => ?_)
  · have loop : ∀ d j, j ≤ tp → tp + 1 ≤ j + d → V E 0 0 (wM cB cI g T (va_cpy T I 0 wt j) K F L 0 wt wd ks ft at_) 25 [some (.ref (g 0)), some (.int (nI tp)), some (.int (nI j))] [] := by
      intro d
      induction d with
      | zero => intro j h1 h2; omega
      | succ d ih =>
        intro j h1 h2
        refine v_iload_n h d_M_arrive_25 rfl ?_
        refine v_iload_n h d_M_arrive_26 rfl ?_
        refine v_geN 53 h d_M_arrive_27 (by decide) (fun q27 => ?_) (fun q27 => ?_)
        · have e : j = tp := by omega
          subst e
          refine v_aload_n h d_M_arrive_53 rfl ?_
          refine v_dup h d_M_arrive_54 rfl ?_
          refine gM_waits h d_M_arrive_55 ?_
          refine v_iload_n h d_M_arrive_58 rfl ?_
          refine v_iaddN h d_M_arrive_59 ?_
          refine pM_waits h d_M_arrive_60 ?_
          refine v_aload_n h d_M_arrive_63 rfl ?_
          refine gM_waits h d_M_arrive_64 ?_
          exact v_iret h hr rfl d_M_arrive_67 (va_cpy T I 0 wt j, wt + j) rfl ⟨by rw [arrR, if_pos q18], by rw [arrI, arrN, if_pos q18, if_pos q18]⟩
        · refine v_aload_n h d_M_arrive_30 rfl ?_
          refine gM_input h d_M_arrive_31 ?_
          refine v_aload_n h d_M_arrive_34 rfl ?_
          refine gM_waits h d_M_arrive_35 ?_
          refine v_iload_n h d_M_arrive_38 rfl ?_
          refine v_iaddN h d_M_arrive_39 ?_
          refine v_aload_n h d_M_arrive_40 rfl ?_
          refine gM_tape h d_M_arrive_41 ?_
          refine v_iload_n h d_M_arrive_44 rfl ?_
          refine lM_tape h d_M_arrive_45 ?_
          refine sM_input h d_M_arrive_46 (hT.nar j) ?_
          refine v_ws (ws' := (wM cB cI g T (va_cpy T I 0 wt (j + 1)) K F L 0 wt wd ks ft at_)) (by rw [← cpy_succ, Nat.zero_add]) ?_
          refine v_iinc1 (lv' := [_, _, _]) h d_M_arrive_47 rfl rfl ?_
          refine v_goto 25 h d_M_arrive_50 (by decide) ?_
          exact ih (j + 1) (by omega) (by omega)
    refine v_ws (ws' := (wM cB cI g T (va_cpy T I 0 wt 0) K F L 0 wt wd ks ft at_)) (by rw [cpy_zero]) ?_
    refine v_iconst (v := nI 0) h d_M_arrive_23 (by decide) ?_
    refine v_istore_n (lv' := [_, _, _]) h d_M_arrive_24 (Nat.le_of_ble_eq_true rfl) rfl ?_
    exact loop (tp + 1) 0 (by omega) (by omega)
  · refine v_iconst (v := (-1)) h d_M_arrive_21 (by decide) ?_
    exact v_iret h hr rfl d_M_arrive_22 (I, wt) rfl ⟨by rw [arrR, if_neg (by omega)], by rw [arrI, arrN, if_neg (by omega), if_neg (by omega)]⟩
-- drop
def drpI (I : Nat → Int32) (many : Nat) (x : Int32) : Nat → Int32 := if endB many x = true then va_cpy I I x.toNatClampNeg 0 (many - x.toNatClampNeg) else I
def drpN (many : Nat) (x : Int32) : Nat := if endB many x = true then many - x.toNatClampNeg else many
theorem drp_f {I : Nat → Int32} {many : Nat} {x : Int32} (h : endB many x = false) : (drpI I many x, drpN many x) = (I, many) := by simp [drpI, drpN, h]
theorem drp_t {I : Nat → Int32} {many j : Nat} (hj : j < 2 ^ 31) (h : endB many (nI j) = true) : (drpI I many (nI j), drpN many (nI j)) = (va_cpy I I j 0 (many - j), many - j) := by simp [drpI, drpN, h, nI_clamp hj]
theorem c_X_drop (l : Launch) (D : va_G) {cB cI : ClassId} {ad g : Nat → Nat} {T : Nat → Int32} {len : Nat} {I : Nat → Int32} {many : Nat} {K : Nat → Int32} {wd ft : Nat} {at_ sz : Nat → Int32} {cw ce : Nat} {cf : Value} {cn : Int32} (x : Int32) (hmany : many ≤ 65536) (hI : B8 I) : CtI l y_X_drop prog_1_method_9_code 2 .boolean r2 D cB cI ad [.ref (g 0), .int x] (wX cB cI g T len I many K wd ft at_ sz cw ce cf cn) (fun (r : Int32) (u : (Nat → Int32) × Nat) => r = bI (endB many x) ∧ u = (drpI I many x, drpN many x)) (fun u => (wX cB cI g T len u.1 u.2 K wd ft at_ sz cw ce cf cn)) 0 0 := by
  refine CtI.mk (own := "RequestCutter") (by decide) rfl (cat_of rfl) (Nat.le_of_ble_eq_true rfl) (fun E h hr => ?_)
  refine v_lv (lv' := [_, _]) rfl ?_
  refine v_iload_n h d_X_drop_0 rfl ?_
  refine v_if_lt 12 h d_X_drop_1 (by decide) (fun q1 => ?_) (fun q1 => ?_)
  · refine v_iconst (v := nI 0) h d_X_drop_12 (by decide) ?_
    exact v_iret h hr (by decide) d_X_drop_13 (I, many) rfl ⟨by rw [endB_neg q1]; rfl, (drp_f (endB_neg q1)).symm⟩
  · obtain ⟨j, hj, rfl⟩ := nI_of q1
    refine v_iload_n h d_X_drop_4 rfl ?_
    refine v_aload_n h d_X_drop_5 rfl ?_
    refine gX_many h d_X_drop_6 ?_
    refine v_leN 14 h d_X_drop_9 (by decide) (fun q9 => ?_) (fun q9 => ?_)
    · have hB := endB_ok hj (by omega : many < 2 ^ 31) q9
      refine v_aload_n h d_X_drop_14 rfl ?_
      refine gX_input h d_X_drop_15 ?_
      refine v_iload_n h d_X_drop_18 rfl ?_
      refine v_aload_n h d_X_drop_19 rfl ?_
      refine gX_input h d_X_drop_20 ?_
      refine v_iconst (v := nI 0) h d_X_drop_23 (by decide) ?_
      refine v_aload_n h d_X_drop_24 rfl ?_
      refine gX_many h d_X_drop_25 ?_
      refine v_iload_n h d_X_drop_28 rfl ?_
      refine v_isubN h d_X_drop_29 ?_
      refine v_copy (ws' := (wX cB cI g T len (va_cpy I I j 0 (many - j)) many K wd ft at_ sz cw ce cf cn)) h rfl (by decide) (by decide) 2 2 rfl rfl (by omega) (by omega) (by decide) (by decide) hI.fit rfl d_X_drop_30 ?_
      refine v_aload_n h d_X_drop_33 rfl ?_
      refine v_dup h d_X_drop_34 rfl ?_
      refine gX_many h d_X_drop_35 ?_
      refine v_iload_n h d_X_drop_38 rfl ?_
      refine v_isubN h d_X_drop_39 ?_
      refine pX_many h d_X_drop_40 ?_
      refine v_iconst (v := nI 1) h d_X_drop_43 (by decide) ?_
      exact v_iret h hr (by decide) d_X_drop_44 (va_cpy I I j 0 (many - j), many - j) rfl ⟨by rw [hB]; rfl, (drp_t hj hB).symm⟩
    · have hB := endB_big hj (by omega : many < 2 ^ 31) q9
      refine v_iconst (v := nI 0) h d_X_drop_12 (by decide) ?_
      exact v_iret h hr (by decide) d_X_drop_13 (I, many) rfl ⟨by rw [hB]; rfl, (drp_f hB).symm⟩
theorem c_M_go (l : Launch) (D : va_G) {cB cI : ClassId} {ad g : Nat → Nat} {T I K F L : Nat → Int32} {tp wt wd ks ft at_ : Nat} (m : Nat) (hm : m ≤ wt) (hmany : wt ≤ 65536) (hI : B8 I) : CtV l y_M_go prog_4_method_6_code 3 r2 D cB cI ad [.ref (g 0), .int (nI m)] (wM cB cI g T I K F L tp wt wd ks ft at_) (fun (_ : Unit) => True) (fun _ => (wM cB cI g T (va_cpy I I m 0 (wt - m)) K F L tp (wt - m) wd ks ft at_)) 0 0 := by
  refine CtV.mk (own := "RequestCutterModel") (by decide) rfl (cat_of rfl) (Nat.le_of_ble_eq_true rfl) (fun E h hr _ => ?_)
  refine v_lv (lv' := [_, _, _]) rfl ?_
  have loop : ∀ d j, m ≤ j → j ≤ wt → wt + 1 ≤ j + d → V E 0 0 (wM cB cI g T (va_cpy I I m 0 (j - m)) K F L tp wt wd ks ft at_) 2 [some (.ref (g 0)), some (.int (nI m)), some (.int (nI j))] [] := by
    intro d
    induction d with
    | zero => intro j h0 h1 h2; omega
    | succ d ih =>
      intro j h0 h1 h2
      refine v_iload_n h d_M_go_2 rfl ?_
      refine v_aload_n h d_M_go_3 rfl ?_
      refine gM_waits h d_M_go_4 ?_
      refine v_geN 30 h d_M_go_7 (by decide) (fun q7 => ?_) (fun q7 => ?_)
      · have e : j = wt := by omega
        subst e
        refine v_aload_n h d_M_go_30 rfl ?_
        refine v_dup h d_M_go_31 rfl ?_
        refine gM_waits h d_M_go_32 ?_
        refine v_iload_n h d_M_go_35 rfl ?_
        refine v_isubN h d_M_go_36 ?_
        refine pM_waits h d_M_go_37 ?_
        exact v_vret h hr d_M_go_40 () rfl trivial
      · refine v_aload_n h d_M_go_10 rfl ?_
        refine gM_input h d_M_go_11 ?_
        refine v_iload_n h d_M_go_14 rfl ?_
        refine v_iload_n h d_M_go_15 rfl ?_
        refine v_isubN h d_M_go_16 ?_
        refine v_aload_n h d_M_go_17 rfl ?_
        refine gM_input h d_M_go_18 ?_
        refine v_iload_n h d_M_go_21 rfl ?_
        refine lM_input h d_M_go_22 ?_
        refine sM_input h d_M_go_23 ((hI.cpy hI).nar j) ?_
        refine v_ws (ws' := (wM cB cI g T (va_cpy I I m 0 (j + 1 - m)) K F L tp wt wd ks ft at_)) (by rw [go_succ h0]) ?_
        refine v_iinc1 (lv' := [_, _, _]) h d_M_go_24 rfl rfl ?_
        refine v_goto 2 h d_M_go_27 (by decide) ?_
        exact ih (j + 1) (by omega) (by omega) (by omega)
  refine v_ws (ws' := (wM cB cI g T (va_cpy I I m 0 (m - m)) K F L tp wt wd ks ft at_)) (by rw [Nat.sub_self, cpy_zero]) ?_
  refine v_iload_n h d_M_go_0 rfl ?_
  refine v_istore_n (lv' := [_, _, _]) h d_M_go_1 (Nat.le_of_ble_eq_true rfl) rfl ?_
  exact loop (wt - m + 1) m (by omega) (by omega) (by omega)
theorem c_M_drop (l : Launch) (D : va_G) {cB cI : ClassId} {ad g : Nat → Nat} {T I K F L : Nat → Int32} {tp wt wd ks ft at_ : Nat} (x : Int32) (hmany : wt ≤ 65536) (hI : B8 I) : CtI l y_M_drop prog_4_method_7_code 2 .boolean r1 D cB cI ad [.ref (g 0), .int x] (wM cB cI g T I K F L tp wt wd ks ft at_) (fun (r : Int32) (u : (Nat → Int32) × Nat) => r = bI (endB wt x) ∧ u = (drpI I wt x, drpN wt x)) (fun u => (wM cB cI g T u.1 K F L tp u.2 wd ks ft at_)) 0 0 := by
  refine CtI.mk (own := "RequestCutterModel") (by decide) rfl (cat_of rfl) (Nat.le_of_ble_eq_true rfl) (fun E h hr => ?_)
  refine v_lv (lv' := [_, _]) rfl ?_
  refine v_iload_n h d_M_drop_0 rfl ?_
  refine v_if_lt 12 h d_M_drop_1 (by decide) (fun q1 => ?_) (fun q1 => ?_)
  · refine v_iconst (v := nI 0) h d_M_drop_12 (by decide) ?_
    exact v_iret h hr (by decide) d_M_drop_13 (I, wt) rfl ⟨by rw [endB_neg q1]; rfl, (drp_f (endB_neg q1)).symm⟩
  · obtain ⟨j, hj, rfl⟩ := nI_of q1
    refine v_iload_n h d_M_drop_4 rfl ?_
    refine v_aload_n h d_M_drop_5 rfl ?_
    refine gM_waits h d_M_drop_6 ?_
    refine v_leN 14 h d_M_drop_9 (by decide) (fun q9 => ?_) (fun q9 => ?_)
    · have hB := endB_ok hj (by omega : wt < 2 ^ 31) q9
      refine v_aload_n h d_M_drop_14 rfl ?_
      refine v_iload_n h d_M_drop_15 rfl ?_
      refine v_callV (wc := (wM cB cI g T I K F L tp wt wd ks ft at_)) (wr := []) (As := [.int (nI j)]) (st := []) h (show LkV "RequestCutterModel" 38 "RequestCutterModel" ⟨"RequestCutterModel", "go", "(I)V"⟩ prog_4_method_6_code 3 none 1 from ⟨k_265, k_267, k_s3, k_3, k_268, by decide +kernel⟩) (fun l D => c_M_go l D j q9 hmany hI) [0, 1, 2, 3, 4, 5] [] rfl rfl (by decide) (by decide) (by decide) (ci := 2) rfl rfl rfl rfl rfl (by decide) rfl (by decide) (by decide) (by decide) d_M_drop_16 rfl (fun _ _ => ?_)
      refine v_ws (ws' := (wM cB cI g T (va_cpy I I j 0 (wt - j)) K F L tp (wt - j) wd ks ft at_)) rfl ?_
      refine v_iconst (v := nI 1) h d_M_drop_19 (by decide) ?_
      exact v_iret h hr (by decide) d_M_drop_20 (va_cpy I I j 0 (wt - j), wt - j) rfl ⟨by rw [hB]; rfl, (drp_t hj hB).symm⟩
    · have hB := endB_big hj (by omega : wt < 2 ^ 31) q9
      refine v_iconst (v := nI 0) h d_M_drop_12 (by decide) ?_
      exact v_iret h hr (by decide) d_M_drop_13 (I, wt) rfl ⟨by rw [hB]; rfl, (drp_f hB).symm⟩
end
section
def byt (v : Int32) (i : Nat) : Int32 := (v >>> (nI (24 - 8 * i) &&& 31)).toInt8.toInt32
def fd (T : Nat → Int32) (t : Nat) (w : Nat → Int32) : Nat → Nat → Int32
  | 0 => T
  | k + 1 => upd (fd T t w k) (t + k) (byt (w (k / 4)) (k % 4))
def fw (a b c d e : Int32) (i : Nat) : Int32 := match i with
  | 0 => a
  | 1 => b
  | 2 => c
  | 3 => d
  | _ => e
theorem B8.fd {T : Nat → Int32} {t : Nat} {w : Nat → Int32} (hT : B8 T) : ∀ k, B8 (fd T t w k) := by
  intro k
  induction k with
  | zero => exact hT
  | succ k ih => exact ih.upd
def feedT (T : Nat → Int32) (len : Nat) (w : Nat → Int32) : Nat → Int32 := if len + 20 ≤ 10240 then fd T len w 20 else T
def feedN (len : Nat) : Nat := if len + 20 ≤ 10240 then len + 20 else len
def feedB (len : Nat) : Bool := decide (len + 20 ≤ 10240)
theorem B8.feed {T : Nat → Int32} {t : Nat} {w : Nat → Int32} (hT : B8 T) : B8 (feedT T t w) := by
  unfold feedT
  split
  · exact hT.fd 20
  · exact hT
theorem c_M_lay (l : Launch) (D : va_G) {cB cI : ClassId} {ad g : Nat → Nat} {T I K F L : Nat → Int32} {tp wt wd ks ft at_ : Nat} (v : Int32) (ht : tp + 4 ≤ 10240) : CtV l y_M_lay prog_4_method_2_code 3 r2 D cB cI ad [.ref (g 0), .int v] (wM cB cI g T I K F L tp wt wd ks ft at_) (fun (_ : Unit) => True) (fun _ => (wM cB cI g (fd T tp (fun _ => v) 4) I K F L (tp + 4) wt wd ks ft at_)) 0 0 := by
  refine CtV.mk (own := "RequestCutterModel") (by decide) rfl (cat_of rfl) (Nat.le_of_ble_eq_true rfl) (fun E h hr _ => ?_)
  refine v_lv (lv' := [_, _, _]) rfl ?_
  refine v_bipush (v := nI 24) h d_M_lay_0 (by decide) ?_
  refine v_istore_n (lv' := [_, _, _]) h d_M_lay_2 (Nat.le_of_ble_eq_true rfl) rfl ?_
  refine v_iload_n h d_M_lay_3 rfl ?_
  refine v_ltZ 36 h d_M_lay_4 (by decide) ?_
  refine v_aload_n h d_M_lay_7 rfl ?_
  refine gM_tape h d_M_lay_8 ?_
  refine v_aload_n h d_M_lay_11 rfl ?_
  refine gM_taped h d_M_lay_12 ?_
  refine v_iload_n h d_M_lay_15 rfl ?_
  refine v_iload_n h d_M_lay_16 rfl ?_
  refine v_ishr h d_M_lay_17 ?_
  refine v_i2b h d_M_lay_18 ?_
  refine sM_tape h d_M_lay_19 (pk_vb _) ?_
  refine v_aload_n h d_M_lay_20 rfl ?_
  refine v_dup h d_M_lay_21 rfl ?_
  refine gM_taped h d_M_lay_22 ?_
  refine v_iconst (v := nI 1) h d_M_lay_25 (by decide) ?_
  refine v_iaddN h d_M_lay_26 ?_
  refine pM_taped h d_M_lay_27 ?_
  refine v_iinc (v := nI 16) (lv' := [_, _, _]) h d_M_lay_30 rfl (by decide) rfl ?_
  refine v_goto 3 h d_M_lay_33 (by decide) ?_
  refine v_iload_n h d_M_lay_3 rfl ?_
  refine v_ltZ 36 h d_M_lay_4 (by decide) ?_
  refine v_aload_n h d_M_lay_7 rfl ?_
  refine gM_tape h d_M_lay_8 ?_
  refine v_aload_n h d_M_lay_11 rfl ?_
  refine gM_taped h d_M_lay_12 ?_
  refine v_iload_n h d_M_lay_15 rfl ?_
  refine v_iload_n h d_M_lay_16 rfl ?_
  refine v_ishr h d_M_lay_17 ?_
  refine v_i2b h d_M_lay_18 ?_
  refine sM_tape h d_M_lay_19 (pk_vb _) ?_
  refine v_aload_n h d_M_lay_20 rfl ?_
  refine v_dup h d_M_lay_21 rfl ?_
  refine gM_taped h d_M_lay_22 ?_
  refine v_iconst (v := nI 1) h d_M_lay_25 (by decide) ?_
  refine v_iaddN h d_M_lay_26 ?_
  refine pM_taped h d_M_lay_27 ?_
  refine v_iinc (v := nI 8) (lv' := [_, _, _]) h d_M_lay_30 rfl (by decide) rfl ?_
  refine v_goto 3 h d_M_lay_33 (by decide) ?_
  refine v_iload_n h d_M_lay_3 rfl ?_
  refine v_ltZ 36 h d_M_lay_4 (by decide) ?_
  refine v_aload_n h d_M_lay_7 rfl ?_
  refine gM_tape h d_M_lay_8 ?_
  refine v_aload_n h d_M_lay_11 rfl ?_
  refine gM_taped h d_M_lay_12 ?_
  refine v_iload_n h d_M_lay_15 rfl ?_
  refine v_iload_n h d_M_lay_16 rfl ?_
  refine v_ishr h d_M_lay_17 ?_
  refine v_i2b h d_M_lay_18 ?_
  refine sM_tape h d_M_lay_19 (pk_vb _) ?_
  refine v_aload_n h d_M_lay_20 rfl ?_
  refine v_dup h d_M_lay_21 rfl ?_
  refine gM_taped h d_M_lay_22 ?_
  refine v_iconst (v := nI 1) h d_M_lay_25 (by decide) ?_
  refine v_iaddN h d_M_lay_26 ?_
  refine pM_taped h d_M_lay_27 ?_
  refine v_iinc (v := nI 0) (lv' := [_, _, _]) h d_M_lay_30 rfl (by decide) rfl ?_
  refine v_goto 3 h d_M_lay_33 (by decide) ?_
  refine v_iload_n h d_M_lay_3 rfl ?_
  refine v_ltZ 36 h d_M_lay_4 (by decide) ?_
  refine v_aload_n h d_M_lay_7 rfl ?_
  refine gM_tape h d_M_lay_8 ?_
  refine v_aload_n h d_M_lay_11 rfl ?_
  refine gM_taped h d_M_lay_12 ?_
  refine v_iload_n h d_M_lay_15 rfl ?_
  refine v_iload_n h d_M_lay_16 rfl ?_
  refine v_ishr h d_M_lay_17 ?_
  refine v_i2b h d_M_lay_18 ?_
  refine sM_tape h d_M_lay_19 (pk_vb _) ?_
  refine v_aload_n h d_M_lay_20 rfl ?_
  refine v_dup h d_M_lay_21 rfl ?_
  refine gM_taped h d_M_lay_22 ?_
  refine v_iconst (v := nI 1) h d_M_lay_25 (by decide) ?_
  refine v_iaddN h d_M_lay_26 ?_
  refine pM_taped h d_M_lay_27 ?_
  refine v_iinc (v := -8) (lv' := [_, _, _]) h d_M_lay_30 rfl (by decide) rfl ?_
  refine v_goto 3 h d_M_lay_33 (by decide) ?_
  refine v_iload_n h d_M_lay_3 rfl ?_
  refine v_if_lt 36 h d_M_lay_4 (by decide) (fun q4 => ?_) (fun q4 => ?_)
  · exact v_vret h hr d_M_lay_36 () rfl trivial
  · exact absurd (by decide) q4
theorem c_M_feed (l : Launch) (D : va_G) {cB cI : ClassId} {ad g : Nat → Nat} {T I K F L : Nat → Int32} {tp wt wd ks ft at_ : Nat} (a b c d e : Int32) (ht : tp ≤ 10240) : CtI l y_M_feed prog_4_method_3_code 6 .boolean r1 D cB cI ad [.ref (g 0), .int a, .int b, .int c, .int d, .int e] (wM cB cI g T I K F L tp wt wd ks ft at_) (fun (r : Int32) (u : (Nat → Int32) × Nat) => r = bI (feedB tp) ∧ u = (feedT T tp (fw a b c d e), feedN tp)) (fun u => (wM cB cI g u.1 I K F L u.2 wt wd ks ft at_)) 0 0 := by
  refine CtI.mk (own := "RequestCutterModel") (by decide) rfl (cat_of rfl) (Nat.le_of_ble_eq_true rfl) (fun E h hr => ?_)
  refine v_lv (lv' := [_, _, _, _, _, _]) rfl ?_
  refine v_aload_n h d_M_feed_0 rfl ?_
  refine gM_taped h d_M_feed_1 ?_
  refine v_bipush (v := nI 20) h d_M_feed_4 (by decide) ?_
  refine v_iaddN h d_M_feed_6 ?_
  refine v_sipush (v := nI 10240) h d_M_feed_7 (by decide) ?_
  refine v_leN 15 h d_M_feed_10 (by decide) (fun q10 => ?_) (fun q10 => ?_)
  · refine v_aload_n h d_M_feed_15 rfl ?_
    refine v_iload_n h d_M_feed_16 rfl ?_
    refine v_callV (wc := (wM cB cI g T I K F L tp wt wd ks ft at_)) (wr := []) (As := [.int a]) (st := []) h (show LkV "RequestCutterModel" 31 "RequestCutterModel" ⟨"RequestCutterModel", "lay", "(I)V"⟩ prog_4_method_2_code 3 none 1 from ⟨k_249, k_251, k_s2, k_3, k_252, by decide +kernel⟩) (fun l D => c_M_lay l D a (by omega)) [0, 1, 2, 3, 4, 5] [] rfl rfl (by decide) (by decide) (by decide) (ci := 2) rfl rfl rfl rfl rfl (by decide) rfl (by decide) (by decide) (by decide) d_M_feed_17 rfl (fun _ _ => ?_)
    refine v_ws (ws' := (wM cB cI g (fd T tp (fun _ => a) 4) I K F L (tp + 4) wt wd ks ft at_)) rfl ?_
    refine v_aload_n h d_M_feed_20 rfl ?_
    refine v_iload_n h d_M_feed_21 rfl ?_
    refine v_callV (wc := (wM cB cI g (fd T tp (fun _ => a) 4) I K F L (tp + 4) wt wd ks ft at_)) (wr := []) (As := [.int b]) (st := []) h (show LkV "RequestCutterModel" 31 "RequestCutterModel" ⟨"RequestCutterModel", "lay", "(I)V"⟩ prog_4_method_2_code 3 none 1 from ⟨k_249, k_251, k_s2, k_3, k_252, by decide +kernel⟩) (fun l D => c_M_lay l D b (by omega)) [0, 1, 2, 3, 4, 5] [] rfl rfl (by decide) (by decide) (by decide) (ci := 2) rfl rfl rfl rfl rfl (by decide) rfl (by decide) (by decide) (by decide) d_M_feed_22 rfl (fun _ _ => ?_)
    refine v_ws (ws' := (wM cB cI g (fd (fd T tp (fun _ => a) 4) (tp + 4) (fun _ => b) 4) I K F L (tp + 8) wt wd ks ft at_)) rfl ?_
    refine v_aload_n h d_M_feed_25 rfl ?_
    refine v_iload_n h d_M_feed_26 rfl ?_
    refine v_callV (wc := (wM cB cI g (fd (fd T tp (fun _ => a) 4) (tp + 4) (fun _ => b) 4) I K F L (tp + 8) wt wd ks ft at_)) (wr := []) (As := [.int c]) (st := []) h (show LkV "RequestCutterModel" 31 "RequestCutterModel" ⟨"RequestCutterModel", "lay", "(I)V"⟩ prog_4_method_2_code 3 none 1 from ⟨k_249, k_251, k_s2, k_3, k_252, by decide +kernel⟩) (fun l D => c_M_lay l D c (by omega)) [0, 1, 2, 3, 4, 5] [] rfl rfl (by decide) (by decide) (by decide) (ci := 2) rfl rfl rfl rfl rfl (by decide) rfl (by decide) (by decide) (by decide) d_M_feed_27 rfl (fun _ _ => ?_)
    generalize eT : fd (fd (fd T tp (fun _ => a) 4) (tp + 4) (fun _ => b) 4) (tp + 8) (fun _ => c) 4 = T3
    refine v_ws (ws' := (wM cB cI g T3 I K F L (tp + 12) wt wd ks ft at_)) rfl ?_
    refine v_aload_n h d_M_feed_30 rfl ?_
    refine v_iload h d_M_feed_31 rfl ?_
    refine v_callV (wc := (wM cB cI g T3 I K F L (tp + 12) wt wd ks ft at_)) (wr := []) (As := [.int d]) (st := []) h (show LkV "RequestCutterModel" 31 "RequestCutterModel" ⟨"RequestCutterModel", "lay", "(I)V"⟩ prog_4_method_2_code 3 none 1 from ⟨k_249, k_251, k_s2, k_3, k_252, by decide +kernel⟩) (fun l D => c_M_lay l D d (by omega)) [0, 1, 2, 3, 4, 5] [] rfl rfl (by decide) (by decide) (by decide) (ci := 2) rfl rfl rfl rfl rfl (by decide) rfl (by decide) (by decide) (by decide) d_M_feed_33 rfl (fun _ _ => ?_)
    refine v_ws (ws' := (wM cB cI g (fd T3 (tp + 12) (fun _ => d) 4) I K F L (tp + 16) wt wd ks ft at_)) rfl ?_
    refine v_aload_n h d_M_feed_36 rfl ?_
    refine v_iload h d_M_feed_37 rfl ?_
    refine v_callV (wc := (wM cB cI g (fd T3 (tp + 12) (fun _ => d) 4) I K F L (tp + 16) wt wd ks ft at_)) (wr := []) (As := [.int e]) (st := []) h (show LkV "RequestCutterModel" 31 "RequestCutterModel" ⟨"RequestCutterModel", "lay", "(I)V"⟩ prog_4_method_2_code 3 none 1 from ⟨k_249, k_251, k_s2, k_3, k_252, by decide +kernel⟩) (fun l D => c_M_lay l D e (by omega)) [0, 1, 2, 3, 4, 5] [] rfl rfl (by decide) (by decide) (by decide) (ci := 2) rfl rfl rfl rfl rfl (by decide) rfl (by decide) (by decide) (by decide) d_M_feed_39 rfl (fun _ _ => ?_)
    refine v_ws (ws' := (wM cB cI g (fd T tp (fw a b c d e) 20) I K F L (tp + 20) wt wd ks ft at_)) (by rw [← eT]; rfl) ?_
    refine v_iconst (v := nI 1) h d_M_feed_42 (by decide) ?_
    exact v_iret h hr (by decide) d_M_feed_43 (fd T tp (fw a b c d e) 20, tp + 20) rfl ⟨by rw [feedB, decide_eq_true q10]; rfl, by rw [feedT, feedN, if_pos q10, if_pos q10]⟩
  · refine v_iconst (v := nI 0) h d_M_feed_13 (by decide) ?_
    exact v_iret h hr (by decide) d_M_feed_14 (T, tp) rfl ⟨by rw [feedB, decide_eq_false (by omega)]; rfl, by rw [feedT, feedN, if_neg (by omega), if_neg (by omega)]⟩
theorem c_X_feed (l : Launch) (D : va_G) {cB cI : ClassId} {ad g : Nat → Nat} {T : Nat → Int32} {len : Nat} {I : Nat → Int32} {many : Nat} {K : Nat → Int32} {wd ft : Nat} {at_ sz : Nat → Int32} {cw ce : Nat} {cf : Value} {cn : Int32} (a b c d e : Int32) (ht : len ≤ 10240) : CtI l y_X_feed prog_1_method_2_code 8 .boolean r1 D cB cI ad [.ref (g 0), .int a, .int b, .int c, .int d, .int e] (wX cB cI g T len I many K wd ft at_ sz cw ce cf cn) (fun (r : Int32) (u : (Nat → Int32) × Nat) => r = bI (feedB len) ∧ u = (feedT T len (fw a b c d e), feedN len)) (fun u => (wX cB cI g u.1 u.2 I many K wd ft at_ sz cw ce cf cn)) 0 0 := by
  refine CtI.mk (own := "RequestCutter") (by decide) rfl (cat_of rfl) (Nat.le_of_ble_eq_true rfl) (fun E h hr => ?_)
  refine v_lv (lv' := [_, _, _, _, _, _, _, _]) rfl ?_
  refine v_aload_n h d_X_feed_0 rfl ?_
  refine gX_length h d_X_feed_1 ?_
  refine v_bipush (v := nI 20) h d_X_feed_4 (by decide) ?_
  refine v_iaddN h d_X_feed_6 ?_
  refine v_sipush (v := nI 10240) h d_X_feed_7 (by decide) ?_
  refine v_leN 15 h d_X_feed_10 (by decide) (fun q10 => ?_) (fun q10 => ?_)
  · have loop : ∀ t j, j ≤ 20 → 21 ≤ j + t → ∀ z, V E 0 0 (wX cB cI g (fd T len (fw a b c d e) j) (len + j) I many K wd ft at_ sz cw ce cf cn) 18 [some (.ref (g 0)), some (.int a), some (.int b), some (.int c), some (.int d), some (.int e), some (.int (nI j)), z] [] := by
      intro t
      induction t with
      | zero => intro j h1 h2; omega
      | succ t ih =>
        intro j h1 h2 z
        refine v_iload h d_X_feed_18 rfl ?_
        refine v_bipush (v := nI 20) h d_X_feed_20 (by decide) ?_
        refine v_geN 112 h d_X_feed_22 (by decide) (fun q22 => ?_) (fun q22 => ?_)
        · have e : j = 20 := by omega
          subst e
          refine v_iconst (v := nI 1) h d_X_feed_112 (by decide) ?_
          exact v_iret h hr (by decide) d_X_feed_113 (fd T len (fw a b c d e) 20, len + 20) rfl ⟨by rw [feedB, decide_eq_true q10]; rfl, by rw [feedT, feedN, if_pos q10, if_pos q10]⟩
        · have K71 : ∀ vv : Int32, vv = fw a b c d e (j / 4) → V E 0 0 (wX cB cI g (fd T len (fw a b c d e) j) (len + j) I many K wd ft at_ sz cw ce cf cn) 71 [some (.ref (g 0)), some (.int a), some (.int b), some (.int c), some (.int d), some (.int e), some (.int (nI j)), z] [.int vv] := by
            intro vv ev
            subst ev
            refine v_istore (lv' := [_, _, _, _, _, _, _, _]) h d_X_feed_71 (Nat.le_of_ble_eq_true rfl) rfl ?_
            refine v_aload_n h d_X_feed_73 rfl ?_
            refine gX_tape h d_X_feed_74 ?_
            refine v_aload_n h d_X_feed_77 rfl ?_
            refine gX_length h d_X_feed_78 ?_
            refine v_iload h d_X_feed_81 rfl ?_
            refine v_bipush (v := nI 24) h d_X_feed_83 (by decide) ?_
            refine v_bipush (v := nI 8) h d_X_feed_85 (by decide) ?_
            refine v_iload h d_X_feed_87 rfl ?_
            refine v_iconst (v := nI 4) h d_X_feed_89 (by decide) ?_
            refine v_iremN h d_X_feed_90 ?_
            refine v_imulN h d_X_feed_91 ?_
            refine v_isubN h d_X_feed_92 ?_
            refine v_ishr h d_X_feed_93 ?_
            refine v_i2b h d_X_feed_94 ?_
            refine sX_tape h d_X_feed_95 (pk_vb _) ?_
            refine v_aload_n h d_X_feed_96 rfl ?_
            refine v_dup h d_X_feed_97 rfl ?_
            refine gX_length h d_X_feed_98 ?_
            refine v_iconst (v := nI 1) h d_X_feed_101 (by decide) ?_
            refine v_iaddN h d_X_feed_102 ?_
            refine pX_length h d_X_feed_103 ?_
            refine v_iinc1 (lv' := [_, _, _, _, _, _, _, _]) h d_X_feed_106 rfl rfl ?_
            refine v_goto 18 h d_X_feed_109 (by decide) ?_
            exact ih (j + 1) (by omega) (by omega) _
          refine v_iload h d_X_feed_25 rfl ?_
          refine v_iconst (v := nI 4) h d_X_feed_27 (by decide) ?_
          refine v_geN 35 h d_X_feed_28 (by decide) (fun q28 => ?_) (fun q28 => ?_)
          · refine v_iload h d_X_feed_35 rfl ?_
            refine v_bipush (v := nI 8) h d_X_feed_37 (by decide) ?_
            refine v_geN 46 h d_X_feed_39 (by decide) (fun q39 => ?_) (fun q39 => ?_)
            · refine v_iload h d_X_feed_46 rfl ?_
              refine v_bipush (v := nI 12) h d_X_feed_48 (by decide) ?_
              refine v_geN 57 h d_X_feed_50 (by decide) (fun q50 => ?_) (fun q50 => ?_)
              · refine v_iload h d_X_feed_57 rfl ?_
                refine v_bipush (v := nI 16) h d_X_feed_59 (by decide) ?_
                refine v_geN 69 h d_X_feed_61 (by decide) (fun q61 => ?_) (fun q61 => ?_)
                · refine v_iload h d_X_feed_69 rfl ?_
                  exact K71 e (by rw [show j / 4 = 4 by omega]; rfl)
                · refine v_iload h d_X_feed_64 rfl ?_
                  refine v_goto 71 h d_X_feed_66 (by decide) ?_
                  exact K71 d (by rw [show j / 4 = 3 by omega]; rfl)
              · refine v_iload_n h d_X_feed_53 rfl ?_
                refine v_goto 71 h d_X_feed_54 (by decide) ?_
                exact K71 c (by rw [show j / 4 = 2 by omega]; rfl)
            · refine v_iload_n h d_X_feed_42 rfl ?_
              refine v_goto 71 h d_X_feed_43 (by decide) ?_
              exact K71 b (by rw [show j / 4 = 1 by omega]; rfl)
          · refine v_iload_n h d_X_feed_31 rfl ?_
            refine v_goto 71 h d_X_feed_32 (by decide) ?_
            exact K71 a (by rw [show j / 4 = 0 by omega]; rfl)
    refine v_iconst (v := nI 0) h d_X_feed_15 (by decide) ?_
    refine v_istore (lv' := [_, _, _, _, _, _, _, _]) h d_X_feed_16 (Nat.le_of_ble_eq_true rfl) rfl ?_
    exact loop 21 0 (by omega) (by omega) _
  · refine v_iconst (v := nI 0) h d_X_feed_13 (by decide) ?_
    exact v_iret h hr (by decide) d_X_feed_14 (T, len) rfl ⟨by rw [feedB, decide_eq_false (by omega)]; rfl, by rw [feedT, feedN, if_neg (by omega), if_neg (by omega)]⟩
end
section
def byR (wd : Nat) (A Z K : Nat → Int32) (x y : Int32) : Int32 := if (¬ x < 0 ∧ x < nI wd) ∧ (¬ y < 0 ∧ y < Z x.toNatClampNeg) then K ((A x.toNatClampNeg).toNatClampNeg + y.toNatClampNeg) &&& nI 255 else -1
theorem byR_x0 {wd : Nat} {A Z K : Nat → Int32} {x y : Int32} (h : x < 0) : byR wd A Z K x y = -1 := by simp [byR, h]
theorem byR_x1 {wd j : Nat} {A Z K : Nat → Int32} {y : Int32} (hj : j < 2 ^ 31) (h : wd ≤ j) : byR wd A Z K (nI j) y = -1 := by
  have := nI_nlt h hj
  simp [byR, this]
theorem byR_y0 {wd : Nat} {A Z K : Nat → Int32} {x y : Int32} (h : y < 0) : byR wd A Z K x y = -1 := by simp [byR, h]
theorem byR_y1 {wd j i s : Nat} {A Z K : Nat → Int32} (hj : j < 2 ^ 31) (hi : i < 2 ^ 31) (e : Z j = nI s) (h : s ≤ i) : byR wd A Z K (nI j) (nI i) = -1 := by
  have := nI_nlt h hi
  simp [byR, nI_clamp hj, e, this]
theorem byR_in {wd j i s a : Nat} {A Z K : Nat → Int32} (hw : wd < 2 ^ 31) (h : j < wd) (hs : s < 2 ^ 31) (ha : a < 2 ^ 31) (e1 : A j = nI a) (e : Z j = nI s) (h2 : i < s) : byR wd A Z K (nI j) (nI i) = K (a + i) &&& nI 255 := by
  have h1 := nI_lt h hw
  have h3 := nI_pos (Nat.lt_trans h hw)
  have h4 := nI_lt h2 hs
  have h5 := nI_pos (Nat.lt_trans h2 hs)
  unfold byR
  rw [nI_clamp (Nat.lt_trans h hw), e, e1, if_pos ⟨⟨h3, h1⟩, h5, h4⟩, nI_clamp ha, nI_clamp (Nat.lt_trans h2 hs)]
theorem m1_le (i : Nat) (hi : i < 2 ^ 31) : (-1 : Int32) ≤ nI i := by
  rw [Int32.le_iff_toInt_le, nI_toInt hi, show (-1 : Int32).toInt = -1 by decide]
  omega
theorem c_X_byteOf (l : Launch) (D : va_G) {cB cI : ClassId} {ad g : Nat → Nat} {T : Nat → Int32} {len : Nat} {I : Nat → Int32} {many : Nat} {K : Nat → Int32} {wd ft : Nat} {at_ sz : Nat → Int32} {cw ce : Nat} {cf : Value} {cn : Int32} (x y : Int32) (hw : wd ≤ 1100) (hz : ∀ j, j < wd → ∃ a s : Nat, at_ j = nI a ∧ sz j = nI s ∧ a + s ≤ 65536) : CtI l y_X_byteOf prog_1_method_8_code 3 .int r1 D cB cI ad [.ref (g 0), .int x, .int y] (wX cB cI g T len I many K wd ft at_ sz cw ce cf cn) (fun (r : Int32) (_ : Unit) => r = byR wd at_ sz K x y) (fun _ => (wX cB cI g T len I many K wd ft at_ sz cw ce cf cn)) 0 0 := by
  refine CtI.mk (own := "RequestCutter") (by decide) rfl (cat_of rfl) (Nat.le_of_ble_eq_true rfl) (fun E h hr => ?_)
  refine v_lv (lv' := [_, _, _]) rfl ?_
  refine v_iload_n h d_X_byteOf_0 rfl ?_
  refine v_if_lt 52 h d_X_byteOf_1 (by decide) (fun q1 => ?_) (fun q1 => ?_)
  · refine v_iconst (v := (-1)) h d_X_byteOf_52 (by decide) ?_
    exact v_iret h hr rfl d_X_byteOf_53 () rfl (byR_x0 q1).symm
  · obtain ⟨j, hj, rfl⟩ := nI_of q1
    refine v_iload_n h d_X_byteOf_4 rfl ?_
    refine v_aload_n h d_X_byteOf_5 rfl ?_
    refine gX_words h d_X_byteOf_6 ?_
    refine v_geN 52 h d_X_byteOf_9 (by decide) (fun q9 => ?_) (fun q9 => ?_)
    · refine v_iconst (v := (-1)) h d_X_byteOf_52 (by decide) ?_
      exact v_iret h hr rfl d_X_byteOf_53 () rfl (byR_x1 hj q9).symm
    · obtain ⟨a, s, e1, e2, e3⟩ := hz j q9
      refine v_iload_n h d_X_byteOf_12 rfl ?_
      refine v_if_lt 52 h d_X_byteOf_13 (by decide) (fun q13 => ?_) (fun q13 => ?_)
      · refine v_iconst (v := (-1)) h d_X_byteOf_52 (by decide) ?_
        exact v_iret h hr rfl d_X_byteOf_53 () rfl (byR_y0 q13).symm
      · obtain ⟨i, hi, rfl⟩ := nI_of q13
        refine v_iload_n h d_X_byteOf_16 rfl ?_
        refine v_aload_n h d_X_byteOf_17 rfl ?_
        refine gX_cutter h d_X_byteOf_18 ?_
        refine gXC_size h d_X_byteOf_21 ?_
        refine v_iload_n h d_X_byteOf_24 rfl ?_
        refine lX_size h d_X_byteOf_25 ?_
        refine v_topi e2 ?_
        refine v_geN 52 h d_X_byteOf_26 (by decide) (fun q26 => ?_) (fun q26 => ?_)
        · refine v_iconst (v := (-1)) h d_X_byteOf_52 (by decide) ?_
          exact v_iret h hr rfl d_X_byteOf_53 () rfl (byR_y1 hj hi e2 q26).symm
        · refine v_aload_n h d_X_byteOf_29 rfl ?_
          refine gX_kept h d_X_byteOf_30 ?_
          refine v_aload_n h d_X_byteOf_33 rfl ?_
          refine gX_cutter h d_X_byteOf_34 ?_
          refine gXC_at h d_X_byteOf_37 ?_
          refine v_iload_n h d_X_byteOf_40 rfl ?_
          refine lX_at h d_X_byteOf_41 ?_
          refine v_topi e1 ?_
          refine v_iload_n h d_X_byteOf_42 rfl ?_
          refine v_iaddN h d_X_byteOf_43 ?_
          refine lX_kept h d_X_byteOf_44 ?_
          refine v_sipush (v := nI 255) h d_X_byteOf_45 (by decide) ?_
          refine v_iand h d_X_byteOf_48 ?_
          refine v_goto 53 h d_X_byteOf_49 (by decide) ?_
          exact v_iret h hr rfl d_X_byteOf_53 () rfl (byR_in (by omega) q9 (by omega) (by omega) e1 e2 q26).symm
theorem c_M_byteOf (l : Launch) (D : va_G) {cB cI : ClassId} {ad g : Nat → Nat} {T I K F L : Nat → Int32} {tp wt wd ks ft at_ : Nat} (x y : Int32) (hw : wd ≤ 1025) (hz : ∀ j, j < wd → ∃ a s : Nat, F j = nI a ∧ L j = nI s ∧ a + s ≤ 65536) : CtI l y_M_byteOf prog_4_method_17_code 3 .int r1 D cB cI ad [.ref (g 0), .int x, .int y] (wM cB cI g T I K F L tp wt wd ks ft at_) (fun (r : Int32) (_ : Unit) => r = byR wd F L K x y) (fun _ => (wM cB cI g T I K F L tp wt wd ks ft at_)) 0 0 := by
  refine CtI.mk (own := "RequestCutterModel") (by decide) rfl (cat_of rfl) (Nat.le_of_ble_eq_true rfl) (fun E h hr => ?_)
  refine v_lv (lv' := [_, _, _]) rfl ?_
  refine v_iload_n h d_M_byteOf_0 rfl ?_
  refine v_if_lt 33 h d_M_byteOf_1 (by decide) (fun q1 => ?_) (fun q1 => ?_)
  · refine v_iconst (v := (-1)) h d_M_byteOf_33 (by decide) ?_
    exact v_iret h hr rfl d_M_byteOf_34 () rfl (byR_y0 q1).symm
  · obtain ⟨i, hi, rfl⟩ := nI_of q1
    refine v_iload_n h d_M_byteOf_4 rfl ?_
    refine v_aload_n h d_M_byteOf_5 rfl ?_
    refine v_iload_n h d_M_byteOf_6 rfl ?_
    refine v_callI (wc := (wM cB cI g T I K F L tp wt wd ks ft at_)) (wr := []) (As := [.int x]) (st := [.int (nI i)]) h (show LkV "RequestCutterModel" 77 "RequestCutterModel" ⟨"RequestCutterModel", "size", "(I)I"⟩ prog_4_method_16_code 2 (some .int) 1 from ⟨k_311, k_304, k_305, k_3, k_306, by decide +kernel⟩) (fun l D => c_M_size l D x hw) [0, 1, 2, 3, 4, 5] [] rfl rfl (by decide) (by decide) (by decide) (ci := 2) rfl rfl rfl rfl rfl (by decide) rfl (Nat.le_of_ble_eq_true rfl) (by decide) (by decide) d_M_byteOf_7 rfl (fun r _ hp => ?_)
    subst hp
    refine v_ws (ws' := (wM cB cI g T I K F L tp wt wd ks ft at_)) rfl ?_
    by_cases hx0 : x < 0
    · rw [sizeR_neg hx0]
      refine v_icmp_ge 33 h d_M_byteOf_10 (by decide) (fun q10 => ?_) (fun q10 => ?_)
      · refine v_iconst (v := (-1)) h d_M_byteOf_33 (by decide) ?_
        exact v_iret h hr rfl d_M_byteOf_34 () rfl (byR_x0 hx0).symm
      · exact absurd (m1_le i hi) q10
    · obtain ⟨j, hj, rfl⟩ := nI_of hx0
      by_cases hx1 : wd ≤ j
      · rw [sizeR_out hj hx1]
        refine v_icmp_ge 33 h d_M_byteOf_10 (by decide) (fun q10 => ?_) (fun q10 => ?_)
        · refine v_iconst (v := (-1)) h d_M_byteOf_33 (by decide) ?_
          exact v_iret h hr rfl d_M_byteOf_34 () rfl (byR_x1 hj hx1).symm
        · exact absurd (m1_le i hi) q10
      · obtain ⟨a, s, e1, e2, e3⟩ := hz j (by omega)
        rw [sizeR_in (by omega) (by omega)]
        refine v_topi e2 ?_
        refine v_geN 33 h d_M_byteOf_10 (by decide) (fun q10 => ?_) (fun q10 => ?_)
        · refine v_iconst (v := (-1)) h d_M_byteOf_33 (by decide) ?_
          exact v_iret h hr rfl d_M_byteOf_34 () rfl (byR_y1 hj hi e2 q10).symm
        · refine v_aload_n h d_M_byteOf_13 rfl ?_
          refine gM_kept h d_M_byteOf_14 ?_
          refine v_aload_n h d_M_byteOf_17 rfl ?_
          refine gM_from h d_M_byteOf_18 ?_
          refine v_iload_n h d_M_byteOf_21 rfl ?_
          refine lM_from h d_M_byteOf_22 ?_
          refine v_topi e1 ?_
          refine v_iload_n h d_M_byteOf_23 rfl ?_
          refine v_iaddN h d_M_byteOf_24 ?_
          refine lM_kept h d_M_byteOf_25 ?_
          refine v_sipush (v := nI 255) h d_M_byteOf_26 (by decide) ?_
          refine v_iand h d_M_byteOf_29 ?_
          refine v_goto 34 h d_M_byteOf_30 (by decide) ?_
          exact v_iret h hr rfl d_M_byteOf_34 () rfl (byR_in (by omega) (by omega) (by omega) (by omega) e1 e2 q10).symm
def mustP (I : Nat → Int32) (wt at_ : Nat) (c r : Int32) (u : Nat) : Prop := (wt ≤ at_ ∧ r = nI 0 ∧ u = at_) ∨ (at_ < wt ∧ u = at_ + 1 ∧ ((I at_ = c ∧ r = nI 1) ∨ (¬ I at_ = c ∧ r = -1)))
theorem c_M_must (l : Launch) (D : va_G) {cB cI : ClassId} {ad g : Nat → Nat} {T I K F L : Nat → Int32} {tp wt wd ks ft at_ : Nat} (c : Int32) (hwt : wt ≤ 65536) (hat : at_ ≤ 1000000) : CtI l y_M_must prog_4_method_10_code 3 .int r4 D cB cI ad [.ref (g 0), .int c] (wM cB cI g T I K F L tp wt wd ks ft at_) (fun (r : Int32) (u : Nat) => mustP I wt at_ c r u) (fun u => (wM cB cI g T I K F L tp wt wd ks ft u)) 0 0 := by
  refine CtI.mk (own := "RequestCutterModel") (by decide) rfl (cat_of rfl) (Nat.le_of_ble_eq_true rfl) (fun E h hr => ?_)
  refine v_lv (lv' := [_, _, _]) rfl ?_
  refine v_aload_n h d_M_must_0 rfl ?_
  refine gM_at h d_M_must_1 ?_
  refine v_aload_n h d_M_must_4 rfl ?_
  refine gM_waits h d_M_must_5 ?_
  refine v_ltN 13 h d_M_must_8 (by decide) (fun q8 => ?_) (fun q8 => ?_)
  · refine v_aload_n h d_M_must_13 rfl ?_
    refine gM_input h d_M_must_14 ?_
    refine v_aload_n h d_M_must_17 rfl ?_
    refine gM_at h d_M_must_18 ?_
    refine lM_input h d_M_must_21 ?_
    refine v_iload_n h d_M_must_22 rfl ?_
    refine v_icmp_ne 30 h d_M_must_23 (by decide) (fun q23 => ?_) (fun q23 => ?_)
    · refine v_iconst (v := nI 0) h d_M_must_30 (by decide) ?_
      refine v_istore_n (lv' := [_, _, _]) h d_M_must_31 (Nat.le_of_ble_eq_true rfl) rfl ?_
      refine v_aload_n h d_M_must_32 rfl ?_
      refine v_dup h d_M_must_33 rfl ?_
      refine gM_at h d_M_must_34 ?_
      refine v_iconst (v := nI 1) h d_M_must_37 (by decide) ?_
      refine v_iaddN h d_M_must_38 ?_
      refine pM_at h d_M_must_39 ?_
      refine v_iload_n h d_M_must_42 rfl ?_
      refine v_eqZ 50 h d_M_must_43 (by decide) (fun q43 => ?_) (fun q43 => ?_)
      · refine v_iconst (v := (-1)) h d_M_must_50 (by decide) ?_
        exact v_iret h hr rfl d_M_must_51 (at_ + 1) rfl (Or.inr ⟨q8, rfl, Or.inr ⟨q23, rfl⟩⟩)
      · exact absurd rfl q43
    · refine v_iconst (v := nI 1) h d_M_must_26 (by decide) ?_
      refine v_goto 31 h d_M_must_27 (by decide) ?_
      refine v_istore_n (lv' := [_, _, _]) h d_M_must_31 (Nat.le_of_ble_eq_true rfl) rfl ?_
      refine v_aload_n h d_M_must_32 rfl ?_
      refine v_dup h d_M_must_33 rfl ?_
      refine gM_at h d_M_must_34 ?_
      refine v_iconst (v := nI 1) h d_M_must_37 (by decide) ?_
      refine v_iaddN h d_M_must_38 ?_
      refine pM_at h d_M_must_39 ?_
      refine v_iload_n h d_M_must_42 rfl ?_
      refine v_eqZ 50 h d_M_must_43 (by decide) (fun q43 => ?_) (fun q43 => ?_)
      · exact absurd q43 (by decide)
      · refine v_iconst (v := nI 1) h d_M_must_46 (by decide) ?_
        refine v_goto 51 h d_M_must_47 (by decide) ?_
        exact v_iret h hr rfl d_M_must_51 (at_ + 1) rfl (Or.inr ⟨q8, rfl, Or.inl ⟨q23, rfl⟩⟩)
  · refine v_iconst (v := nI 0) h d_M_must_11 (by decide) ?_
    exact v_iret h hr rfl d_M_must_12 at_ rfl (Or.inl ⟨q8, rfl, rfl⟩)
theorem c_M_word (l : Launch) (D : va_G) {cB cI : ClassId} {ad g : Nat → Nat} {T I K F L : Nat → Int32} {tp wt wd ks ft at_ : Nat} (wh z : Nat) (hwd : wd < 1025) (h1 : wh + z ≤ 65536) (h2 : ks + z ≤ 65536) (hI : B8 I) : CtV l y_M_word prog_4_method_9_code 4 r4 D cB cI ad [.ref (g 0), .int (nI wh), .int (nI z)] (wM cB cI g T I K F L tp wt wd ks ft at_) (fun (_ : Unit) => True) (fun _ => (wM cB cI g T I (va_cpy I K wh ks z) (upd F wd (nI ks)) (upd L wd (nI z)) tp wt (wd + 1) (ks + z) ft at_)) 0 0 := by
  refine CtV.mk (own := "RequestCutterModel") (by decide) rfl (cat_of rfl) (Nat.le_of_ble_eq_true rfl) (fun E h hr _ => ?_)
  refine v_lv (lv' := [_, _, _, _]) rfl ?_
  have loop : ∀ d j, j ≤ z → z + 1 ≤ j + d → V E 0 0 (wM cB cI g T I (va_cpy I K wh ks j) (upd F wd (nI ks)) (upd L wd (nI z)) tp wt wd ks ft at_) 25 [some (.ref (g 0)), some (.int (nI wh)), some (.int (nI z)), some (.int (nI j))] [] := by
    intro d
    induction d with
    | zero => intro j h1 h2; omega
    | succ d ih =>
      intro j g1 g2
      refine v_iload_n h d_M_word_25 rfl ?_
      refine v_iload_n h d_M_word_26 rfl ?_
      refine v_geN 55 h d_M_word_27 (by decide) (fun q27 => ?_) (fun q27 => ?_)
      · have e : j = z := by omega
        subst e
        refine v_aload_n h d_M_word_55 rfl ?_
        refine v_dup h d_M_word_56 rfl ?_
        refine gM_keptSize h d_M_word_57 ?_
        refine v_iload_n h d_M_word_60 rfl ?_
        refine v_iaddN h d_M_word_61 ?_
        refine pM_keptSize h d_M_word_62 ?_
        refine v_aload_n h d_M_word_65 rfl ?_
        refine v_dup h d_M_word_66 rfl ?_
        refine gM_words h d_M_word_67 ?_
        refine v_iconst (v := nI 1) h d_M_word_70 (by decide) ?_
        refine v_iaddN h d_M_word_71 ?_
        refine pM_words h d_M_word_72 ?_
        exact v_vret h hr d_M_word_75 () rfl trivial
      · refine v_aload_n h d_M_word_30 rfl ?_
        refine gM_kept h d_M_word_31 ?_
        refine v_aload_n h d_M_word_34 rfl ?_
        refine gM_keptSize h d_M_word_35 ?_
        refine v_iload_n h d_M_word_38 rfl ?_
        refine v_iaddN h d_M_word_39 ?_
        refine v_aload_n h d_M_word_40 rfl ?_
        refine gM_input h d_M_word_41 ?_
        refine v_iload_n h d_M_word_44 rfl ?_
        refine v_iload_n h d_M_word_45 rfl ?_
        refine v_iaddN h d_M_word_46 ?_
        refine lM_input h d_M_word_47 ?_
        refine sM_kept h d_M_word_48 (hI.nar _) ?_
        refine v_ws (ws' := (wM cB cI g T I (va_cpy I K wh ks (j + 1)) (upd F wd (nI ks)) (upd L wd (nI z)) tp wt wd ks ft at_)) (by rw [← cpy_succ]) ?_
        refine v_iinc1 (lv' := [_, _, _, _]) h d_M_word_49 rfl rfl ?_
        refine v_goto 25 h d_M_word_52 (by decide) ?_
        exact ih (j + 1) (by omega) (by omega)
  refine v_aload_n h d_M_word_0 rfl ?_
  refine gM_from h d_M_word_1 ?_
  refine v_aload_n h d_M_word_4 rfl ?_
  refine gM_words h d_M_word_5 ?_
  refine v_aload_n h d_M_word_8 rfl ?_
  refine gM_keptSize h d_M_word_9 ?_
  refine sM_from h d_M_word_12 rfl ?_
  refine v_aload_n h d_M_word_13 rfl ?_
  refine gM_long1 h d_M_word_14 ?_
  refine v_aload_n h d_M_word_17 rfl ?_
  refine gM_words h d_M_word_18 ?_
  refine v_iload_n h d_M_word_21 rfl ?_
  refine sM_long1 h d_M_word_22 rfl ?_
  refine v_iconst (v := nI 0) h d_M_word_23 (by decide) ?_
  refine v_istore_n (lv' := [_, _, _, _]) h d_M_word_24 (Nat.le_of_ble_eq_true rfl) rfl ?_
  refine v_ws (ws' := (wM cB cI g T I (va_cpy I K wh ks 0) (upd F wd (nI ks)) (upd L wd (nI z)) tp wt wd ks ft at_)) (by rw [cpy_zero]) ?_
  exact loop (z + 1) 0 (by omega) (by omega)
end
section
theorem lk_le {f : Nat → Int32} {n p : Nat} (h : lwh f n p) : lk f p ≤ lq f n p := by
  obtain ⟨h1, h2, h3⟩ := lq_spec f n p
  unfold lk
  split
  · rename_i e
    rcases Nat.eq_or_lt_of_le h1 with q | q
    · exfalso
      apply h3
      refine ⟨h.1, h.2, fun z => ?_⟩
      rw [← q, e] at z
      exact absurd z.1 (by decide)
    · exact q
  · exact h1
theorem ldg_s {f : Nat → Int32} {a i : Nat} (h : ldg f a i) (hd : nI 48 ≤ f i ∧ f i ≤ nI 57) : ldg f a (i + 1) := fun j g1 g2 => by
  rcases Nat.eq_or_lt_of_le (Nat.le_of_lt_succ g2) with e | e
  · rw [e]; exact hd
  · exact h j g1 e
theorem ldg_0 {f : Nat → Int32} {a : Nat} : ldg f a a := fun j g1 g2 => by omega
theorem dv_s {f : Nat → Int32} {a i : Nat} (h : a ≤ i) : nI 10 * dv f a (i - a) + f i - nI 48 = dv f a (i + 1 - a) := by
  rw [show i + 1 - a = i - a + 1 by omega]
  show _ = nI 10 * dv f a (i - a) + f (a + (i - a)) - nI 48
  rw [show a + (i - a) = i by omega]
theorem lres_0 {f : Nat → Int32} {n p : Nat} (h : lc f n p = 0) : lres f n p = lval f n p := by rw [lres, if_pos h]
theorem lres_1 {f : Nat → Int32} {n p : Nat} (h : lc f n p = 1) : lres f n p = -1000000 := by rw [lres, if_neg (by omega), if_pos h]
theorem lres_2 {f : Nat → Int32} {n p : Nat} (h : lc f n p = 2) : lres f n p = -1000001 := by rw [lres, if_neg (by omega), if_neg (by omega)]
/-- good so far -/
def lgi (f : Nat → Int32) (n p i : Nat) : Prop := lk f p < lq f n p ∧ lq f n p ≤ lk f p + 6 ∧ ldg f (lk f p) i
theorem lgi_q {f : Nat → Int32} {n p i : Nat} (h : lgd f n p) (hi : i ≤ lq f n p) : lgi f n p i := ⟨h.1, h.2.1, fun j g1 g2 => h.2.2 j g1 (by omega)⟩
set_option maxHeartbeats 4000000 in
theorem c_M_line (l : Launch) (D : va_G) {cB cI : ClassId} {ad g : Nat → Nat} {T I K F L : Nat → Int32} {tp wt wd ks ft at_ : Nat} (hwt : wt ≤ 65536) (hat : at_ ≤ wt) : CtI l y_M_line prog_4_method_8_code 8 .int r4 D cB cI ad [.ref (g 0)] (wM cB cI g T I K F L tp wt wd ks ft at_) (fun (r : Int32) (u : Nat) => r = lres I wt at_ ∧ (lc I wt at_ = 0 → u = lq I wt at_ + 2)) (fun u => (wM cB cI g T I K F L tp wt wd ks ft u)) 0 0 := by
  refine CtI.mk (own := "RequestCutterModel") (by decide) rfl (cat_of rfl) (Nat.le_of_ble_eq_true rfl) (fun E h hr => ?_)
  refine v_lv (lv' := [_, _, _, _, _, _, _, _]) rfl ?_
  have hlq := lq_spec I wt at_
  have K87 : ¬ lwh I wt at_ → lq I wt at_ ≤ wt + at_ + 1 → V E 0 0 (wM cB cI g T I K F L tp wt wd ks ft at_) 87 [some (.ref (g 0)), some (.int (nI (lq I wt at_))), none, none, none, none, none, none] [] := by
    intro hw hb
    refine v_iconst (v := nI 0) h d_M_line_87 (by decide) ?_
    refine v_istore_n (lv' := [_, _, _, _, _, _, _, _]) h d_M_line_88 (Nat.le_of_ble_eq_true rfl) rfl ?_
    refine v_iload_n h d_M_line_89 rfl ?_
    refine v_neZ 115 h d_M_line_90 (by decide) (fun q90 => ?_) (fun q90 => ?_)
    · exact absurd rfl q90
    · refine v_aload_n h d_M_line_93 rfl ?_
      refine gM_waits h d_M_line_94 ?_
      refine v_aload_n h d_M_line_97 rfl ?_
      refine gM_at h d_M_line_98 ?_
      refine v_isubN h d_M_line_101 ?_
      refine v_bipush (v := nI 16) h d_M_line_102 (by decide) ?_
      refine v_ltN 112 h d_M_line_104 (by decide) (fun q104 => ?_) (fun q104 => ?_)
      · refine v_ldc (v := (-1000000)) h d_M_line_112 k_282 (by decide) ?_
        exact v_iret h hr rfl d_M_line_114 at_ rfl ⟨(lres_1 (lc_wait hw (by omega))).symm, fun z => absurd z (by rw [lc_wait hw (by omega)]; decide)⟩
      · refine v_ldc (v := (-1000001)) h d_M_line_107 k_281 (by decide) ?_
        refine v_goto 114 h d_M_line_109 (by decide) ?_
        exact v_iret h hr rfl d_M_line_114 at_ rfl ⟨(lres_2 (lc_far hw (by omega))).symm, fun z => absurd z (by rw [lc_far hw (by omega)]; decide)⟩
  have K254 : lwh I wt at_ → ∀ (mi b : Bool) (v : Int32) (i : Nat), (mi = true ↔ I (at_ + 1) = nI 45) → (b = true → lgd I wt at_ ∧ v = dv I (lk I at_) (lq I wt at_ - lk I at_)) → (b = false → ¬ lgd I wt at_) → V E 0 0 (wM cB cI g T I K F L tp wt wd ks ft at_) 254 [some (.ref (g 0)), some (.int (nI (lq I wt at_))), some (.int (nI 1)), some (.int (nI (lk I at_))), some (.int (bI mi)), some (.int v), some (.int (bI b)), some (.int (nI i))] [] := by
    intro hw mi b v i hmi hb1 hb2
    refine v_aload_n h d_M_line_254 rfl ?_
    refine v_iload_n h d_M_line_255 rfl ?_
    refine v_iconst (v := nI 2) h d_M_line_256 (by decide) ?_
    refine v_iaddN h d_M_line_257 ?_
    refine pM_at h d_M_line_258 ?_
    refine v_iload h d_M_line_261 rfl ?_
    refine v_neB 271 h d_M_line_263 (by decide) (fun q263 => ?_) (fun q263 => ?_)
    · obtain ⟨hg, hv⟩ := hb1 q263
      refine v_iload h d_M_line_271 rfl ?_
      refine v_eqB 282 h d_M_line_273 (by decide) (fun q273 => ?_) (fun q273 => ?_)
      · refine v_iload h d_M_line_282 rfl ?_
        exact v_iret h hr rfl d_M_line_284 (lq I wt at_ + 2) rfl ⟨by rw [lres_0 (lc_ok hw hg), lval, if_neg (fun z => by rw [hmi.mpr z] at q273; cases q273), hv], fun _ => rfl⟩
      · refine v_iload h d_M_line_276 rfl ?_
        refine v_ineg h d_M_line_278 ?_
        refine v_goto 284 h d_M_line_279 (by decide) ?_
        exact v_iret h hr rfl d_M_line_284 (lq I wt at_ + 2) rfl ⟨by rw [lres_0 (lc_ok hw hg), lval, if_pos (hmi.mp q273), hv], fun _ => rfl⟩
    · have hg := hb2 q263
      refine v_ldc (v := (-1000001)) h d_M_line_266 k_281 (by decide) ?_
      refine v_goto 284 h d_M_line_268 (by decide) ?_
      exact v_iret h hr rfl d_M_line_284 (lq I wt at_ + 2) rfl ⟨(lres_2 (lc_bad hw hg)).symm, fun _ => rfl⟩
  have K179 : lwh I wt at_ → ∀ (mi : Bool), (mi = true ↔ I (at_ + 1) = nI 45) → ∀ d i, lk I at_ ≤ i → i ≤ lq I wt at_ → lq I wt at_ + 1 ≤ i + d → ∀ (b : Bool) (v : Int32), (b = true ↔ lgi I wt at_ i) → (b = true → v = dv I (lk I at_) (i - lk I at_)) → V E 0 0 (wM cB cI g T I K F L tp wt wd ks ft at_) 179 [some (.ref (g 0)), some (.int (nI (lq I wt at_))), some (.int (nI 1)), some (.int (nI (lk I at_))), some (.int (bI mi)), some (.int v), some (.int (bI b)), some (.int (nI i))] [] := by
    intro hw mi hmi d
    have hw1 := hw.1
    induction d with
    | zero => intro i h1 h2 h3; omega
    | succ d ih =>
      intro i h1 h2 h3 b v hb hv
      refine v_iload h d_M_line_179 rfl ?_
      refine v_iload_n h d_M_line_181 rfl ?_
      refine v_geN 254 h d_M_line_182 (by decide) (fun q182 => ?_) (fun q182 => ?_)
      · have e : i = lq I wt at_ := by omega
        refine K254 hw mi b v i hmi (fun z => ?_) (fun z y => ?_)
        · have hgi := hb.mp z
          rw [e] at hgi
          refine ⟨hgi, ?_⟩
          rw [← e]
          exact hv z
        · have := hb.mpr (lgi_q y h2)
          rw [z] at this
          cases this
      · have K218 : ¬ lgi I wt at_ (i + 1) → V E 0 0 (wM cB cI g T I K F L tp wt wd ks ft at_) 218 [some (.ref (g 0)), some (.int (nI (lq I wt at_))), some (.int (nI 1)), some (.int (nI (lk I at_))), some (.int (bI mi)), some (.int v), some (.int (bI b)), some (.int (nI i))] [] := by
          intro hn
          refine v_iconst (v := nI 0) h d_M_line_218 (by decide) ?_
          refine v_istore (lv' := [_, _, _, _, _, _, _, _]) h d_M_line_219 (Nat.le_of_ble_eq_true rfl) rfl ?_
          refine v_iload h d_M_line_221 rfl ?_
          refine v_eqZ 245 h d_M_line_223 (by decide) (fun q223 => ?_) (fun q223 => ?_)
          · refine v_iconst (v := nI 0) h d_M_line_245 (by decide) ?_
            refine v_istore (lv' := [_, _, _, _, _, _, _, _]) h d_M_line_246 (Nat.le_of_ble_eq_true rfl) rfl ?_
            refine v_iinc1 (lv' := [_, _, _, _, _, _, _, _]) h d_M_line_248 rfl rfl ?_
            refine v_goto 179 h d_M_line_251 (by decide) ?_
            exact ih (i + 1) (by omega) (by omega) (by omega) false (nI 0) ⟨fun z => Bool.noConfusion z, fun z => absurd z hn⟩ (fun z => by cases z)
          · exact absurd rfl q223
        refine v_iload h d_M_line_185 rfl ?_
        refine v_eqB 218 h d_M_line_187 (by decide) (fun q187 => ?_) (fun q187 => ?_)
        · refine K218 (fun z => ?_)
          have := hb.mpr ⟨z.1, z.2.1, fun j g1 g2 => z.2.2 j g1 (by omega)⟩
          rw [q187] at this
          cases this
        · have hgi := hb.mp q187
          refine v_aload_n h d_M_line_190 rfl ?_
          refine gM_input h d_M_line_191 ?_
          refine v_iload h d_M_line_194 rfl ?_
          refine lM_input h d_M_line_196 ?_
          refine v_bipush (v := nI 48) h d_M_line_197 (by decide) ?_
          refine v_icmp_lt 218 h d_M_line_199 (by decide) (fun q199 => ?_) (fun q199 => ?_)
          · refine K218 (fun z => ?_)
            exact absurd q199 (Int32.not_lt.mpr (z.2.2 i (by omega) (by omega)).1)
          · refine v_aload_n h d_M_line_202 rfl ?_
            refine gM_input h d_M_line_203 ?_
            refine v_iload h d_M_line_206 rfl ?_
            refine lM_input h d_M_line_208 ?_
            refine v_bipush (v := nI 57) h d_M_line_209 (by decide) ?_
            refine v_icmp_gt 218 h d_M_line_211 (by decide) (fun q211 => ?_) (fun q211 => ?_)
            · refine K218 (fun z => ?_)
              exact absurd q211 (Int32.not_lt.mpr (z.2.2 i (by omega) (by omega)).2)
            · have hgi2 : lgi I wt at_ (i + 1) := ⟨hgi.1, hgi.2.1, ldg_s hgi.2.2 ⟨Int32.not_lt.mp q199, Int32.not_lt.mp q211⟩⟩
              refine v_iconst (v := nI 1) h d_M_line_214 (by decide) ?_
              refine v_goto 219 h d_M_line_215 (by decide) ?_
              refine v_istore (lv' := [_, _, _, _, _, _, _, _]) h d_M_line_219 (Nat.le_of_ble_eq_true rfl) rfl ?_
              refine v_iload h d_M_line_221 rfl ?_
              refine v_eqZ 245 h d_M_line_223 (by decide) (fun q223 => ?_) (fun q223 => ?_)
              · exact absurd q223 (by decide)
              · refine v_bipush (v := nI 10) h d_M_line_226 (by decide) ?_
                refine v_iload h d_M_line_228 rfl ?_
                refine v_imul h d_M_line_230 ?_
                refine v_aload_n h d_M_line_231 rfl ?_
                refine gM_input h d_M_line_232 ?_
                refine v_iload h d_M_line_235 rfl ?_
                refine lM_input h d_M_line_237 ?_
                refine v_iadd h d_M_line_238 ?_
                refine v_bipush (v := nI 48) h d_M_line_239 (by decide) ?_
                refine v_isub h d_M_line_241 ?_
                refine v_goto 246 h d_M_line_242 (by decide) ?_
                refine v_istore (lv' := [_, _, _, _, _, _, _, _]) h d_M_line_246 (Nat.le_of_ble_eq_true rfl) rfl ?_
                refine v_iinc1 (lv' := [_, _, _, _, _, _, _, _]) h d_M_line_248 rfl rfl ?_
                refine v_goto 179 h d_M_line_251 (by decide) ?_
                refine ih (i + 1) (by omega) (by omega) (by omega) true _ ⟨fun _ => hgi2, fun _ => rfl⟩ (fun _ => ?_)
                rw [hv q187]
                exact dv_s h1
  have K153 : lwh I wt at_ → ∀ (mi : Bool), (mi = true ↔ I (at_ + 1) = nI 45) → V E 0 0 (wM cB cI g T I K F L tp wt wd ks ft at_) 153 [some (.ref (g 0)), some (.int (nI (lq I wt at_))), some (.int (nI 1)), some (.int (nI (lk I at_))), some (.int (bI mi)), none, none, none] [] := by
    intro hw mi hmi
    have hkl := lk_le hw
    have hw1 := hw.1
    have K173 : ¬ lgi I wt at_ (lk I at_) → V E 0 0 (wM cB cI g T I K F L tp wt wd ks ft at_) 173 [some (.ref (g 0)), some (.int (nI (lq I wt at_))), some (.int (nI 1)), some (.int (nI (lk I at_))), some (.int (bI mi)), some (.int (nI 0)), none, none] [] := by
      intro hn
      refine v_iconst (v := nI 0) h d_M_line_173 (by decide) ?_
      refine v_istore (lv' := [_, _, _, _, _, _, _, _]) h d_M_line_174 (Nat.le_of_ble_eq_true rfl) rfl ?_
      refine v_iload_n h d_M_line_176 rfl ?_
      refine v_istore (lv' := [_, _, _, _, _, _, _, _]) h d_M_line_177 (Nat.le_of_ble_eq_true rfl) rfl ?_
      exact K179 hw mi hmi (lq I wt at_ - lk I at_ + 1) (lk I at_) (by omega) hkl (by omega) false (nI 0) ⟨fun z => Bool.noConfusion z, fun z => absurd z hn⟩ (fun z => by cases z)
    refine v_iconst (v := nI 0) h d_M_line_153 (by decide) ?_
    refine v_istore (lv' := [_, _, _, _, _, _, _, _]) h d_M_line_154 (Nat.le_of_ble_eq_true rfl) rfl ?_
    refine v_iload_n h d_M_line_156 rfl ?_
    refine v_iload_n h d_M_line_157 rfl ?_
    refine v_leN 173 h d_M_line_158 (by decide) (fun q158 => ?_) (fun q158 => ?_)
    · exact K173 (fun z => by have := z.1; omega)
    · refine v_iload_n h d_M_line_161 rfl ?_
      refine v_iload_n h d_M_line_162 rfl ?_
      refine v_bipush (v := nI 6) h d_M_line_163 (by decide) ?_
      refine v_iaddN h d_M_line_165 ?_
      refine v_gtN 173 h d_M_line_166 (by decide) (fun q166 => ?_) (fun q166 => ?_)
      · exact K173 (fun z => by have := z.2.1; omega)
      · refine v_iconst (v := nI 1) h d_M_line_169 (by decide) ?_
        refine v_goto 174 h d_M_line_170 (by decide) ?_
        refine v_istore (lv' := [_, _, _, _, _, _, _, _]) h d_M_line_174 (Nat.le_of_ble_eq_true rfl) rfl ?_
        refine v_iload_n h d_M_line_176 rfl ?_
        refine v_istore (lv' := [_, _, _, _, _, _, _, _]) h d_M_line_177 (Nat.le_of_ble_eq_true rfl) rfl ?_
        exact K179 hw mi hmi (lq I wt at_ - lk I at_ + 1) (lk I at_) (by omega) hkl (by omega) true (nI 0) ⟨fun _ => ⟨q158, q166, ldg_0⟩, fun _ => rfl⟩ (fun _ => by rw [Nat.sub_self]; rfl)
  have K115 : lwh I wt at_ → V E 0 0 (wM cB cI g T I K F L tp wt wd ks ft at_) 115 [some (.ref (g 0)), some (.int (nI (lq I wt at_))), some (.int (nI 1)), none, none, none, none, none] [] := by
    intro hw
    have hw1 := hw.1
    have := hlq.1
    refine v_aload_n h d_M_line_115 rfl ?_
    refine gM_at h d_M_line_116 ?_
    refine v_iconst (v := nI 1) h d_M_line_119 (by decide) ?_
    refine v_iaddN h d_M_line_120 ?_
    refine v_istore_n (lv' := [_, _, _, _, _, _, _, _]) h d_M_line_121 (Nat.le_of_ble_eq_true rfl) rfl ?_
    refine v_aload_n h d_M_line_122 rfl ?_
    refine gM_input h d_M_line_123 ?_
    refine v_iload_n h d_M_line_126 rfl ?_
    refine lM_input h d_M_line_127 ?_
    refine v_bipush (v := nI 45) h d_M_line_128 (by decide) ?_
    refine v_icmp_ne 137 h d_M_line_130 (by decide) (fun q130 => ?_) (fun q130 => ?_)
    · refine v_iconst (v := nI 0) h d_M_line_137 (by decide) ?_
      refine v_istore (lv' := [_, _, _, _, _, _, _, _]) h d_M_line_138 (Nat.le_of_ble_eq_true rfl) rfl ?_
      refine v_iload h d_M_line_140 rfl ?_
      refine v_eqZ 151 h d_M_line_142 (by decide) (fun q142 => ?_) (fun q142 => ?_)
      · refine v_iload_n h d_M_line_151 rfl ?_
        refine v_istore_n (lv' := [_, _, _, _, _, _, _, _]) h d_M_line_152 (Nat.le_of_ble_eq_true rfl) rfl ?_
        have e : lk I at_ = at_ + 1 := by rw [lk, if_neg q130]
        rw [← e]
        exact K153 hw false ⟨fun z => Bool.noConfusion z, fun z => absurd z q130⟩
      · exact absurd rfl q142
    · refine v_iconst (v := nI 1) h d_M_line_133 (by decide) ?_
      refine v_goto 138 h d_M_line_134 (by decide) ?_
      refine v_istore (lv' := [_, _, _, _, _, _, _, _]) h d_M_line_138 (Nat.le_of_ble_eq_true rfl) rfl ?_
      refine v_iload h d_M_line_140 rfl ?_
      refine v_eqZ 151 h d_M_line_142 (by decide) (fun q142 => ?_) (fun q142 => ?_)
      · exact absurd q142 (by decide)
      · refine v_iload_n h d_M_line_145 rfl ?_
        refine v_iconst (v := nI 1) h d_M_line_146 (by decide) ?_
        refine v_iaddN h d_M_line_147 ?_
        refine v_goto 152 h d_M_line_148 (by decide) ?_
        refine v_istore_n (lv' := [_, _, _, _, _, _, _, _]) h d_M_line_152 (Nat.le_of_ble_eq_true rfl) rfl ?_
        have e : lk I at_ = at_ + 1 + 1 := by rw [lk, if_pos q130]
        rw [← e]
        exact K153 hw true ⟨fun _ => q130, fun _ => rfl⟩
  have K60 : lq I wt at_ ≤ wt + at_ + 1 → V E 0 0 (wM cB cI g T I K F L tp wt wd ks ft at_) 60 [some (.ref (g 0)), some (.int (nI (lq I wt at_))), none, none, none, none, none, none] [] := by
    intro hb
    refine v_iload_n h d_M_line_60 rfl ?_
    refine v_iconst (v := nI 1) h d_M_line_61 (by decide) ?_
    refine v_iaddN h d_M_line_62 ?_
    refine v_aload_n h d_M_line_63 rfl ?_
    refine gM_waits h d_M_line_64 ?_
    refine v_geN 87 h d_M_line_67 (by decide) (fun q67 => ?_) (fun q67 => ?_)
    · exact K87 (fun z => by have := z.1; omega) hb
    · refine v_iload_n h d_M_line_70 rfl ?_
      refine v_iconst (v := nI 1) h d_M_line_71 (by decide) ?_
      refine v_iaddN h d_M_line_72 ?_
      refine v_aload_n h d_M_line_73 rfl ?_
      refine gM_at h d_M_line_74 ?_
      refine v_bipush (v := nI 16) h d_M_line_77 (by decide) ?_
      refine v_iaddN h d_M_line_79 ?_
      refine v_geN 87 h d_M_line_80 (by decide) (fun q80 => ?_) (fun q80 => ?_)
      · exact K87 (fun z => by have := z.2; omega) hb
      · refine v_iconst (v := nI 1) h d_M_line_83 (by decide) ?_
        refine v_goto 88 h d_M_line_84 (by decide) ?_
        refine v_istore_n (lv' := [_, _, _, _, _, _, _, _]) h d_M_line_88 (Nat.le_of_ble_eq_true rfl) rfl ?_
        refine v_iload_n h d_M_line_89 rfl ?_
        refine v_neZ 115 h d_M_line_90 (by decide) (fun q90 => ?_) (fun q90 => ?_)
        · exact K115 ⟨q67, q80⟩
        · exact absurd q90 (by decide)
  have loop : ∀ d q, at_ + 1 ≤ q → q ≤ wt + at_ + 1 → (∀ j, at_ + 1 ≤ j → j < q → lnP I wt at_ j) → wt + at_ + 2 ≤ q + d → V E 0 0 (wM cB cI g T I K F L tp wt wd ks ft at_) 7 [some (.ref (g 0)), some (.int (nI q)), none, none, none, none, none, none] [] := by
    intro d
    induction d with
    | zero => intro q h1 h2 h3 h4; omega
    | succ d ih =>
      intro q h1 h2 h3 h4
      have out : ¬ lnP I wt at_ q → V E 0 0 (wM cB cI g T I K F L tp wt wd ks ft at_) 60 [some (.ref (g 0)), some (.int (nI q)), none, none, none, none, none, none] [] := by
        intro hn
        have e : lq I wt at_ = q := fs_eq ⟨h1, h3, hn⟩
        rw [← e]
        exact K60 (by omega)
      refine v_iload_n h d_M_line_7 rfl ?_
      refine v_iconst (v := nI 1) h d_M_line_8 (by decide) ?_
      refine v_iaddN h d_M_line_9 ?_
      refine v_aload_n h d_M_line_10 rfl ?_
      refine gM_waits h d_M_line_11 ?_
      refine v_geN 60 h d_M_line_14 (by decide) (fun q14 => ?_) (fun q14 => ?_)
      · exact out (fun z => by have := z.1; omega)
      · refine v_iload_n h d_M_line_17 rfl ?_
        refine v_iconst (v := nI 1) h d_M_line_18 (by decide) ?_
        refine v_iaddN h d_M_line_19 ?_
        refine v_aload_n h d_M_line_20 rfl ?_
        refine gM_at h d_M_line_21 ?_
        refine v_bipush (v := nI 16) h d_M_line_24 (by decide) ?_
        refine v_iaddN h d_M_line_26 ?_
        refine v_geN 60 h d_M_line_27 (by decide) (fun q27 => ?_) (fun q27 => ?_)
        · exact out (fun z => by have := z.2.1; omega)
        · have go : ¬ (I q = nI 13 ∧ I (q + 1) = nI 10) → V E 0 0 (wM cB cI g T I K F L tp wt wd ks ft at_) 54 [some (.ref (g 0)), some (.int (nI q)), none, none, none, none, none, none] [] := by
            intro hn
            refine v_iinc1 (lv' := [_, _, _, _, _, _, _, _]) h d_M_line_54 rfl rfl ?_
            refine v_goto 7 h d_M_line_57 (by decide) ?_
            refine ih (q + 1) (by omega) (by omega) (fun j g1 g2 => ?_) (by omega)
            rcases Nat.eq_or_lt_of_le (Nat.le_of_lt_succ g2) with e | e
            · rw [e]; exact ⟨q14, q27, hn⟩
            · exact h3 j g1 e
          refine v_aload_n h d_M_line_30 rfl ?_
          refine gM_input h d_M_line_31 ?_
          refine v_iload_n h d_M_line_34 rfl ?_
          refine lM_input h d_M_line_35 ?_
          refine v_bipush (v := nI 13) h d_M_line_36 (by decide) ?_
          refine v_icmp_ne 54 h d_M_line_38 (by decide) (fun q38 => ?_) (fun q38 => ?_)
          · exact go (fun z => q38 z.1)
          · refine v_aload_n h d_M_line_41 rfl ?_
            refine gM_input h d_M_line_42 ?_
            refine v_iload_n h d_M_line_45 rfl ?_
            refine v_iconst (v := nI 1) h d_M_line_46 (by decide) ?_
            refine v_iaddN h d_M_line_47 ?_
            refine lM_input h d_M_line_48 ?_
            refine v_bipush (v := nI 10) h d_M_line_49 (by decide) ?_
            refine v_icmp_eq 60 h d_M_line_51 (by decide) (fun q51 => ?_) (fun q51 => ?_)
            · exact out (fun z => z.2.2 ⟨q38, q51⟩)
            · exact go (fun z => q51 z.2)
  refine v_aload_n h d_M_line_0 rfl ?_
  refine gM_at h d_M_line_1 ?_
  refine v_iconst (v := nI 1) h d_M_line_4 (by decide) ?_
  refine v_iaddN h d_M_line_5 ?_
  refine v_istore_n (lv' := [_, _, _, _, _, _, _, _]) h d_M_line_6 (Nat.le_of_ble_eq_true rfl) rfl ?_
  exact loop (wt + 1) (at_ + 1) (by omega) (by omega) (fun j g1 g2 => by omega) (by omega)
end
section
def isP (I : Nat → Int32) (n p : Nat) (cf tv : Value) (r : Int32) (u : Nat × Value × Int32) : Prop :=
  (lc I n p = 0 ∧ r = bI true ∧ u = (lq I n p + 2, cf, lval I n p)) ∨ (lc I n p = 1 ∧ r = bI false ∧ u.2.1 = cf) ∨ (lc I n p = 2 ∧ r = bI false ∧ u.2.1 = tv)
set_option maxHeartbeats 4000000 in
theorem c_C_isLine (l : Launch) (D : va_G) {cB cI : ClassId} {ad g : Nat → Nat} {T : Nat → Int32} {len : Nat} {I : Nat → Int32} {many : Nat} {K : Nat → Int32} {wd ft : Nat} {at_ sz : Nat → Int32} {cw ce : Nat} {cf : Value} {cn : Int32} (p stop t : Nat) (hst : stop ≤ 65536) (hp : p < stop) (h13 : ¬ I p = nI 13) : CtI l y_C_isLine prog_2_method_2_code 9 .boolean r3 D cB cI ad [.ref (g 4), .ref (g 2), .int (nI p), .int (nI stop), .ref t] (wX cB cI g T len I many K wd ft at_ sz cw ce cf cn) (fun (r : Int32) (u : Nat × Value × Int32) => isP I stop p cf (.ref t) r u) (fun u => (wX cB cI g T len I many K wd ft at_ sz cw u.1 u.2.1 u.2.2)) 0 0 := by
  refine CtI.mk (own := "RequestCutter$Cutter") (by decide) rfl (cat_of rfl) (Nat.le_of_ble_eq_true rfl) (fun E h hr => ?_)
  refine v_lv (lv' := [_, _, _, _, _, _, _, _, _]) rfl ?_
  have hlq := lq_spec I stop p
  have K67 : ¬ lwh I stop p → ∀ q : Nat, V E 0 0 (wX cB cI g T len I many K wd ft at_ sz cw ce cf cn) 67 [some (.ref (g 4)), some (.ref (g 2)), some (.int (nI p)), some (.int (nI stop)), some (.ref t), some (.int (nI q)), none, none, none] [] := by
    intro hw q
    refine v_iload_n h d_C_isLine_67 rfl ?_
    refine v_iload_n h d_C_isLine_68 rfl ?_
    refine v_isubN h d_C_isLine_69 ?_
    refine v_bipush (v := nI 16) h d_C_isLine_70 (by decide) ?_
    refine v_ltN 81 h d_C_isLine_72 (by decide) (fun q72 => ?_) (fun q72 => ?_)
    · refine v_iconst (v := nI 0) h d_C_isLine_81 (by decide) ?_
      exact v_iret h hr (by decide) d_C_isLine_82 (ce, cf, cn) rfl (Or.inr (Or.inl ⟨lc_wait hw (by omega), rfl, rfl⟩))
    · refine v_aload_n h d_C_isLine_75 rfl ?_
      refine v_aload h d_C_isLine_76 rfl ?_
      refine pC_fault h d_C_isLine_78 ?_
      refine v_iconst (v := nI 0) h d_C_isLine_81 (by decide) ?_
      exact v_iret h hr (by decide) d_C_isLine_82 (ce, .ref t, cn) rfl (Or.inr (Or.inr ⟨lc_far hw (by omega), rfl, rfl⟩))
  have K212 : lwh I stop p → ∀ (mi b : Bool) (v : Int32) (i : Nat), (mi = true ↔ I (p + 1) = nI 45) → (b = true → lgd I stop p ∧ v = dv I (lk I p) (lq I stop p - lk I p)) → (b = false → ¬ lgd I stop p) → V E 0 0 (wX cB cI g T len I many K wd ft at_ sz cw ce cf v) 212 [some (.ref (g 4)), some (.ref (g 2)), some (.int (nI p)), some (.int (nI stop)), some (.ref t), some (.int (nI (lq I stop p))), some (.int (nI i)), some (.int (bI mi)), some (.int (bI b))] [] := by
    intro hw mi b v i hmi hb1 hb2
    have K226 : ∀ v2 : Int32, (b = true → v2 = lval I stop p) → V E 0 0 (wX cB cI g T len I many K wd ft at_ sz cw ce cf v2) 226 [some (.ref (g 4)), some (.ref (g 2)), some (.int (nI p)), some (.int (nI stop)), some (.ref t), some (.int (nI (lq I stop p))), some (.int (nI i)), some (.int (bI mi)), some (.int (bI b))] [] := by
      intro v2 hv2
      refine v_aload_n h d_C_isLine_226 rfl ?_
      refine v_iload h d_C_isLine_227 rfl ?_
      refine v_iconst (v := nI 2) h d_C_isLine_229 (by decide) ?_
      refine v_iaddN h d_C_isLine_230 ?_
      refine pC_end h d_C_isLine_231 ?_
      refine v_iload h d_C_isLine_234 rfl ?_
      refine v_neB 245 h d_C_isLine_236 (by decide) (fun q236 => ?_) (fun q236 => ?_)
      · refine v_iload h d_C_isLine_245 rfl ?_
        refine v_iret h hr (bI_nar b) d_C_isLine_247 (lq I stop p + 2, cf, v2) rfl (Or.inl ⟨lc_ok hw (hb1 q236).1, by rw [q236], by rw [hv2 q236]⟩)
      · refine v_aload_n h d_C_isLine_239 rfl ?_
        refine v_aload h d_C_isLine_240 rfl ?_
        refine pC_fault h d_C_isLine_242 ?_
        refine v_iload h d_C_isLine_245 rfl ?_
        refine v_iret h hr (bI_nar b) d_C_isLine_247 (lq I stop p + 2, .ref t, v2) rfl (Or.inr (Or.inr ⟨lc_bad hw (hb2 q236), by rw [q236], rfl⟩))
    refine v_iload h d_C_isLine_212 rfl ?_
    refine v_eqB 226 h d_C_isLine_214 (by decide) (fun q214 => ?_) (fun q214 => ?_)
    · refine K226 v (fun z => ?_)
      rw [lval, if_neg (fun y => by rw [hmi.mpr y] at q214; cases q214)]
      exact (hb1 z).2
    · refine v_aload_n h d_C_isLine_217 rfl ?_
      refine v_aload_n h d_C_isLine_218 rfl ?_
      refine gC_number h d_C_isLine_219 ?_
      refine v_ineg h d_C_isLine_222 ?_
      refine pC_number h d_C_isLine_223 ?_
      refine K226 (-v) (fun z => ?_)
      rw [lval, if_pos (hmi.mp q214), (hb1 z).2]
  have K150 : lwh I stop p → ∀ (mi : Bool), (mi = true ↔ I (p + 1) = nI 45) → ∀ d i, lk I p ≤ i → i ≤ lq I stop p → lq I stop p + 1 ≤ i + d → ∀ (b : Bool) (v : Int32), (b = true ↔ lgi I stop p i) → (b = true → v = dv I (lk I p) (i - lk I p)) → V E 0 0 (wX cB cI g T len I many K wd ft at_ sz cw ce cf v) 150 [some (.ref (g 4)), some (.ref (g 2)), some (.int (nI p)), some (.int (nI stop)), some (.ref t), some (.int (nI (lq I stop p))), some (.int (nI i)), some (.int (bI mi)), some (.int (bI b))] [] := by
    intro hw mi hmi d
    have hw1 := hw.1
    induction d with
    | zero => intro i h1 h2 h3; omega
    | succ d ih =>
      intro i h1 h2 h3 b v hb hv
      have hbf : b = false → ¬ lgd I stop p := fun z y => by
        have := hb.mpr (lgi_q y h2)
        rw [z] at this
        cases this
      refine v_iload h d_C_isLine_150 rfl ?_
      refine v_iload h d_C_isLine_152 rfl ?_
      refine v_geN 212 h d_C_isLine_154 (by decide) (fun q154 => ?_) (fun q154 => ?_)
      · have e : i = lq I stop p := by omega
        refine K212 hw mi b v i hmi (fun z => ?_) hbf
        have hgi := hb.mp z
        rw [e] at hgi
        refine ⟨hgi, ?_⟩
        rw [← e]
        exact hv z
      · refine v_iload h d_C_isLine_157 rfl ?_
        refine v_eqB 212 h d_C_isLine_159 (by decide) (fun q159 => ?_) (fun q159 => ?_)
        · exact K212 hw mi b v i hmi (fun z => by rw [z] at q159; cases q159) hbf
        · have hgi := hb.mp q159
          have K184 : ¬ lgi I stop p (i + 1) → V E 0 0 (wX cB cI g T len I many K wd ft at_ sz cw ce cf v) 184 [some (.ref (g 4)), some (.ref (g 2)), some (.int (nI p)), some (.int (nI stop)), some (.ref t), some (.int (nI (lq I stop p))), some (.int (nI i)), some (.int (bI mi)), some (.int (bI b))] [] := by
            intro hn
            refine v_iconst (v := nI 0) h d_C_isLine_184 (by decide) ?_
            refine v_istore (lv' := [_, _, _, _, _, _, _, _, _]) h d_C_isLine_185 (Nat.le_of_ble_eq_true rfl) rfl ?_
            refine v_aload_n h d_C_isLine_187 rfl ?_
            refine v_bipush (v := nI 10) h d_C_isLine_188 (by decide) ?_
            refine v_aload_n h d_C_isLine_190 rfl ?_
            refine gC_number h d_C_isLine_191 ?_
            refine v_imul h d_C_isLine_194 ?_
            refine v_aload_n h d_C_isLine_195 rfl ?_
            refine v_iload h d_C_isLine_196 rfl ?_
            refine lX_input h d_C_isLine_198 ?_
            refine v_iadd h d_C_isLine_199 ?_
            refine v_bipush (v := nI 48) h d_C_isLine_200 (by decide) ?_
            refine v_isub h d_C_isLine_202 ?_
            refine pC_number h d_C_isLine_203 ?_
            refine v_iinc1 (lv' := [_, _, _, _, _, _, _, _, _]) h d_C_isLine_206 rfl rfl ?_
            refine v_goto 150 h d_C_isLine_209 (by decide) ?_
            exact ih (i + 1) (by omega) (by omega) (by omega) false _ ⟨fun z => Bool.noConfusion z, fun z => absurd z hn⟩ (fun z => Bool.noConfusion z)
          refine v_aload_n h d_C_isLine_162 rfl ?_
          refine v_iload h d_C_isLine_163 rfl ?_
          refine lX_input h d_C_isLine_165 ?_
          refine v_bipush (v := nI 48) h d_C_isLine_166 (by decide) ?_
          refine v_icmp_lt 184 h d_C_isLine_168 (by decide) (fun q168 => ?_) (fun q168 => ?_)
          · refine K184 (fun z => ?_)
            exact absurd q168 (Int32.not_lt.mpr (z.2.2 i (by omega) (by omega)).1)
          · refine v_aload_n h d_C_isLine_171 rfl ?_
            refine v_iload h d_C_isLine_172 rfl ?_
            refine lX_input h d_C_isLine_174 ?_
            refine v_bipush (v := nI 57) h d_C_isLine_175 (by decide) ?_
            refine v_icmp_gt 184 h d_C_isLine_177 (by decide) (fun q177 => ?_) (fun q177 => ?_)
            · refine K184 (fun z => ?_)
              exact absurd q177 (Int32.not_lt.mpr (z.2.2 i (by omega) (by omega)).2)
            · have hgi2 : lgi I stop p (i + 1) := ⟨hgi.1, hgi.2.1, ldg_s hgi.2.2 ⟨Int32.not_lt.mp q168, Int32.not_lt.mp q177⟩⟩
              refine v_iconst (v := nI 1) h d_C_isLine_180 (by decide) ?_
              refine v_goto 185 h d_C_isLine_181 (by decide) ?_
              refine v_istore (lv' := [_, _, _, _, _, _, _, _, _]) h d_C_isLine_185 (Nat.le_of_ble_eq_true rfl) rfl ?_
              refine v_aload_n h d_C_isLine_187 rfl ?_
              refine v_bipush (v := nI 10) h d_C_isLine_188 (by decide) ?_
              refine v_aload_n h d_C_isLine_190 rfl ?_
              refine gC_number h d_C_isLine_191 ?_
              refine v_imul h d_C_isLine_194 ?_
              refine v_aload_n h d_C_isLine_195 rfl ?_
              refine v_iload h d_C_isLine_196 rfl ?_
              refine lX_input h d_C_isLine_198 ?_
              refine v_iadd h d_C_isLine_199 ?_
              refine v_bipush (v := nI 48) h d_C_isLine_200 (by decide) ?_
              refine v_isub h d_C_isLine_202 ?_
              refine pC_number h d_C_isLine_203 ?_
              refine v_iinc1 (lv' := [_, _, _, _, _, _, _, _, _]) h d_C_isLine_206 rfl rfl ?_
              refine v_goto 150 h d_C_isLine_209 (by decide) ?_
              refine ih (i + 1) (by omega) (by omega) (by omega) true _ ⟨fun _ => hgi2, fun _ => rfl⟩ (fun _ => ?_)
              rw [hv q159]
              exact dv_s h1
  have K119 : lwh I stop p → ∀ (mi : Bool), (mi = true ↔ I (p + 1) = nI 45) → V E 0 0 (wX cB cI g T len I many K wd ft at_ sz cw ce cf cn) 119 [some (.ref (g 4)), some (.ref (g 2)), some (.int (nI p)), some (.int (nI stop)), some (.ref t), some (.int (nI (lq I stop p))), some (.int (nI (lk I p))), some (.int (bI mi)), none] [] := by
    intro hw mi hmi
    have hkl := lk_le hw
    have hw1 := hw.1
    have K142 : ¬ lgi I stop p (lk I p) → V E 0 0 (wX cB cI g T len I many K wd ft at_ sz cw ce cf cn) 142 [some (.ref (g 4)), some (.ref (g 2)), some (.int (nI p)), some (.int (nI stop)), some (.ref t), some (.int (nI (lq I stop p))), some (.int (nI (lk I p))), some (.int (bI mi)), none] [] := by
      intro hn
      refine v_iconst (v := nI 0) h d_C_isLine_142 (by decide) ?_
      refine v_istore (lv' := [_, _, _, _, _, _, _, _, _]) h d_C_isLine_143 (Nat.le_of_ble_eq_true rfl) rfl ?_
      refine v_aload_n h d_C_isLine_145 rfl ?_
      refine v_iconst (v := nI 0) h d_C_isLine_146 (by decide) ?_
      refine pC_number h d_C_isLine_147 ?_
      exact K150 hw mi hmi (lq I stop p - lk I p + 1) (lk I p) (by omega) hkl (by omega) false (nI 0) ⟨fun z => Bool.noConfusion z, fun z => absurd z hn⟩ (fun z => Bool.noConfusion z)
    refine v_iload h d_C_isLine_119 rfl ?_
    refine v_iload h d_C_isLine_121 rfl ?_
    refine v_isubN h d_C_isLine_123 ?_
    refine v_iconst (v := nI 1) h d_C_isLine_124 (by decide) ?_
    refine v_ltN 142 h d_C_isLine_125 (by decide) (fun q125 => ?_) (fun q125 => ?_)
    · exact K142 (fun z => by have := z.1; omega)
    · refine v_iload h d_C_isLine_128 rfl ?_
      refine v_iload h d_C_isLine_130 rfl ?_
      refine v_isubN h d_C_isLine_132 ?_
      refine v_bipush (v := nI 6) h d_C_isLine_133 (by decide) ?_
      refine v_gtN 142 h d_C_isLine_135 (by decide) (fun q135 => ?_) (fun q135 => ?_)
      · exact K142 (fun z => by have := z.2.1; omega)
      · refine v_iconst (v := nI 1) h d_C_isLine_138 (by decide) ?_
        refine v_goto 143 h d_C_isLine_139 (by decide) ?_
        refine v_istore (lv' := [_, _, _, _, _, _, _, _, _]) h d_C_isLine_143 (Nat.le_of_ble_eq_true rfl) rfl ?_
        refine v_aload_n h d_C_isLine_145 rfl ?_
        refine v_iconst (v := nI 0) h d_C_isLine_146 (by decide) ?_
        refine pC_number h d_C_isLine_147 ?_
        exact K150 hw mi hmi (lq I stop p - lk I p + 1) (lk I p) (by omega) hkl (by omega) true (nI 0) ⟨fun _ => ⟨by omega, by omega, ldg_0⟩, fun _ => rfl⟩ (fun _ => by rw [Nat.sub_self]; rfl)
  have K83 : lwh I stop p → V E 0 0 (wX cB cI g T len I many K wd ft at_ sz cw ce cf cn) 83 [some (.ref (g 4)), some (.ref (g 2)), some (.int (nI p)), some (.int (nI stop)), some (.ref t), some (.int (nI (lq I stop p))), none, none, none] [] := by
    intro hw
    have hw1 := hw.1
    have := hlq.1
    refine v_aload_n h d_C_isLine_83 rfl ?_
    refine v_iload_n h d_C_isLine_84 rfl ?_
    refine v_iconst (v := nI 1) h d_C_isLine_85 (by decide) ?_
    refine v_iaddN h d_C_isLine_86 ?_
    refine lX_input h d_C_isLine_87 ?_
    refine v_bipush (v := nI 45) h d_C_isLine_88 (by decide) ?_
    refine v_icmp_ne 99 h d_C_isLine_90 (by decide) (fun q90 => ?_) (fun q90 => ?_)
    · refine v_iload_n h d_C_isLine_99 rfl ?_
      refine v_iconst (v := nI 1) h d_C_isLine_100 (by decide) ?_
      refine v_iaddN h d_C_isLine_101 ?_
      refine v_istore (lv' := [_, _, _, _, _, _, _, _, _]) h d_C_isLine_102 (Nat.le_of_ble_eq_true rfl) rfl ?_
      refine v_iload h d_C_isLine_104 rfl ?_
      refine v_iload_n h d_C_isLine_106 rfl ?_
      refine v_iconst (v := nI 2) h d_C_isLine_107 (by decide) ?_
      refine v_iaddN h d_C_isLine_108 ?_
      refine v_neN 116 h d_C_isLine_109 (by decide) (fun q109 => ?_) (fun q109 => ?_)
      · refine v_iconst (v := nI 0) h d_C_isLine_116 (by decide) ?_
        refine v_istore (lv' := [_, _, _, _, _, _, _, _, _]) h d_C_isLine_117 (Nat.le_of_ble_eq_true rfl) rfl ?_
        have e : lk I p = p + 1 := by rw [lk, if_neg q90]
        rw [← e]
        exact K119 hw false ⟨fun z => Bool.noConfusion z, fun z => absurd z q90⟩
      · omega
    · refine v_iload_n h d_C_isLine_93 rfl ?_
      refine v_iconst (v := nI 2) h d_C_isLine_94 (by decide) ?_
      refine v_iaddN h d_C_isLine_95 ?_
      refine v_goto 102 h d_C_isLine_96 (by decide) ?_
      refine v_istore (lv' := [_, _, _, _, _, _, _, _, _]) h d_C_isLine_102 (Nat.le_of_ble_eq_true rfl) rfl ?_
      refine v_iload h d_C_isLine_104 rfl ?_
      refine v_iload_n h d_C_isLine_106 rfl ?_
      refine v_iconst (v := nI 2) h d_C_isLine_107 (by decide) ?_
      refine v_iaddN h d_C_isLine_108 ?_
      refine v_neN 116 h d_C_isLine_109 (by decide) (fun q109 => ?_) (fun q109 => ?_)
      · omega
      · refine v_iconst (v := nI 1) h d_C_isLine_112 (by decide) ?_
        refine v_goto 117 h d_C_isLine_113 (by decide) ?_
        refine v_istore (lv' := [_, _, _, _, _, _, _, _, _]) h d_C_isLine_117 (Nat.le_of_ble_eq_true rfl) rfl ?_
        have e : lk I p = p + 2 := by rw [lk, if_pos q90]
        rw [← e]
        exact K119 hw true ⟨fun _ => q90, fun _ => rfl⟩
  have K48 : ∀ q, q ≤ stop + p + 1 → (q = lq I stop p ∨ (stop ≤ p + 1 ∧ q = p)) → V E 0 0 (wX cB cI g T len I many K wd ft at_ sz cw ce cf cn) 48 [some (.ref (g 4)), some (.ref (g 2)), some (.int (nI p)), some (.int (nI stop)), some (.ref t), some (.int (nI q)), none, none, none] [] := by
    intro q hb hq
    refine v_iload h d_C_isLine_48 rfl ?_
    refine v_iconst (v := nI 1) h d_C_isLine_50 (by decide) ?_
    refine v_iaddN h d_C_isLine_51 ?_
    refine v_iload_n h d_C_isLine_52 rfl ?_
    refine v_geN 67 h d_C_isLine_53 (by decide) (fun q53 => ?_) (fun q53 => ?_)
    · refine K67 (fun z => ?_) q
      have := z.1
      have := hlq.1
      omega
    · have e : q = lq I stop p := by omega
      subst e
      refine v_iload h d_C_isLine_56 rfl ?_
      refine v_iconst (v := nI 1) h d_C_isLine_58 (by decide) ?_
      refine v_iaddN h d_C_isLine_59 ?_
      refine v_iload_n h d_C_isLine_60 rfl ?_
      refine v_bipush (v := nI 16) h d_C_isLine_61 (by decide) ?_
      refine v_iaddN h d_C_isLine_63 ?_
      refine v_ltN 83 h d_C_isLine_64 (by decide) (fun q64 => ?_) (fun q64 => ?_)
      · exact K83 ⟨q53, q64⟩
      · exact K67 (fun z => by have := z.2; omega) _
  have loop : ∀ d q, p ≤ q → q ≤ stop + p + 1 → (∀ j, p ≤ j → j < q → lnP I stop p j) → stop + p + 2 ≤ q + d → V E 0 0 (wX cB cI g T len I many K wd ft at_ sz cw ce cf cn) 3 [some (.ref (g 4)), some (.ref (g 2)), some (.int (nI p)), some (.int (nI stop)), some (.ref t), some (.int (nI q)), none, none, none] [] := by
    intro d
    induction d with
    | zero => intro q h1 h2 h3 h4; omega
    | succ d ih =>
      intro q h1 h2 h3 h4
      have out : ¬ lnP I stop p q → V E 0 0 (wX cB cI g T len I many K wd ft at_ sz cw ce cf cn) 48 [some (.ref (g 4)), some (.ref (g 2)), some (.int (nI p)), some (.int (nI stop)), some (.ref t), some (.int (nI q)), none, none, none] [] := by
        intro hn
        refine K48 q h2 ?_
        rcases Nat.eq_or_lt_of_le h1 with e | e
        · refine Or.inr ⟨?_, e.symm⟩
          rcases Nat.lt_or_ge (p + 1) stop with z | z
          · subst e
            exact absurd ⟨z, by omega, fun y => h13 y.1⟩ hn
          · exact z
        · exact Or.inl (fs_eq ⟨e, fun j g1 g2 => h3 j (by omega) g2, hn⟩).symm
      refine v_iload h d_C_isLine_3 rfl ?_
      refine v_iconst (v := nI 1) h d_C_isLine_5 (by decide) ?_
      refine v_iaddN h d_C_isLine_6 ?_
      refine v_iload_n h d_C_isLine_7 rfl ?_
      refine v_geN 48 h d_C_isLine_8 (by decide) (fun q8 => ?_) (fun q8 => ?_)
      · exact out (fun z => by have := z.1; omega)
      · refine v_iload h d_C_isLine_11 rfl ?_
        refine v_iconst (v := nI 1) h d_C_isLine_13 (by decide) ?_
        refine v_iaddN h d_C_isLine_14 ?_
        refine v_iload_n h d_C_isLine_15 rfl ?_
        refine v_bipush (v := nI 16) h d_C_isLine_16 (by decide) ?_
        refine v_iaddN h d_C_isLine_18 ?_
        refine v_geN 48 h d_C_isLine_19 (by decide) (fun q19 => ?_) (fun q19 => ?_)
        · exact out (fun z => by have := z.2.1; omega)
        · have go : ¬ (I q = nI 13 ∧ I (q + 1) = nI 10) → V E 0 0 (wX cB cI g T len I many K wd ft at_ sz cw ce cf cn) 42 [some (.ref (g 4)), some (.ref (g 2)), some (.int (nI p)), some (.int (nI stop)), some (.ref t), some (.int (nI q)), none, none, none] [] := by
            intro hn
            refine v_iinc1 (lv' := [_, _, _, _, _, _, _, _, _]) h d_C_isLine_42 rfl rfl ?_
            refine v_goto 3 h d_C_isLine_45 (by decide) ?_
            refine ih (q + 1) (by omega) (by omega) (fun j g1 g2 => ?_) (by omega)
            rcases Nat.eq_or_lt_of_le (Nat.le_of_lt_succ g2) with e | e
            · rw [e]; exact ⟨q8, q19, hn⟩
            · exact h3 j g1 e
          refine v_aload_n h d_C_isLine_22 rfl ?_
          refine v_iload h d_C_isLine_23 rfl ?_
          refine lX_input h d_C_isLine_25 ?_
          refine v_bipush (v := nI 13) h d_C_isLine_26 (by decide) ?_
          refine v_icmp_ne 42 h d_C_isLine_28 (by decide) (fun q28 => ?_) (fun q28 => ?_)
          · exact go (fun z => q28 z.1)
          · refine v_aload_n h d_C_isLine_31 rfl ?_
            refine v_iload h d_C_isLine_32 rfl ?_
            refine v_iconst (v := nI 1) h d_C_isLine_34 (by decide) ?_
            refine v_iaddN h d_C_isLine_35 ?_
            refine lX_input h d_C_isLine_36 ?_
            refine v_bipush (v := nI 10) h d_C_isLine_37 (by decide) ?_
            refine v_icmp_eq 48 h d_C_isLine_39 (by decide) (fun q39 => ?_) (fun q39 => ?_)
            · exact out (fun z => z.2.2 ⟨q28, q39⟩)
            · exact go (fun z => q39 z.2)
  refine v_iload_n h d_C_isLine_0 rfl ?_
  refine v_istore (lv' := [_, _, _, _, _, _, _, _, _]) h d_C_isLine_1 (Nat.le_of_ble_eq_true rfl) rfl ?_
  exact loop (stop + 2) p (by omega) (by omega) (fun j g1 g2 => by omega) (by omega)
end
section
def ftC (c : Nat) : Nat := if c = 6 then 0 else c
abbrev MS : Type := (Nat → Int32) × (Nat → Int32) × (Nat → Int32) × Nat × Nat × Nat × Nat
def tdP (I K F L : Nat → Int32) (wt wd ks at_ : Nat) (r : Int32) (u : MS) : Prop :=
  (tcode I wt at_ = 0 ∧ r = bI true ∧ u = (va_cpy I K (twh I wt at_) ks (tsz I wt at_), upd F wd (nI ks), upd L wd (nI (tsz I wt at_)), wd + 1, ks + tsz I wt at_, 0, tnx I wt at_)) ∨ (¬ tcode I wt at_ = 0 ∧ r = bI false ∧ u.2.2.2.2.2.1 = ftC (tcode I wt at_))
theorem tdP_no {I K F L : Nat → Int32} {wt wd ks at_ c : Nat} {u : MS} (h : tcode I wt at_ = c) (hc : ¬ c = 0) (hu : u.2.2.2.2.2.1 = ftC c) : tdP I K F L wt wd ks at_ (nI 0) u := Or.inr ⟨by rw [h]; exact hc, rfl, by rw [h]; exact hu⟩
set_option maxHeartbeats 4000000 in
theorem c_M_told (l : Launch) (D : va_G) {cB cI : ClassId} {ad g : Nat → Nat} {T I K F L : Nat → Int32} {tp wt wd ks ft at_ : Nat} (hwt : wt ≤ 65536) (hat : at_ ≤ wt) (hks : ks ≤ at_) (hwd : wd < 1025) (hI : B8 I) : CtI l y_M_told prog_4_method_11_code 6 .boolean r3 D cB cI ad [.ref (g 0)] (wM cB cI g T I K F L tp wt wd ks ft at_) (fun (r : Int32) (u : MS) => tdP I K F L wt wd ks at_ r u) (fun u => (wM cB cI g T I u.1 u.2.1 u.2.2.1 tp wt u.2.2.2.1 u.2.2.2.2.1 u.2.2.2.2.2.1 u.2.2.2.2.2.2)) 0 0 := by
  refine CtI.mk (own := "RequestCutterModel") (by decide) rfl (cat_of rfl) (Nat.le_of_ble_eq_true rfl) (fun E h hr => ?_)
  refine v_lv (lv' := [_, _, _, _, _, _]) rfl ?_
  have K154 : tcode I wt at_ = 0 → lval I wt at_ = nI (tsz I wt at_) → ∀ x1 x4 x5 : Int32, V E 0 0 (wM cB cI g T I K F L tp wt wd ks 0 (tnx I wt at_)) 154 [some (.ref (g 0)), some (.int x1), some (.int (nI (tsz I wt at_))), some (.int (nI (twh I wt at_))), some (.int x4), some (.int x5)] [] := by
    intro h0 hv x1 x4 x5
    obtain ⟨g1, g2, g3, g4, g5⟩ := tcode_0 h0
    have g6 := (lq_spec I wt at_).1
    have g7 : twh I wt at_ = lq I wt at_ + 2 := rfl
    refine v_aload_n h d_M_told_154 rfl ?_
    refine v_iload_n h d_M_told_155 rfl ?_
    refine v_iload_n h d_M_told_156 rfl ?_
    refine v_callV (wc := (wM cB cI g T I K F L tp wt wd ks 0 (tnx I wt at_))) (wr := []) (As := [.int (nI (twh I wt at_)), .int (nI (tsz I wt at_))]) (st := []) h (show LkV "RequestCutterModel" 63 "RequestCutterModel" ⟨"RequestCutterModel", "word", "(II)V"⟩ prog_4_method_9_code 4 none 2 from ⟨k_291, k_293, k_s8, k_3, k_294, by decide +kernel⟩) (fun l D => c_M_word l D (twh I wt at_) (tsz I wt at_) hwd (by omega) (by omega) hI) [0, 1, 2, 3, 4, 5] [] rfl rfl (by decide) (by decide) (by decide) (ci := 2) rfl rfl rfl rfl rfl (by decide) rfl (Nat.le_of_ble_eq_true rfl) (by decide) (by decide) d_M_told_157 rfl (fun _ _ => ?_)
    refine v_ws (ws' := (wM cB cI g T I (va_cpy I K (twh I wt at_) ks (tsz I wt at_)) (upd F wd (nI ks)) (upd L wd (nI (tsz I wt at_))) tp wt (wd + 1) (ks + tsz I wt at_) 0 (tnx I wt at_))) rfl ?_
    refine v_iconst (v := nI 1) h d_M_told_160 (by decide) ?_
    exact v_iret h hr (by decide) d_M_told_161 (va_cpy I K (twh I wt at_) ks (tsz I wt at_), upd F wd (nI ks), upd L wd (nI (tsz I wt at_)), wd + 1, ks + tsz I wt at_, 0, tnx I wt at_) rfl (Or.inl ⟨h0, rfl, rfl⟩)
  have K87 : at_ < wt → I at_ = nI 36 → lc I wt at_ = 0 → ¬ (lval I wt at_ < 0 ∨ nI 16384 < lval I wt at_) → ∀ x1 : Int32, V E 0 0 (wM cB cI g T I K F L tp wt wd ks 0 (twh I wt at_)) 87 [some (.ref (g 0)), some (.int x1), some (.int (lval I wt at_)), none, none, none] [] := by
    intro h1 h2 h3 h4 x1
    obtain ⟨hv, hz⟩ := tsz_ok (lc_0 h3).2 h4
    have hw := (lc_0 h3).1.1
    have g7 : twh I wt at_ = lq I wt at_ + 2 := rfl
    rw [hv]
    refine v_aload_n h d_M_told_87 rfl ?_
    refine gM_at h d_M_told_88 ?_
    refine v_istore_n (lv' := [_, _, _, _, _, _]) h d_M_told_91 (Nat.le_of_ble_eq_true rfl) rfl ?_
    refine v_aload_n h d_M_told_92 rfl ?_
    refine v_dup h d_M_told_93 rfl ?_
    refine gM_at h d_M_told_94 ?_
    refine v_iload_n h d_M_told_97 rfl ?_
    refine v_iaddN h d_M_told_98 ?_
    refine pM_at h d_M_told_99 ?_
    refine v_aload_n h d_M_told_102 rfl ?_
    refine v_bipush (v := nI 13) h d_M_told_103 (by decide) ?_
    refine v_callI (wc := (wM cB cI g T I K F L tp wt wd ks 0 (twh I wt at_ + tsz I wt at_))) (wr := []) (As := [.int (nI 13)]) (st := []) h (show LkV "RequestCutterModel" 52 "RequestCutterModel" ⟨"RequestCutterModel", "must", "(I)I"⟩ prog_4_method_10_code 3 (some .int) 1 from ⟨k_287, k_289, k_s7, k_3, k_290, by decide +kernel⟩) (fun l D => c_M_must l D (nI 13) hwt (by omega)) [0, 1, 2, 3, 4, 5] [] rfl rfl (by decide) (by decide) (by decide) (ci := 2) rfl rfl rfl rfl rfl (by decide) rfl (Nat.le_of_ble_eq_true rfl) (by decide) (by decide) d_M_told_105 rfl (fun r3 u3 hp3 => ?_)
    refine v_ws (ws' := (wM cB cI g T I K F L tp wt wd ks 0 u3)) rfl ?_
    rcases hp3 with ⟨a1, rfl, rfl⟩ | ⟨a1, rfl, ⟨a2, rfl⟩ | ⟨a2, rfl⟩⟩
    · refine v_istore (lv' := [_, _, _, _, _, _]) h d_M_told_108 (Nat.le_of_ble_eq_true rfl) rfl ?_
      refine v_iload h d_M_told_110 rfl ?_
      refine v_leZ 124 h d_M_told_112 (by decide) (fun q112 => ?_) (fun q112 => ?_)
      · refine v_iconst (v := nI 0) h d_M_told_124 (by decide) ?_
        refine v_istore (lv' := [_, _, _, _, _, _]) h d_M_told_125 (Nat.le_of_ble_eq_true rfl) rfl ?_
        refine v_aload_n h d_M_told_127 rfl ?_
        refine v_iload h d_M_told_128 rfl ?_
        refine v_ltZ 138 h d_M_told_130 (by decide) ?_
        refine v_iload h d_M_told_133 rfl ?_
        refine v_geZ 142 h d_M_told_135 (by decide) ?_
        refine v_iconst (v := nI 0) h d_M_told_142 (by decide) ?_
        refine pM_fault h d_M_told_143 ?_
        refine v_iload h d_M_told_146 rfl ?_
        refine v_iconst (v := nI 1) h d_M_told_148 (by decide) ?_
        refine v_geN 154 h d_M_told_149 (by decide) (fun q149 => ?_) (fun q149 => ?_)
        · omega
        · refine v_iconst (v := nI 0) h d_M_told_152 (by decide) ?_
          exact v_iret h hr (by decide) d_M_told_153 (K, F, L, wd, ks, 0, twh I wt at_ + tsz I wt at_) rfl (tdP_no (c := 6) (by rw [tcode, if_neg (by omega), if_neg (not_not_intro h2), if_neg (by omega), if_neg (by omega), if_neg h4, if_pos a1]) (by decide) rfl)
      · omega
    · refine v_istore (lv' := [_, _, _, _, _, _]) h d_M_told_108 (Nat.le_of_ble_eq_true rfl) rfl ?_
      refine v_iload h d_M_told_110 rfl ?_
      refine v_leZ 124 h d_M_told_112 (by decide) (fun q112 => ?_) (fun q112 => ?_)
      · omega
      · refine v_aload_n h d_M_told_115 rfl ?_
        refine v_bipush (v := nI 10) h d_M_told_116 (by decide) ?_
        refine v_callI (wc := (wM cB cI g T I K F L tp wt wd ks 0 (twh I wt at_ + tsz I wt at_ + 1))) (wr := []) (As := [.int (nI 10)]) (st := []) h (show LkV "RequestCutterModel" 52 "RequestCutterModel" ⟨"RequestCutterModel", "must", "(I)I"⟩ prog_4_method_10_code 3 (some .int) 1 from ⟨k_287, k_289, k_s7, k_3, k_290, by decide +kernel⟩) (fun l D => c_M_must l D (nI 10) hwt (by omega)) [0, 1, 2, 3, 4, 5] [] rfl rfl (by decide) (by decide) (by decide) (ci := 2) rfl rfl rfl rfl rfl (by decide) rfl (Nat.le_of_ble_eq_true rfl) (by decide) (by decide) d_M_told_118 rfl (fun r4 u4 hp4 => ?_)
        refine v_ws (ws' := (wM cB cI g T I K F L tp wt wd ks 0 u4)) rfl ?_
        rcases hp4 with ⟨b1, rfl, rfl⟩ | ⟨b1, rfl, ⟨b2, rfl⟩ | ⟨b2, rfl⟩⟩
        · refine v_goto 125 h d_M_told_121 (by decide) ?_
          refine v_istore (lv' := [_, _, _, _, _, _]) h d_M_told_125 (Nat.le_of_ble_eq_true rfl) rfl ?_
          refine v_aload_n h d_M_told_127 rfl ?_
          refine v_iload h d_M_told_128 rfl ?_
          refine v_ltZ 138 h d_M_told_130 (by decide) ?_
          refine v_iload h d_M_told_133 rfl ?_
          refine v_geZ 142 h d_M_told_135 (by decide) ?_
          refine v_iconst (v := nI 0) h d_M_told_142 (by decide) ?_
          refine pM_fault h d_M_told_143 ?_
          refine v_iload h d_M_told_146 rfl ?_
          refine v_iconst (v := nI 1) h d_M_told_148 (by decide) ?_
          refine v_geN 154 h d_M_told_149 (by decide) (fun q149 => ?_) (fun q149 => ?_)
          · omega
          · refine v_iconst (v := nI 0) h d_M_told_152 (by decide) ?_
            exact v_iret h hr (by decide) d_M_told_153 (K, F, L, wd, ks, 0, twh I wt at_ + tsz I wt at_ + 1) rfl (tdP_no (c := 6) (by rw [tcode, if_neg (by omega), if_neg (not_not_intro h2), if_neg (by omega), if_neg (by omega), if_neg h4, if_neg (by omega), if_neg (not_not_intro a2), if_pos b1]) (by decide) rfl)
        · refine v_goto 125 h d_M_told_121 (by decide) ?_
          refine v_istore (lv' := [_, _, _, _, _, _]) h d_M_told_125 (Nat.le_of_ble_eq_true rfl) rfl ?_
          refine v_aload_n h d_M_told_127 rfl ?_
          refine v_iload h d_M_told_128 rfl ?_
          refine v_ltZ 138 h d_M_told_130 (by decide) ?_
          refine v_iload h d_M_told_133 rfl ?_
          refine v_geZ 142 h d_M_told_135 (by decide) ?_
          refine v_iconst (v := nI 0) h d_M_told_142 (by decide) ?_
          refine pM_fault h d_M_told_143 ?_
          refine v_iload h d_M_told_146 rfl ?_
          refine v_iconst (v := nI 1) h d_M_told_148 (by decide) ?_
          refine v_geN 154 h d_M_told_149 (by decide) (fun q149 => ?_) (fun q149 => ?_)
          · have h0 : tcode I wt at_ = 0 := by rw [tcode, if_neg (by omega), if_neg (not_not_intro h2), if_neg (by omega), if_neg (by omega), if_neg h4, if_neg (by omega), if_neg (not_not_intro a2), if_neg (by omega), if_neg (not_not_intro b2)]
            exact K154 h0 hv _ _ _
          · omega
        · refine v_goto 125 h d_M_told_121 (by decide) ?_
          refine v_istore (lv' := [_, _, _, _, _, _]) h d_M_told_125 (Nat.le_of_ble_eq_true rfl) rfl ?_
          refine v_aload_n h d_M_told_127 rfl ?_
          refine v_iload h d_M_told_128 rfl ?_
          refine v_ltZ 138 h d_M_told_130 (by decide) ?_
          refine v_iload h d_M_told_133 rfl ?_
          refine v_if_ge 142 h d_M_told_135 (by decide) (fun q135 => ?_) (fun q135 => ?_)
          · exact absurd q135 (by decide)
          · refine v_iconst (v := nI 4) h d_M_told_138 (by decide) ?_
            refine v_goto 143 h d_M_told_139 (by decide) ?_
            refine pM_fault h d_M_told_143 ?_
            refine v_iload h d_M_told_146 rfl ?_
            refine v_iconst (v := nI 1) h d_M_told_148 (by decide) ?_
            refine v_icmp_ge 154 h d_M_told_149 (by decide) (fun q149 => ?_) (fun q149 => ?_)
            · exact absurd q149 (by decide)
            · refine v_iconst (v := nI 0) h d_M_told_152 (by decide) ?_
              exact v_iret h hr (by decide) d_M_told_153 (K, F, L, wd, ks, 4, twh I wt at_ + tsz I wt at_ + 1 + 1) rfl (tdP_no (c := 4) (by rw [tcode, if_neg (by omega), if_neg (not_not_intro h2), if_neg (by omega), if_neg (by omega), if_neg h4, if_neg (by omega), if_neg (not_not_intro a2), if_neg (by omega), if_pos b2]) (by decide) rfl)
    · refine v_istore (lv' := [_, _, _, _, _, _]) h d_M_told_108 (Nat.le_of_ble_eq_true rfl) rfl ?_
      refine v_iload h d_M_told_110 rfl ?_
      refine v_if_le 124 h d_M_told_112 (by decide) (fun q112 => ?_) (fun q112 => ?_)
      · refine v_iconst (v := nI 0) h d_M_told_124 (by decide) ?_
        refine v_istore (lv' := [_, _, _, _, _, _]) h d_M_told_125 (Nat.le_of_ble_eq_true rfl) rfl ?_
        refine v_aload_n h d_M_told_127 rfl ?_
        refine v_iload h d_M_told_128 rfl ?_
        refine v_if_lt 138 h d_M_told_130 (by decide) (fun q130 => ?_) (fun q130 => ?_)
        · refine v_iconst (v := nI 4) h d_M_told_138 (by decide) ?_
          refine v_goto 143 h d_M_told_139 (by decide) ?_
          refine pM_fault h d_M_told_143 ?_
          refine v_iload h d_M_told_146 rfl ?_
          refine v_iconst (v := nI 1) h d_M_told_148 (by decide) ?_
          refine v_geN 154 h d_M_told_149 (by decide) (fun q149 => ?_) (fun q149 => ?_)
          · omega
          · refine v_iconst (v := nI 0) h d_M_told_152 (by decide) ?_
            exact v_iret h hr (by decide) d_M_told_153 (K, F, L, wd, ks, 4, twh I wt at_ + tsz I wt at_ + 1) rfl (tdP_no (c := 4) (by rw [tcode, if_neg (by omega), if_neg (not_not_intro h2), if_neg (by omega), if_neg (by omega), if_neg h4, if_neg (by omega), if_pos a2]) (by decide) rfl)
        · exact absurd (by decide) q130
      · exact absurd (by decide) q112
  refine v_aload_n h d_M_told_0 rfl ?_
  refine v_bipush (v := nI 36) h d_M_told_1 (by decide) ?_
  refine v_callI (wc := (wM cB cI g T I K F L tp wt wd ks ft at_)) (wr := []) (As := [.int (nI 36)]) (st := []) h (show LkV "RequestCutterModel" 52 "RequestCutterModel" ⟨"RequestCutterModel", "must", "(I)I"⟩ prog_4_method_10_code 3 (some .int) 1 from ⟨k_287, k_289, k_s7, k_3, k_290, by decide +kernel⟩) (fun l D => c_M_must l D (nI 36) hwt (by omega)) [0, 1, 2, 3, 4, 5] [] rfl rfl (by decide) (by decide) (by decide) (ci := 2) rfl rfl rfl rfl rfl (by decide) rfl (Nat.le_of_ble_eq_true rfl) (by decide) (by decide) d_M_told_3 rfl (fun rr1 u1 hp1 => ?_)
  refine v_ws (ws' := (wM cB cI g T I K F L tp wt wd ks ft u1)) rfl ?_
  rcases hp1 with ⟨a1, rfl, rfl⟩ | ⟨a1, rfl, ⟨a2, rfl⟩ | ⟨a2, rfl⟩⟩
  · refine v_istore_n (lv' := [_, _, _, _, _, _]) h d_M_told_6 (Nat.le_of_ble_eq_true rfl) rfl ?_
    refine v_aload_n h d_M_told_7 rfl ?_
    refine v_iload_n h d_M_told_8 rfl ?_
    refine v_geZ 16 h d_M_told_9 (by decide) ?_
    refine v_iconst (v := nI 0) h d_M_told_16 (by decide) ?_
    refine pM_fault h d_M_told_17 ?_
    refine v_iload_n h d_M_told_20 rfl ?_
    refine v_iconst (v := nI 1) h d_M_told_21 (by decide) ?_
    refine v_geN 27 h d_M_told_22 (by decide) (fun q22 => ?_) (fun q22 => ?_)
    · omega
    · refine v_iconst (v := nI 0) h d_M_told_25 (by decide) ?_
      exact v_iret h hr (by decide) d_M_told_26 (K, F, L, wd, ks, 0, u1) rfl (tdP_no (c := 6) (by rw [tcode, if_pos a1]) (by decide) rfl)
  · refine v_istore_n (lv' := [_, _, _, _, _, _]) h d_M_told_6 (Nat.le_of_ble_eq_true rfl) rfl ?_
    refine v_aload_n h d_M_told_7 rfl ?_
    refine v_iload_n h d_M_told_8 rfl ?_
    refine v_geZ 16 h d_M_told_9 (by decide) ?_
    refine v_iconst (v := nI 0) h d_M_told_16 (by decide) ?_
    refine pM_fault h d_M_told_17 ?_
    refine v_iload_n h d_M_told_20 rfl ?_
    refine v_iconst (v := nI 1) h d_M_told_21 (by decide) ?_
    refine v_geN 27 h d_M_told_22 (by decide) (fun q22 => ?_) (fun q22 => ?_)
    · refine v_aload_n h d_M_told_27 rfl ?_
      refine v_dup h d_M_told_28 rfl ?_
      refine gM_at h d_M_told_29 ?_
      refine v_iconst (v := nI 1) h d_M_told_32 (by decide) ?_
      refine v_isubN h d_M_told_33 ?_
      refine pM_at h d_M_told_34 ?_
      refine v_ws (ws' := (wM cB cI g T I K F L tp wt wd ks 0 at_)) rfl ?_
      refine v_aload_n h d_M_told_37 rfl ?_
      refine v_callI (wc := (wM cB cI g T I K F L tp wt wd ks 0 at_)) (wr := []) (As := []) (st := []) h (show LkV "RequestCutterModel" 59 "RequestCutterModel" ⟨"RequestCutterModel", "line", "()I"⟩ prog_4_method_8_code 8 (some .int) 0 from ⟨k_277, k_279, k_s5, k_3, k_280, by decide +kernel⟩) (fun l D => c_M_line l D hwt hat) [0, 1, 2, 3, 4, 5] [] rfl rfl (by decide) (by decide) (by decide) (ci := 2) rfl rfl rfl rfl rfl (by decide) rfl (Nat.le_of_ble_eq_true rfl) (by decide) (by decide) d_M_told_38 rfl (fun rr2 u2 hp2 => ?_)
      refine v_ws (ws' := (wM cB cI g T I K F L tp wt wd ks 0 u2)) rfl ?_
      obtain ⟨e2, hp2⟩ := hp2
      have hl3 := lc_lt I wt at_
      rcases (show lc I wt at_ = 0 ∨ lc I wt at_ = 1 ∨ lc I wt at_ = 2 by omega) with hl | hl | hl
      · rw [lres_0 hl] at e2
        subst e2
        have hnw := lval_nw (lc_0 hl).2
        have e3 := hp2 hl
        subst e3
        have K66 : (lval I wt at_ < 0 ∨ nI 16384 < lval I wt at_) → ∀ x1 : Int32, V E 0 0 (wM cB cI g T I K F L tp wt wd ks 0 (lq I wt at_ + 2)) 66 [some (.ref (g 0)), some (.int x1), some (.int (lval I wt at_)), none, none, none] [.ref (g 0)] := by
          intro hbad x1
          have ht : tcode I wt at_ = 3 := by rw [tcode, if_neg (by omega), if_neg (not_not_intro a2), if_neg (by omega), if_neg (by omega), if_pos hbad]
          refine v_iconst (v := nI 3) h d_M_told_66 (by decide) ?_
          refine v_goto 71 h d_M_told_67 (by decide) ?_
          refine pM_fault h d_M_told_71 ?_
          refine v_iload_n h d_M_told_74 rfl ?_
          refine v_if_lt 85 h d_M_told_75 (by decide) (fun q75 => ?_) (fun q75 => ?_)
          · refine v_iconst (v := nI 0) h d_M_told_85 (by decide) ?_
            exact v_iret h hr (by decide) d_M_told_86 (K, F, L, wd, ks, 3, lq I wt at_ + 2) rfl (tdP_no (c := 3) ht (by decide) rfl)
          · refine v_aload_n h d_M_told_78 rfl ?_
            refine gM_fault h d_M_told_79 ?_
            refine v_leZ 87 h d_M_told_82 (by decide) (fun q82 => ?_) (fun q82 => ?_)
            · omega
            · refine v_iconst (v := nI 0) h d_M_told_85 (by decide) ?_
              exact v_iret h hr (by decide) d_M_told_86 (K, F, L, wd, ks, 3, lq I wt at_ + 2) rfl (tdP_no (c := 3) ht (by decide) rfl)
        refine v_istore_n (lv' := [_, _, _, _, _, _]) h d_M_told_41 (Nat.le_of_ble_eq_true rfl) rfl ?_
        refine v_aload_n h d_M_told_42 rfl ?_
        refine v_iload_n h d_M_told_43 rfl ?_
        refine v_ldc (v := (-1000001)) h d_M_told_44 k_281 (by decide) ?_
        refine v_icmp_eq 66 h d_M_told_46 (by decide) (fun q46 => ?_) (fun q46 => ?_)
        · exact absurd q46 hnw.2
        · refine v_iload_n h d_M_told_49 rfl ?_
          refine v_ldc (v := (-1000000)) h d_M_told_50 k_282 (by decide) ?_
          refine v_icmp_eq 70 h d_M_told_52 (by decide) (fun q52 => ?_) (fun q52 => ?_)
          · exact absurd q52 hnw.1
          · refine v_iload_n h d_M_told_55 rfl ?_
            refine v_if_lt 66 h d_M_told_56 (by decide) (fun q56 => ?_) (fun q56 => ?_)
            · exact K66 (Or.inl q56) _
            · refine v_iload_n h d_M_told_59 rfl ?_
              refine v_sipush (v := nI 16384) h d_M_told_60 (by decide) ?_
              refine v_icmp_le 70 h d_M_told_63 (by decide) (fun q63 => ?_) (fun q63 => ?_)
              · refine v_iconst (v := nI 0) h d_M_told_70 (by decide) ?_
                refine pM_fault h d_M_told_71 ?_
                refine v_iload_n h d_M_told_74 rfl ?_
                refine v_if_lt 85 h d_M_told_75 (by decide) (fun q75 => ?_) (fun q75 => ?_)
                · exact absurd q75 q56
                · refine v_aload_n h d_M_told_78 rfl ?_
                  refine gM_fault h d_M_told_79 ?_
                  refine v_leZ 87 h d_M_told_82 (by decide) (fun q82 => ?_) (fun q82 => ?_)
                  · exact K87 a1 a2 hl (fun z => by rcases z with z | z; exact q56 z; exact absurd q63 (Int32.not_le.mpr z)) _
                  · omega
              · exact K66 (Or.inr (Int32.not_le.mp q63)) _
      · rw [lres_1 hl] at e2
        subst e2
        refine v_istore_n (lv' := [_, _, _, _, _, _]) h d_M_told_41 (Nat.le_of_ble_eq_true rfl) rfl ?_
        refine v_aload_n h d_M_told_42 rfl ?_
        refine v_iload_n h d_M_told_43 rfl ?_
        refine v_ldc (v := (-1000001)) h d_M_told_44 k_281 (by decide) ?_
        refine v_icmp_eq 66 h d_M_told_46 (by decide) (fun q46 => ?_) (fun q46 => ?_)
        · exact absurd q46 (by decide)
        · refine v_iload_n h d_M_told_49 rfl ?_
          refine v_ldc (v := (-1000000)) h d_M_told_50 k_282 (by decide) ?_
          refine v_icmp_eq 70 h d_M_told_52 (by decide) (fun q52 => ?_) (fun q52 => ?_)
          · refine v_iconst (v := nI 0) h d_M_told_70 (by decide) ?_
            refine pM_fault h d_M_told_71 ?_
            refine v_iload_n h d_M_told_74 rfl ?_
            refine v_if_lt 85 h d_M_told_75 (by decide) (fun q75 => ?_) (fun q75 => ?_)
            · refine v_iconst (v := nI 0) h d_M_told_85 (by decide) ?_
              exact v_iret h hr (by decide) d_M_told_86 (K, F, L, wd, ks, 0, u2) rfl (tdP_no (c := 6) (by rw [tcode, if_neg (by omega), if_neg (not_not_intro a2), if_pos hl]) (by decide) rfl)
            · exact absurd (by decide) q75
          · exact absurd rfl q52
      · rw [lres_2 hl] at e2
        subst e2
        refine v_istore_n (lv' := [_, _, _, _, _, _]) h d_M_told_41 (Nat.le_of_ble_eq_true rfl) rfl ?_
        refine v_aload_n h d_M_told_42 rfl ?_
        refine v_iload_n h d_M_told_43 rfl ?_
        refine v_ldc (v := (-1000001)) h d_M_told_44 k_281 (by decide) ?_
        refine v_icmp_eq 66 h d_M_told_46 (by decide) (fun q46 => ?_) (fun q46 => ?_)
        · refine v_iconst (v := nI 3) h d_M_told_66 (by decide) ?_
          refine v_goto 71 h d_M_told_67 (by decide) ?_
          refine pM_fault h d_M_told_71 ?_
          refine v_iload_n h d_M_told_74 rfl ?_
          refine v_if_lt 85 h d_M_told_75 (by decide) (fun q75 => ?_) (fun q75 => ?_)
          · refine v_iconst (v := nI 0) h d_M_told_85 (by decide) ?_
            exact v_iret h hr (by decide) d_M_told_86 (K, F, L, wd, ks, 3, u2) rfl (tdP_no (c := 3) (by rw [tcode, if_neg (by omega), if_neg (not_not_intro a2), if_neg (by omega), if_pos hl]) (by decide) rfl)
          · exact absurd (by decide) q75
        · exact absurd rfl q46
    · omega
  · refine v_istore_n (lv' := [_, _, _, _, _, _]) h d_M_told_6 (Nat.le_of_ble_eq_true rfl) rfl ?_
    refine v_aload_n h d_M_told_7 rfl ?_
    refine v_iload_n h d_M_told_8 rfl ?_
    refine v_if_ge 16 h d_M_told_9 (by decide) (fun q9 => ?_) (fun q9 => ?_)
    · exact absurd q9 (by decide)
    · refine v_iconst (v := nI 2) h d_M_told_12 (by decide) ?_
      refine v_goto 17 h d_M_told_13 (by decide) ?_
      refine pM_fault h d_M_told_17 ?_
      refine v_iload_n h d_M_told_20 rfl ?_
      refine v_iconst (v := nI 1) h d_M_told_21 (by decide) ?_
      refine v_icmp_ge 27 h d_M_told_22 (by decide) (fun q22 => ?_) (fun q22 => ?_)
      · exact absurd q22 (by decide)
      · refine v_iconst (v := nI 0) h d_M_told_25 (by decide) ?_
        exact v_iret h hr (by decide) d_M_told_26 (K, F, L, wd, ks, 2, at_ + 1) rfl (tdP_no (c := 2) (by rw [tcode, if_neg (by omega), if_pos a2]) (by decide) rfl)
end
section
theorem tcode_le (f : Nat → Int32) (n p : Nat) : tcode f n p ≤ 6 := by
  unfold tcode
  repeat' split
  all_goals decide
theorem tres_le (f : Nat → Int32) (n : Nat) : ∀ k p, tres f n k p ≤ 6 := by
  intro k
  induction k with
  | zero => intro p; exact Nat.zero_le _
  | succ k ih =>
    intro p
    unfold tres
    split
    · exact ih _
    · exact tcode_le f n p
theorem toldC_le (f : Nat → Int32) (n : Nat) : toldC f n ≤ 6 := by
  unfold toldC
  split
  · decide
  split
  · decide
  split
  · decide
  · exact tres_le f n _ _
theorem plainC_le (f : Nat → Int32) (n : Nat) : plainC f n ≤ 6 := by
  unfold plainC
  split
  · decide
  split
  · decide
  · decide
theorem cutC_le (f : Nat → Int32) (n : Nat) : cutC f n ≤ 6 := by
  unfold cutC
  split
  · decide
  split
  · exact toldC_le f n
  · exact plainC_le f n
theorem ftC_le {c : Nat} (h : c ≤ 6) : ftC c ≤ 6 := by
  unfold ftC
  split
  · decide
  · exact h
def ctP (I : Nat → Int32) (wt c N en : Nat) (wh z : Nat → Nat) (r : Int32) (u : MS) : Prop :=
  (c = 0 ∧ r = bI true ∧ u.2.2.2.1 = N ∧ u.2.2.2.2.2.1 = 0 ∧ u.2.2.2.2.2.2 = en ∧ en ≤ wt ∧ N ≤ 1024 ∧ sumZ z N ≤ en ∧ MK I u.1 u.2.1 u.2.2.1 wh z N) ∨ (¬ c = 0 ∧ r = bI false ∧ u.2.2.2.2.2.1 = ftC c)
theorem neg_clamp {x : Int32} (h : x < 0) : x.toNatClampNeg = 0 := by
  have := Int32.lt_iff_toInt_lt.mp h
  simp at this
  show x.toInt.toNat = 0
  omega
set_option maxHeartbeats 4000000 in
theorem c_M_cutTold (l : Launch) (D : va_G) {cB cI : ClassId} {ad g : Nat → Nat} {T I K F L : Nat → Int32} {tp wt wd ks ft at_ : Nat} (hwt : wt ≤ 65536) (hI : B8 I) : CtI l y_M_cutTold prog_4_method_12_code 4 .boolean r2 D cB cI ad [.ref (g 0)] (wM cB cI g T I K F L tp wt 0 0 ft 0) (fun (r : Int32) (u : MS) => ctP I wt (toldC I wt) (toldN I wt) (toldP I wt (toldN I wt)) (fun i => twh I wt (toldP I wt i)) (fun i => tsz I wt (toldP I wt i)) r u) (fun u => (wM cB cI g T I u.1 u.2.1 u.2.2.1 tp wt u.2.2.2.1 u.2.2.2.2.1 u.2.2.2.2.2.1 u.2.2.2.2.2.2)) 0 0 := by
  refine CtI.mk (own := "RequestCutterModel") (by decide) rfl (cat_of rfl) (Nat.le_of_ble_eq_true rfl) (fun E h hr => ?_)
  refine v_lv (lv' := [_, _, _, _]) rfl ?_
  refine v_aload_n h d_M_cutTold_0 rfl ?_
  refine v_callI (wc := (wM cB cI g T I K F L tp wt 0 0 ft 0)) (wr := []) (As := []) (st := []) h (show LkV "RequestCutterModel" 59 "RequestCutterModel" ⟨"RequestCutterModel", "line", "()I"⟩ prog_4_method_8_code 8 (some .int) 0 from ⟨k_277, k_279, k_s5, k_3, k_280, by decide +kernel⟩) (fun l D => c_M_line l D hwt (by omega)) [0, 1, 2, 3, 4, 5] [] rfl rfl (by decide) (by decide) (by decide) (ci := 2) rfl rfl rfl rfl rfl (by decide) rfl (Nat.le_of_ble_eq_true rfl) (by decide) (by decide) d_M_cutTold_1 rfl (fun rr2 u2 hp2 => ?_)
  refine v_ws (ws' := (wM cB cI g T I K F L tp wt 0 0 ft u2)) rfl ?_
  obtain ⟨e2, hp2⟩ := hp2
  have hl3 := lc_lt I wt 0
  rcases (show lc I wt 0 = 0 ∨ lc I wt 0 = 1 ∨ lc I wt 0 = 2 by omega) with hl | hl | hl
  · rw [lres_0 hl] at e2
    subst e2
    have hnw := lval_nw (lc_0 hl).2
    have e3 := hp2 hl
    subst e3
    have hw1 := (lc_0 hl).1.1
    refine v_istore_n (lv' := [_, _, _, _]) h d_M_cutTold_4 (Nat.le_of_ble_eq_true rfl) rfl ?_
    refine v_aload_n h d_M_cutTold_5 rfl ?_
    refine v_iload_n h d_M_cutTold_6 rfl ?_
    refine v_ldc (v := (-1000001)) h d_M_cutTold_7 k_281 (by decide) ?_
    refine v_icmp_eq 19 h d_M_cutTold_9 (by decide) (fun q9 => ?_) (fun q9 => ?_)
    · exact absurd q9 hnw.2
    · refine v_iload_n h d_M_cutTold_12 rfl ?_
      refine v_sipush (v := nI 1024) h d_M_cutTold_13 (by decide) ?_
      refine v_icmp_le 23 h d_M_cutTold_16 (by decide) (fun q16 => ?_) (fun q16 => ?_)
      · have hC : toldC I wt = tres I wt (toldN I wt) (lq I wt 0 + 2) := by rw [toldC, if_neg (by omega), if_neg (by omega), if_neg (Int32.not_lt.mpr q16)]; rfl
        refine v_iconst (v := nI 0) h d_M_cutTold_23 (by decide) ?_
        refine pM_fault h d_M_cutTold_24 ?_
        refine v_iload_n h d_M_cutTold_27 rfl ?_
        refine v_ldc (v := (-1000000)) h d_M_cutTold_28 k_282 (by decide) ?_
        refine v_icmp_eq 44 h d_M_cutTold_30 (by decide) (fun q30 => ?_) (fun q30 => ?_)
        · exact absurd q30 hnw.1
        · refine v_aload_n h d_M_cutTold_33 rfl ?_
          refine gM_fault h d_M_cutTold_34 ?_
          refine v_neZ 44 h d_M_cutTold_37 (by decide) (fun q37 => ?_) (fun q37 => ?_)
          · exact absurd rfl q37
          · refine v_iconst (v := nI 1) h d_M_cutTold_40 (by decide) ?_
            refine v_goto 45 h d_M_cutTold_41 (by decide) ?_
            refine v_istore_n (lv' := [_, _, _, _]) h d_M_cutTold_45 (Nat.le_of_ble_eq_true rfl) rfl ?_
            refine v_iconst (v := nI 0) h d_M_cutTold_46 (by decide) ?_
            refine v_istore_n (lv' := [_, _, _, _]) h d_M_cutTold_47 (Nat.le_of_ble_eq_true rfl) rfl ?_
            by_cases hneg : lval I wt 0 < 0
            · have hN0 : toldN I wt = 0 := neg_clamp hneg
              refine v_iload_n h d_M_cutTold_48 rfl ?_
              refine v_iload_n h d_M_cutTold_49 rfl ?_
              refine v_icmp_ge 68 h d_M_cutTold_50 (by decide) (fun q50 => ?_) (fun q50 => ?_)
              · refine v_iload_n h d_M_cutTold_68 rfl ?_
                refine v_iret h hr (by decide) d_M_cutTold_69 (K, F, L, 0, 0, 0, lq I wt 0 + 2) rfl (Or.inl ⟨by rw [hC, hN0]; rfl, rfl, by rw [hN0], rfl, by rw [hN0]; rfl, by rw [hN0]; show lq I wt 0 + 2 ≤ wt; omega, by rw [hN0]; decide, by rw [hN0]; exact Nat.zero_le _, by rw [hN0]; exact MK.zero⟩)
              · exact absurd (Int32.le_of_lt hneg) q50
            · obtain ⟨N, hN, eN⟩ := nI_of hneg
              have eN2 : toldN I wt = N := by rw [toldN, eN, nI_clamp hN]
              have hN3 : N ≤ 1024 := by rw [eN] at q16; exact (nI_leI hN (by decide)).mp q16
              rw [eN]
              have loop : ∀ d i, i + d = N → ∀ K F L : Nat → Int32, MK I K F L (fun i => twh I wt (toldP I wt i)) (fun i => tsz I wt (toldP I wt i)) i → toldP I wt i ≤ wt → sumZ (fun i => tsz I wt (toldP I wt i)) i ≤ toldP I wt i → tres I wt d (toldP I wt i) = toldC I wt → V E 0 0 (wM cB cI g T I K F L tp wt i (sumZ (fun i => tsz I wt (toldP I wt i)) i) 0 (toldP I wt i)) 48 [some (.ref (g 0)), some (.int (nI N)), some (.int (bI true)), some (.int (nI i))] [] := by
                intro d
                induction d with
                | zero =>
                  intro i hd K F L hMK hle hsum hres
                  have ei : i = N := by omega
                  refine v_iload_n h d_M_cutTold_48 rfl ?_
                  refine v_iload_n h d_M_cutTold_49 rfl ?_
                  refine v_geN 68 h d_M_cutTold_50 (by decide) (fun q50 => ?_) (fun q50 => ?_)
                  · refine v_iload_n h d_M_cutTold_68 rfl ?_
                    refine v_iret h hr (by decide) d_M_cutTold_69 (K, F, L, i, sumZ (fun i => tsz I wt (toldP I wt i)) i, 0, toldP I wt i) rfl (Or.inl ⟨hres.symm, rfl, ?_⟩)
                    rw [eN2, ← ei]
                    exact ⟨rfl, rfl, rfl, hle, by omega, hsum, hMK⟩
                  · omega
                | succ d ih =>
                  intro i hd K F L hMK hle hsum hres
                  refine v_iload_n h d_M_cutTold_48 rfl ?_
                  refine v_iload_n h d_M_cutTold_49 rfl ?_
                  refine v_geN 68 h d_M_cutTold_50 (by decide) (fun q50 => ?_) (fun q50 => ?_)
                  · omega
                  · refine v_iload_n h d_M_cutTold_53 rfl ?_
                    refine v_eqB 68 h d_M_cutTold_54 (by decide) (fun q54 => ?_) (fun q54 => ?_)
                    · cases q54
                    · refine v_aload_n h d_M_cutTold_57 rfl ?_
                      refine v_callI (wc := (wM cB cI g T I K F L tp wt i (sumZ (fun i => tsz I wt (toldP I wt i)) i) 0 (toldP I wt i))) (wr := []) (As := []) (st := []) h (show LkV "RequestCutterModel" 67 "RequestCutterModel" ⟨"RequestCutterModel", "told", "()Z"⟩ prog_4_method_11_code 6 (some .boolean) 0 from ⟨k_283, k_285, k_s6, k_3, k_286, by decide +kernel⟩) (fun l D => c_M_told l D hwt hle hsum (by omega) hI) [0, 1, 2, 3, 4, 5] [] rfl rfl (by decide) (by decide) (by decide) (ci := 2) rfl rfl rfl rfl rfl (by decide) rfl (Nat.le_of_ble_eq_true rfl) (by decide) (by decide) d_M_cutTold_58 rfl (fun r5 u5 hp5 => ?_)
                      rcases hp5 with ⟨a1, rfl, rfl⟩ | ⟨a1, rfl, a3⟩
                      · obtain ⟨t1, t2, t3, t4, t5⟩ := tcode_0 a1
                        have t6 := (lq_spec I wt (toldP I wt i)).1
                        have t7 : twh I wt (toldP I wt i) = lq I wt (toldP I wt i) + 2 := rfl
                        have t8 : toldP I wt (i + 1) = twh I wt (toldP I wt i) + tsz I wt (toldP I wt i) + 2 := rfl
                        refine v_ws (ws' := (wM cB cI g T I (va_cpy I K (twh I wt (toldP I wt i)) (sumZ (fun i => tsz I wt (toldP I wt i)) i) (tsz I wt (toldP I wt i))) (upd F i (nI (sumZ (fun i => tsz I wt (toldP I wt i)) i))) (upd L i (nI (tsz I wt (toldP I wt i)))) tp wt (i + 1) (sumZ (fun i => tsz I wt (toldP I wt i)) (i + 1)) 0 (toldP I wt (i + 1)))) rfl ?_
                        refine v_istore_n (lv' := [_, _, _, _]) h d_M_cutTold_61 (Nat.le_of_ble_eq_true rfl) rfl ?_
                        refine v_iinc1 (lv' := [_, _, _, _]) h d_M_cutTold_62 rfl rfl ?_
                        refine v_goto 48 h d_M_cutTold_65 (by decide) ?_
                        refine ih (i + 1) (by omega) _ _ _ hMK.add (by omega) ?_ ?_
                        · show sumZ (fun i => tsz I wt (toldP I wt i)) i + tsz I wt (toldP I wt i) ≤ _
                          omega
                        · rw [← hres]
                          show _ = if tcode I wt (toldP I wt i) = 0 then tres I wt d (tnx I wt (toldP I wt i)) else tcode I wt (toldP I wt i)
                          rw [if_pos a1]
                          rfl
                      · have hc6 : toldC I wt = tcode I wt (toldP I wt i) := by
                          rw [← hres]
                          show (if tcode I wt (toldP I wt i) = 0 then tres I wt d (tnx I wt (toldP I wt i)) else tcode I wt (toldP I wt i)) = _
                          rw [if_neg a1]
                        obtain ⟨K5, F5, L5, wd5, ks5, ft5, at5⟩ := u5
                        refine v_ws (ws' := (wM cB cI g T I K5 F5 L5 tp wt wd5 ks5 ft5 at5)) rfl ?_
                        have a3 : ft5 = ftC (tcode I wt (toldP I wt i)) := a3
                        refine v_istore_n (lv' := [_, _, _, _]) h d_M_cutTold_61 (Nat.le_of_ble_eq_true rfl) rfl ?_
                        refine v_iinc1 (lv' := [_, _, _, _]) h d_M_cutTold_62 rfl rfl ?_
                        refine v_goto 48 h d_M_cutTold_65 (by decide) ?_
                        refine v_iload_n h d_M_cutTold_48 rfl ?_
                        refine v_iload_n h d_M_cutTold_49 rfl ?_
                        refine v_geN 68 h d_M_cutTold_50 (by decide) (fun q50 => ?_) (fun q50 => ?_)
                        · refine v_iload_n h d_M_cutTold_68 rfl ?_
                          exact v_iret h hr (by decide) d_M_cutTold_69 (K5, F5, L5, wd5, ks5, ft5, at5) rfl (Or.inr ⟨by rw [hc6]; exact a1, rfl, by rw [hc6]; exact a3⟩)
                        · refine v_iload_n h d_M_cutTold_53 rfl ?_
                          refine v_eqB 68 h d_M_cutTold_54 (by decide) (fun q54 => ?_) (fun q54 => ?_)
                          · refine v_iload_n h d_M_cutTold_68 rfl ?_
                            exact v_iret h hr (by decide) d_M_cutTold_69 (K5, F5, L5, wd5, ks5, ft5, at5) rfl (Or.inr ⟨by rw [hc6]; exact a1, rfl, by rw [hc6]; exact a3⟩)
                          · cases q54
              exact loop N 0 (by omega) K F L MK.zero (by show lq I wt 0 + 2 ≤ wt; omega) (Nat.zero_le _) (by rw [hC, eN2]; rfl)
      · have hC : toldC I wt = 1 := by rw [toldC, if_neg (by omega), if_neg (by omega), if_pos (Int32.not_le.mp q16)]
        refine v_iconst (v := nI 1) h d_M_cutTold_19 (by decide) ?_
        refine v_goto 24 h d_M_cutTold_20 (by decide) ?_
        refine pM_fault h d_M_cutTold_24 ?_
        refine v_iload_n h d_M_cutTold_27 rfl ?_
        refine v_ldc (v := (-1000000)) h d_M_cutTold_28 k_282 (by decide) ?_
        refine v_icmp_eq 44 h d_M_cutTold_30 (by decide) (fun q30 => ?_) (fun q30 => ?_)
        · exact absurd q30 hnw.1
        · refine v_aload_n h d_M_cutTold_33 rfl ?_
          refine gM_fault h d_M_cutTold_34 ?_
          refine v_neZ 44 h d_M_cutTold_37 (by decide) (fun q37 => ?_) (fun q37 => ?_)
          · refine v_iconst (v := nI 0) h d_M_cutTold_44 (by decide) ?_
            refine v_istore_n (lv' := [_, _, _, _]) h d_M_cutTold_45 (Nat.le_of_ble_eq_true rfl) rfl ?_
            refine v_iconst (v := nI 0) h d_M_cutTold_46 (by decide) ?_
            refine v_istore_n (lv' := [_, _, _, _]) h d_M_cutTold_47 (Nat.le_of_ble_eq_true rfl) rfl ?_
            refine v_iload_n h d_M_cutTold_48 rfl ?_
            refine v_iload_n h d_M_cutTold_49 rfl ?_
            refine v_icmp_ge 68 h d_M_cutTold_50 (by decide) (fun q50 => ?_) (fun q50 => ?_)
            · refine v_iload_n h d_M_cutTold_68 rfl ?_
              exact v_iret h hr (by decide) d_M_cutTold_69 (K, F, L, 0, 0, 1, lq I wt 0 + 2) rfl (Or.inr ⟨by rw [hC]; decide, rfl, by rw [hC]; rfl⟩)
            · refine v_iload_n h d_M_cutTold_53 rfl ?_
              refine v_eqZ 68 h d_M_cutTold_54 (by decide) (fun q54 => ?_) (fun q54 => ?_)
              · refine v_iload_n h d_M_cutTold_68 rfl ?_
                exact v_iret h hr (by decide) d_M_cutTold_69 (K, F, L, 0, 0, 1, lq I wt 0 + 2) rfl (Or.inr ⟨by rw [hC]; decide, rfl, by rw [hC]; rfl⟩)
              · exact absurd rfl q54
          · exact absurd q37 (by decide)
  · rw [lres_1 hl] at e2
    subst e2
    have hC : toldC I wt = 6 := by rw [toldC, if_pos hl]
    refine v_istore_n (lv' := [_, _, _, _]) h d_M_cutTold_4 (Nat.le_of_ble_eq_true rfl) rfl ?_
    refine v_aload_n h d_M_cutTold_5 rfl ?_
    refine v_iload_n h d_M_cutTold_6 rfl ?_
    refine v_ldc (v := (-1000001)) h d_M_cutTold_7 k_281 (by decide) ?_
    refine v_icmp_eq 19 h d_M_cutTold_9 (by decide) (fun q9 => ?_) (fun q9 => ?_)
    · exact absurd q9 (by decide)
    · refine v_iload_n h d_M_cutTold_12 rfl ?_
      refine v_sipush (v := nI 1024) h d_M_cutTold_13 (by decide) ?_
      refine v_icmp_le 23 h d_M_cutTold_16 (by decide) (fun q16 => ?_) (fun q16 => ?_)
      · refine v_iconst (v := nI 0) h d_M_cutTold_23 (by decide) ?_
        refine pM_fault h d_M_cutTold_24 ?_
        refine v_iload_n h d_M_cutTold_27 rfl ?_
        refine v_ldc (v := (-1000000)) h d_M_cutTold_28 k_282 (by decide) ?_
        refine v_icmp_eq 44 h d_M_cutTold_30 (by decide) (fun q30 => ?_) (fun q30 => ?_)
        · refine v_iconst (v := nI 0) h d_M_cutTold_44 (by decide) ?_
          refine v_istore_n (lv' := [_, _, _, _]) h d_M_cutTold_45 (Nat.le_of_ble_eq_true rfl) rfl ?_
          refine v_iconst (v := nI 0) h d_M_cutTold_46 (by decide) ?_
          refine v_istore_n (lv' := [_, _, _, _]) h d_M_cutTold_47 (Nat.le_of_ble_eq_true rfl) rfl ?_
          refine v_iload_n h d_M_cutTold_48 rfl ?_
          refine v_iload_n h d_M_cutTold_49 rfl ?_
          refine v_icmp_ge 68 h d_M_cutTold_50 (by decide) (fun q50 => ?_) (fun q50 => ?_)
          · refine v_iload_n h d_M_cutTold_68 rfl ?_
            exact v_iret h hr (by decide) d_M_cutTold_69 (K, F, L, 0, 0, 0, u2) rfl (Or.inr ⟨by rw [hC]; decide, rfl, by rw [hC]; rfl⟩)
          · exact absurd (by decide) q50
        · exact absurd rfl q30
      · exact absurd (by decide) q16
  · rw [lres_2 hl] at e2
    subst e2
    have hC : toldC I wt = 1 := by rw [toldC, if_neg (by omega), if_pos hl]
    refine v_istore_n (lv' := [_, _, _, _]) h d_M_cutTold_4 (Nat.le_of_ble_eq_true rfl) rfl ?_
    refine v_aload_n h d_M_cutTold_5 rfl ?_
    refine v_iload_n h d_M_cutTold_6 rfl ?_
    refine v_ldc (v := (-1000001)) h d_M_cutTold_7 k_281 (by decide) ?_
    refine v_icmp_eq 19 h d_M_cutTold_9 (by decide) (fun q9 => ?_) (fun q9 => ?_)
    · refine v_iconst (v := nI 1) h d_M_cutTold_19 (by decide) ?_
      refine v_goto 24 h d_M_cutTold_20 (by decide) ?_
      refine pM_fault h d_M_cutTold_24 ?_
      refine v_iload_n h d_M_cutTold_27 rfl ?_
      refine v_ldc (v := (-1000000)) h d_M_cutTold_28 k_282 (by decide) ?_
      refine v_icmp_eq 44 h d_M_cutTold_30 (by decide) (fun q30 => ?_) (fun q30 => ?_)
      · exact absurd q30 (by decide)
      · refine v_aload_n h d_M_cutTold_33 rfl ?_
        refine gM_fault h d_M_cutTold_34 ?_
        refine v_neZ 44 h d_M_cutTold_37 (by decide) (fun q37 => ?_) (fun q37 => ?_)
        · refine v_iconst (v := nI 0) h d_M_cutTold_44 (by decide) ?_
          refine v_istore_n (lv' := [_, _, _, _]) h d_M_cutTold_45 (Nat.le_of_ble_eq_true rfl) rfl ?_
          refine v_iconst (v := nI 0) h d_M_cutTold_46 (by decide) ?_
          refine v_istore_n (lv' := [_, _, _, _]) h d_M_cutTold_47 (Nat.le_of_ble_eq_true rfl) rfl ?_
          refine v_iload_n h d_M_cutTold_48 rfl ?_
          refine v_iload_n h d_M_cutTold_49 rfl ?_
          refine v_icmp_ge 68 h d_M_cutTold_50 (by decide) (fun q50 => ?_) (fun q50 => ?_)
          · refine v_iload_n h d_M_cutTold_68 rfl ?_
            exact v_iret h hr (by decide) d_M_cutTold_69 (K, F, L, 0, 0, 1, u2) rfl (Or.inr ⟨by rw [hC]; decide, rfl, by rw [hC]; rfl⟩)
          · exact absurd (by decide) q50
        · exact absurd q37 (by decide)
    · exact absurd rfl q9
end
section
theorem plast_le {f : Nat → Int32} {n : Nat} : plast f n ≤ pq f n := by
  unfold plast
  split
  · omega
  · exact Nat.le_refl _
noncomputable abbrev pW (I : Nat → Int32) (n : Nat) (i : Nat) : Nat := ps I (plast I n) i
noncomputable abbrev pZ (I : Nat → Int32) (n : Nat) (i : Nat) : Nat := we I (plast I n) (ps I (plast I n) i) - ps I (plast I n) i
set_option maxHeartbeats 4000000 in
theorem c_M_cutLine (l : Launch) (D : va_G) {cB cI : ClassId} {ad g : Nat → Nat} {T I K F L : Nat → Int32} {tp wt wd ks ft at_ : Nat} (hwt : wt ≤ 65536) (hI : B8 I) : CtI l y_M_cutLine prog_4_method_13_code 5 .boolean r2 D cB cI ad [.ref (g 0)] (wM cB cI g T I K F L tp wt 0 0 ft at_) (fun (r : Int32) (u : MS) => ctP I wt (plainC I wt) (pN I (plast I wt)) (pq I wt + 1) (pW I wt) (pZ I wt) r u) (fun u => (wM cB cI g T I u.1 u.2.1 u.2.2.1 tp wt u.2.2.2.1 u.2.2.2.2.1 u.2.2.2.2.2.1 u.2.2.2.2.2.2)) 0 0 := by
  refine CtI.mk (own := "RequestCutterModel") (by decide) rfl (cat_of rfl) (Nat.le_of_ble_eq_true rfl) (fun E h hr => ?_)
  refine v_lv (lv' := [_, _, _, _, _]) rfl ?_
  have hq := pq_spec I wt
  have K101 : pq I wt < wt → pq I wt < 2048 → ∀ d i k, k ≤ plast I wt + 1 → plast I wt + 2 ≤ k + d → sk I (plast I wt) (min k (plast I wt)) = pW I wt i → (∀ j, j < i → ps I (plast I wt) j < plast I wt) → i ≤ 1024 → ∀ K F L : Nat → Int32, MK I K F L (pW I wt) (pZ I wt) i → sumZ (pZ I wt) i ≤ k → ∀ x4 : Option Value, V E 0 0 (wM cB cI g T I K F L tp wt i (sumZ (pZ I wt) i) 0 (pq I wt + 1)) 101 [some (.ref (g 0)), some (.int (nI (pq I wt))), some (.int (nI (plast I wt))), some (.int (nI k)), x4] [] := by
    intro hlt h20 d
    have hla := plast_le (f := I) (n := wt)
    have hC : plainC I wt = 0 := by rw [plainC, if_neg (by omega), if_neg (by omega)]
    induction d with
    | zero => intro i k h1 h2; omega
    | succ d ih =>
      intro i k h1 h2 hsk hps hi K F L hMK hsum x4
      refine v_iload_n h d_M_cutLine_101 rfl ?_
      refine v_iload_n h d_M_cutLine_102 rfl ?_
      refine v_geN 156 h d_M_cutLine_103 (by decide) (fun q103 => ?_) (fun q103 => ?_)
      · have e1 : min k (plast I wt) = plast I wt := by omega
        rw [e1, sk_end (Nat.le_refl _)] at hsk
        have eN : pN I (plast I wt) = i := fs_eq ⟨Nat.zero_le _, fun j _ g2 => hps j g2, fun z => by have : ps I (plast I wt) i = plast I wt := hsk.symm; omega⟩
        refine v_iconst (v := nI 1) h d_M_cutLine_156 (by decide) ?_
        refine v_iret h hr (by decide) d_M_cutLine_157 (K, F, L, i, sumZ (pZ I wt) i, 0, pq I wt + 1) rfl (Or.inl ⟨hC, rfl, ?_⟩)
        rw [eN]
        exact ⟨rfl, rfl, rfl, by omega, hi, by omega, hMK⟩
      · have e1 : min k (plast I wt) = k := by omega
        rw [e1] at hsk
        have K133 : V E 0 0 (wM cB cI g T I K F L tp wt i (sumZ (pZ I wt) i) 0 (pq I wt + 1)) 133 [some (.ref (g 0)), some (.int (nI (pq I wt))), some (.int (nI (plast I wt))), some (.int (nI k)), some (.int (nI (we I (plast I wt) k)))] [] := by
          have hwe := we_spec I (plast I wt) k
          have hwl := we_le (f := I) (Nat.le_of_lt q103)
          have hw1 := hwe.1
          refine v_iload h d_M_cutLine_133 rfl ?_
          refine v_iload_n h d_M_cutLine_135 rfl ?_
          refine v_leN 148 h d_M_cutLine_136 (by decide) (fun q136 => ?_) (fun q136 => ?_)
          · have e2 : we I (plast I wt) k = k := by omega
            have hb : I k = nI 32 := by
              refine Decidable.not_not.mp (fun z => ?_)
              have := hwe.2.2
              rw [e2] at this
              exact this ⟨q103, z⟩
            rw [e2]
            refine v_iload h d_M_cutLine_148 rfl ?_
            refine v_iconst (v := nI 1) h d_M_cutLine_150 (by decide) ?_
            refine v_iaddN h d_M_cutLine_151 ?_
            refine v_istore_n (lv' := [_, _, _, _, _]) h d_M_cutLine_152 (Nat.le_of_ble_eq_true rfl) rfl ?_
            refine v_goto 101 h d_M_cutLine_153 (by decide) ?_
            refine ih i (k + 1) (by omega) (by omega) ?_ hps hi K F L hMK (by omega) _
            rw [show min (k + 1) (plast I wt) = k + 1 by omega, ← sk_blank q103 hb]
            exact hsk
          · have hb : ¬ I k = nI 32 := (hwe.2.1 k (Nat.le_refl _) q136).2
            have e3 : ps I (plast I wt) i = k := by rw [show ps I (plast I wt) i = pW I wt i from rfl, ← hsk, sk_word hb]
            have e4 : pZ I wt i = we I (plast I wt) k - k := by show we I (plast I wt) (ps I (plast I wt) i) - ps I (plast I wt) i = _; rw [e3]
            have h2i := ps_two (f := I) (last := plast I wt) i (by omega) hps
            refine v_aload_n h d_M_cutLine_139 rfl ?_
            refine v_iload_n h d_M_cutLine_140 rfl ?_
            refine v_iload h d_M_cutLine_141 rfl ?_
            refine v_iload_n h d_M_cutLine_143 rfl ?_
            refine v_isubN h d_M_cutLine_144 ?_
            refine v_callV (wc := (wM cB cI g T I K F L tp wt i (sumZ (pZ I wt) i) 0 (pq I wt + 1))) (wr := []) (As := [.int (nI k), .int (nI (we I (plast I wt) k - k))]) (st := []) h (show LkV "RequestCutterModel" 63 "RequestCutterModel" ⟨"RequestCutterModel", "word", "(II)V"⟩ prog_4_method_9_code 4 none 2 from ⟨k_291, k_293, k_s8, k_3, k_294, by decide +kernel⟩) (fun l D => c_M_word l D k (we I (plast I wt) k - k) (by omega) (by omega) (by omega) hI) [0, 1, 2, 3, 4, 5] [] rfl rfl (by decide) (by decide) (by decide) (ci := 2) rfl rfl rfl rfl rfl (by decide) rfl (Nat.le_of_ble_eq_true rfl) (by decide) (by decide) d_M_cutLine_145 rfl (fun _ _ => ?_)
            have hMK2 := hMK.add
            rw [show pW I wt i = k from e3, e4] at hMK2
            have es : sumZ (pZ I wt) (i + 1) = sumZ (pZ I wt) i + (we I (plast I wt) k - k) := by show sumZ (pZ I wt) i + pZ I wt i = _; rw [e4]
            refine v_ws (ws' := (wM cB cI g T I (va_cpy I K k (sumZ (pZ I wt) i) (we I (plast I wt) k - k)) (upd F i (nI (sumZ (pZ I wt) i))) (upd L i (nI (we I (plast I wt) k - k))) tp wt (i + 1) (sumZ (pZ I wt) (i + 1)) 0 (pq I wt + 1))) (by rw [es]; rfl) ?_
            refine v_iload h d_M_cutLine_148 rfl ?_
            refine v_iconst (v := nI 1) h d_M_cutLine_150 (by decide) ?_
            refine v_iaddN h d_M_cutLine_151 ?_
            refine v_istore_n (lv' := [_, _, _, _, _]) h d_M_cutLine_152 (Nat.le_of_ble_eq_true rfl) rfl ?_
            refine v_goto 101 h d_M_cutLine_153 (by decide) ?_
            refine ih (i + 1) (we I (plast I wt) k + 1) (by omega) (by omega) ?_ ?_ (by omega) _ _ _ hMK2 (by omega) _
            · show _ = sk I (plast I wt) (we I (plast I wt) (ps I (plast I wt) i))
              rw [e3]
              rcases Nat.lt_or_ge (we I (plast I wt) k) (plast I wt) with z | z
              · rw [show min (we I (plast I wt) k + 1) (plast I wt) = we I (plast I wt) k + 1 by omega]
                refine (sk_blank z (Decidable.not_not.mp (fun y => hwe.2.2 ⟨z, y⟩))).symm
              · rw [show min (we I (plast I wt) k + 1) (plast I wt) = plast I wt by omega, show we I (plast I wt) k = plast I wt by omega]
            · intro j hj
              rcases Nat.eq_or_lt_of_le (Nat.le_of_lt_succ hj) with e | e
              · rw [e, e3]; exact q103
              · exact hps j e
        have inner : ∀ d2 x, k ≤ x → x ≤ plast I wt → (∀ j, k ≤ j → j < x → j < plast I wt ∧ ¬ I j = nI 32) → plast I wt + 1 ≤ x + d2 → V E 0 0 (wM cB cI g T I K F L tp wt i (sumZ (pZ I wt) i) 0 (pq I wt + 1)) 109 [some (.ref (g 0)), some (.int (nI (pq I wt))), some (.int (nI (plast I wt))), some (.int (nI k)), some (.int (nI x))] [] := by
          intro d2
          induction d2 with
          | zero => intro x g1 g2 g3 g4; omega
          | succ d2 ih2 =>
            intro x g1 g2 g3 g4
            have out : ¬ (x < plast I wt ∧ ¬ I x = nI 32) → V E 0 0 (wM cB cI g T I K F L tp wt i (sumZ (pZ I wt) i) 0 (pq I wt + 1)) 133 [some (.ref (g 0)), some (.int (nI (pq I wt))), some (.int (nI (plast I wt))), some (.int (nI k)), some (.int (nI x))] [] := by
              intro hn
              have e : we I (plast I wt) k = x := fs_eq ⟨g1, g3, hn⟩
              rw [← e]
              exact K133
            refine v_iload h d_M_cutLine_109 rfl ?_
            refine v_iload_n h d_M_cutLine_111 rfl ?_
            refine v_geN 133 h d_M_cutLine_112 (by decide) (fun q112 => ?_) (fun q112 => ?_)
            · exact out (fun z => by have := z.1; omega)
            · refine v_aload_n h d_M_cutLine_115 rfl ?_
              refine gM_input h d_M_cutLine_116 ?_
              refine v_iload h d_M_cutLine_119 rfl ?_
              refine lM_input h d_M_cutLine_121 ?_
              refine v_bipush (v := nI 32) h d_M_cutLine_122 (by decide) ?_
              refine v_icmp_eq 133 h d_M_cutLine_124 (by decide) (fun q124 => ?_) (fun q124 => ?_)
              · exact out (fun z => z.2 q124)
              · refine v_iinc1 (lv' := [_, _, _, _, _]) h d_M_cutLine_127 rfl rfl ?_
                refine v_goto 109 h d_M_cutLine_130 (by decide) ?_
                refine ih2 (x + 1) (by omega) (by omega) (fun j y1 y2 => ?_) (by omega)
                rcases Nat.eq_or_lt_of_le (Nat.le_of_lt_succ y2) with e | e
                · rw [e]; exact ⟨q112, q124⟩
                · exact g3 j y1 e
        refine v_iload_n h d_M_cutLine_106 rfl ?_
        refine v_istore (lv' := [_, _, _, _, _]) h d_M_cutLine_107 (Nat.le_of_ble_eq_true rfl) rfl ?_
        exact inner (plast I wt + 1) k (Nat.le_refl _) (by omega) (fun j y1 y2 => by omega) (by omega)
  have K98 : pq I wt < wt → pq I wt < 2048 → V E 0 0 (wM cB cI g T I K F L tp wt 0 0 0 (pq I wt + 1)) 98 [some (.ref (g 0)), some (.int (nI (pq I wt))), none, none, none] [.int (nI (plast I wt))] := by
    intro hlt h20
    refine v_istore_n (lv' := [_, _, _, _, _]) h d_M_cutLine_98 (Nat.le_of_ble_eq_true rfl) rfl ?_
    refine v_iconst (v := nI 0) h d_M_cutLine_99 (by decide) ?_
    refine v_istore_n (lv' := [_, _, _, _, _]) h d_M_cutLine_100 (Nat.le_of_ble_eq_true rfl) rfl ?_
    refine K101 hlt h20 (plast I wt + 2) 0 0 (by omega) (by omega) ?_ (fun j g => absurd g (Nat.not_lt_zero j)) (by decide) K F L MK.zero (Nat.zero_le _) _
    rw [Nat.zero_min]
    rfl
  have K34 : pq I wt ≤ wt → pq I wt ≤ 2048 → V E 0 0 (wM cB cI g T I K F L tp wt 0 0 ft at_) 34 [some (.ref (g 0)), some (.int (nI (pq I wt))), none, none, none] [] := by
    intro hle hle2
    refine v_aload_n h d_M_cutLine_34 rfl ?_
    refine v_iload_n h d_M_cutLine_35 rfl ?_
    refine v_sipush (v := nI 2048) h d_M_cutLine_36 (by decide) ?_
    refine v_neN 46 h d_M_cutLine_39 (by decide) (fun q39 => ?_) (fun q39 => ?_)
    · refine v_iconst (v := nI 0) h d_M_cutLine_46 (by decide) ?_
      refine pM_fault h d_M_cutLine_47 ?_
      refine v_iload_n h d_M_cutLine_50 rfl ?_
      refine v_sipush (v := nI 2048) h d_M_cutLine_51 (by decide) ?_
      refine v_eqN 65 h d_M_cutLine_54 (by decide) (fun q54 => ?_) (fun q54 => ?_)
      · omega
      · refine v_iload_n h d_M_cutLine_57 rfl ?_
        refine v_aload_n h d_M_cutLine_58 rfl ?_
        refine gM_waits h d_M_cutLine_59 ?_
        refine v_neN 67 h d_M_cutLine_62 (by decide) (fun q62 => ?_) (fun q62 => ?_)
        · have hlt : pq I wt < wt := by omega
          have h20 : pq I wt < 2048 := by omega
          refine v_aload_n h d_M_cutLine_67 rfl ?_
          refine v_iload_n h d_M_cutLine_68 rfl ?_
          refine v_iconst (v := nI 1) h d_M_cutLine_69 (by decide) ?_
          refine v_iaddN h d_M_cutLine_70 ?_
          refine pM_at h d_M_cutLine_71 ?_
          refine v_iload_n h d_M_cutLine_74 rfl ?_
          refine v_leZ 97 h d_M_cutLine_75 (by decide) (fun q75 => ?_) (fun q75 => ?_)
          · refine v_iload_n h d_M_cutLine_97 rfl ?_
            have e : plast I wt = pq I wt := by rw [plast, if_neg (fun z => by have := z.1; omega)]
            rw [← e]
            have := K98 hlt h20
            rw [e] at this ⊢
            exact this
          · refine v_aload_n h d_M_cutLine_78 rfl ?_
            refine gM_input h d_M_cutLine_79 ?_
            refine v_iload_n h d_M_cutLine_82 rfl ?_
            refine v_iconst (v := nI 1) h d_M_cutLine_83 (by decide) ?_
            refine v_isubN h d_M_cutLine_84 ?_
            refine lM_input h d_M_cutLine_85 ?_
            refine v_bipush (v := nI 13) h d_M_cutLine_86 (by decide) ?_
            refine v_icmp_ne 97 h d_M_cutLine_88 (by decide) (fun q88 => ?_) (fun q88 => ?_)
            · refine v_iload_n h d_M_cutLine_97 rfl ?_
              have e : plast I wt = pq I wt := by rw [plast, if_neg (fun z => q88 z.2)]
              have := K98 hlt h20
              rw [e] at this
              exact this
            · refine v_iload_n h d_M_cutLine_91 rfl ?_
              refine v_iconst (v := nI 1) h d_M_cutLine_92 (by decide) ?_
              refine v_isubN h d_M_cutLine_93 ?_
              refine v_goto 98 h d_M_cutLine_94 (by decide) ?_
              have e : plast I wt = pq I wt - 1 := by rw [plast, if_pos ⟨q75, q88⟩]
              have := K98 hlt h20
              rw [e] at this
              exact this
        · refine v_iconst (v := nI 0) h d_M_cutLine_65 (by decide) ?_
          have hC : plainC I wt = 6 := by rw [plainC, if_neg (by omega), if_pos q62]
          exact v_iret h hr (by decide) d_M_cutLine_66 (K, F, L, 0, 0, 0, at_) rfl (Or.inr ⟨by rw [hC]; decide, rfl, by rw [hC]; rfl⟩)
    · have hC : plainC I wt = 5 := by rw [plainC, if_pos q39]
      refine v_iconst (v := nI 5) h d_M_cutLine_42 (by decide) ?_
      refine v_goto 47 h d_M_cutLine_43 (by decide) ?_
      refine pM_fault h d_M_cutLine_47 ?_
      refine v_iload_n h d_M_cutLine_50 rfl ?_
      refine v_sipush (v := nI 2048) h d_M_cutLine_51 (by decide) ?_
      refine v_eqN 65 h d_M_cutLine_54 (by decide) (fun q54 => ?_) (fun q54 => ?_)
      · refine v_iconst (v := nI 0) h d_M_cutLine_65 (by decide) ?_
        exact v_iret h hr (by decide) d_M_cutLine_66 (K, F, L, 0, 0, 5, at_) rfl (Or.inr ⟨by rw [hC]; decide, rfl, by rw [hC]; rfl⟩)
      · exact absurd q39 q54
  have loop : ∀ d q, q ≤ wt → q ≤ 2048 → (∀ j, 0 ≤ j → j < q → j < wt ∧ j < 2048 ∧ ¬ I j = nI 10) → wt + 1 ≤ q + d → V E 0 0 (wM cB cI g T I K F L tp wt 0 0 ft at_) 2 [some (.ref (g 0)), some (.int (nI q)), none, none, none] [] := by
    intro d
    induction d with
    | zero => intro q g1 g2 g3 g4; omega
    | succ d ih =>
      intro q g1 g2 g3 g4
      have out : ¬ (q < wt ∧ q < 2048 ∧ ¬ I q = nI 10) → V E 0 0 (wM cB cI g T I K F L tp wt 0 0 ft at_) 34 [some (.ref (g 0)), some (.int (nI q)), none, none, none] [] := by
        intro hn
        have e : pq I wt = q := fs_eq ⟨Nat.zero_le _, g3, hn⟩
        rw [← e]
        exact K34 (by omega) (by omega)
      refine v_iload_n h d_M_cutLine_2 rfl ?_
      refine v_aload_n h d_M_cutLine_3 rfl ?_
      refine gM_waits h d_M_cutLine_4 ?_
      refine v_geN 34 h d_M_cutLine_7 (by decide) (fun q7 => ?_) (fun q7 => ?_)
      · exact out (fun z => by have := z.1; omega)
      · refine v_iload_n h d_M_cutLine_10 rfl ?_
        refine v_sipush (v := nI 2048) h d_M_cutLine_11 (by decide) ?_
        refine v_geN 34 h d_M_cutLine_14 (by decide) (fun q14 => ?_) (fun q14 => ?_)
        · exact out (fun z => by have := z.2.1; omega)
        · refine v_aload_n h d_M_cutLine_17 rfl ?_
          refine gM_input h d_M_cutLine_18 ?_
          refine v_iload_n h d_M_cutLine_21 rfl ?_
          refine lM_input h d_M_cutLine_22 ?_
          refine v_bipush (v := nI 10) h d_M_cutLine_23 (by decide) ?_
          refine v_icmp_eq 34 h d_M_cutLine_25 (by decide) (fun q25 => ?_) (fun q25 => ?_)
          · exact out (fun z => z.2.2 q25)
          · refine v_iinc1 (lv' := [_, _, _, _, _]) h d_M_cutLine_28 rfl rfl ?_
            refine v_goto 2 h d_M_cutLine_31 (by decide) ?_
            refine ih (q + 1) (by omega) (by omega) (fun j y1 y2 => ?_) (by omega)
            rcases Nat.eq_or_lt_of_le (Nat.le_of_lt_succ y2) with e | e
            · rw [e]; exact ⟨q7, q14, q25⟩
            · exact g3 j y1 e
  refine v_iconst (v := nI 0) h d_M_cutLine_0 (by decide) ?_
  refine v_istore_n (lv' := [_, _, _, _, _]) h d_M_cutLine_1 (Nat.le_of_ble_eq_true rfl) rfl ?_
  exact loop (wt + 1) 0 (by omega) (by omega) (fun j y1 y2 => by omega) (by omega)
abbrev CS : Type := (Nat → Int32) × (Nat → Int32) × (Nat → Int32) × (Nat → Int32) × Nat × Nat × Nat × Nat × Nat
def mcP (I : Nat → Int32) (wt : Nat) (r : Int32) (u : CS) : Prop :=
  (cutC I wt = 0 ∧ r = nI (cutN I wt) ∧ u.1 = va_cpy I I (cutE I wt) 0 (wt - cutE I wt) ∧ u.2.2.2.2.1 = wt - cutE I wt ∧ u.2.2.2.2.2.1 = cutN I wt ∧ u.2.2.2.2.2.2.2.1 = 0 ∧ cutE I wt ≤ wt ∧ cutN I wt ≤ 1024 ∧ sumZ (cutZ I wt) (cutN I wt) ≤ 65536 ∧ MK I u.2.1 u.2.2.1 u.2.2.2.1 (cutW I wt) (cutZ I wt) (cutN I wt)) ∨
  (¬ cutC I wt = 0 ∧ r = (if cutC I wt = 6 then -1 else -2) ∧ u.1 = I ∧ u.2.2.2.2.1 = wt ∧ u.2.2.2.2.2.1 = 0 ∧ u.2.2.2.2.2.2.2.1 = ftC (cutC I wt))
set_option maxHeartbeats 4000000 in
theorem c_M_cut (l : Launch) (D : va_G) {cB cI : ClassId} {ad g : Nat → Nat} {T I K F L : Nat → Int32} {tp wt wd ks ft at_ : Nat} (hwt : wt ≤ 65536) (hI : B8 I) : CtI l y_M_cut prog_4_method_14_code 2 .int r1 D cB cI ad [.ref (g 0)] (wM cB cI g T I K F L tp wt wd ks ft at_) (fun (r : Int32) (u : CS) => mcP I wt r u) (fun u => (wM cB cI g T u.1 u.2.1 u.2.2.1 u.2.2.2.1 tp u.2.2.2.2.1 u.2.2.2.2.2.1 u.2.2.2.2.2.2.1 u.2.2.2.2.2.2.2.1 u.2.2.2.2.2.2.2.2)) 0 0 := by
  refine CtI.mk (own := "RequestCutterModel") (by decide) rfl (cat_of rfl) (Nat.le_of_ble_eq_true rfl) (fun E h hr => ?_)
  refine v_lv (lv' := [_, _]) rfl ?_
  have hCle := cutC_le I wt
  have K59 : ¬ cutC I wt = 0 → ∀ (K F L : Nat → Int32) (wd ks ft at_ : Nat), ft = ftC (cutC I wt) → V E 0 0 (wM cB cI g T I K F L tp wt wd ks ft at_) 59 [some (.ref (g 0)), none] [] := by
    intro hC K F L wd ks ft at_ hft
    have h6 := ftC_le hCle
    refine v_iconst (v := nI 0) h d_M_cut_59 (by decide) ?_
    refine v_istore_n (lv' := [_, _]) h d_M_cut_60 (Nat.le_of_ble_eq_true rfl) rfl ?_
    refine v_iload_n h d_M_cut_61 rfl ?_
    refine v_neZ 84 h d_M_cut_62 (by decide) (fun q62 => ?_) (fun q62 => ?_)
    · exact absurd rfl q62
    · refine v_aload_n h d_M_cut_65 rfl ?_
      refine v_iconst (v := nI 0) h d_M_cut_66 (by decide) ?_
      refine pM_words h d_M_cut_67 ?_
      refine v_aload_n h d_M_cut_70 rfl ?_
      refine gM_fault h d_M_cut_71 ?_
      refine v_leZ 82 h d_M_cut_74 (by decide) (fun q74 => ?_) (fun q74 => ?_)
      · have e : cutC I wt = 6 := by
          refine Decidable.not_not.mp (fun z => ?_)
          rw [hft, ftC, if_neg z] at q74
          omega
        refine v_iconst (v := (-1)) h d_M_cut_82 (by decide) ?_
        exact v_iret h hr rfl d_M_cut_83 (I, K, F, L, wt, 0, ks, ft, at_) rfl (Or.inr ⟨hC, by rw [if_pos e], rfl, rfl, rfl, hft⟩)
      · have e : ¬ cutC I wt = 6 := fun z => by
          rw [hft, ftC, if_pos z] at q74
          omega
        refine v_bipush (v := (-2)) h d_M_cut_77 (by decide) ?_
        refine v_goto 83 h d_M_cut_79 (by decide) ?_
        exact v_iret h hr rfl d_M_cut_83 (I, K, F, L, wt, 0, ks, ft, at_) rfl (Or.inr ⟨hC, by rw [if_neg e], rfl, rfl, rfl, hft⟩)
  have K55 : cutC I wt = 0 → cutE I wt ≤ wt → cutN I wt ≤ 1024 → sumZ (cutZ I wt) (cutN I wt) ≤ cutE I wt → ∀ (K F L : Nat → Int32) (ks : Nat), MK I K F L (cutW I wt) (cutZ I wt) (cutN I wt) → V E 0 0 (wM cB cI g T I K F L tp wt (cutN I wt) ks 0 (cutE I wt)) 55 [some (.ref (g 0)), none] [] := by
    intro hC hE hN hs K F L ks hMK
    refine v_iconst (v := nI 1) h d_M_cut_55 (by decide) ?_
    refine v_goto 60 h d_M_cut_56 (by decide) ?_
    refine v_istore_n (lv' := [_, _]) h d_M_cut_60 (Nat.le_of_ble_eq_true rfl) rfl ?_
    refine v_iload_n h d_M_cut_61 rfl ?_
    refine v_neZ 84 h d_M_cut_62 (by decide) (fun q62 => ?_) (fun q62 => ?_)
    · refine v_aload_n h d_M_cut_84 rfl ?_
      refine v_aload_n h d_M_cut_85 rfl ?_
      refine gM_at h d_M_cut_86 ?_
      refine v_callV (wc := (wM cB cI g T I K F L tp wt (cutN I wt) ks 0 (cutE I wt))) (wr := []) (As := [.int (nI (cutE I wt))]) (st := []) h (show LkV "RequestCutterModel" 38 "RequestCutterModel" ⟨"RequestCutterModel", "go", "(I)V"⟩ prog_4_method_6_code 3 none 1 from ⟨k_265, k_267, k_s3, k_3, k_268, by decide +kernel⟩) (fun l D => c_M_go l D (cutE I wt) hE hwt hI) [0, 1, 2, 3, 4, 5] [] rfl rfl (by decide) (by decide) (by decide) (ci := 2) rfl rfl rfl rfl rfl (by decide) rfl (Nat.le_of_ble_eq_true rfl) (by decide) (by decide) d_M_cut_89 rfl (fun _ _ => ?_)
      refine v_ws (ws' := (wM cB cI g T (va_cpy I I (cutE I wt) 0 (wt - cutE I wt)) K F L tp (wt - cutE I wt) (cutN I wt) ks 0 (cutE I wt))) rfl ?_
      refine v_aload_n h d_M_cut_92 rfl ?_
      refine gM_words h d_M_cut_93 ?_
      exact v_iret h hr rfl d_M_cut_96 (va_cpy I I (cutE I wt) 0 (wt - cutE I wt), K, F, L, wt - cutE I wt, cutN I wt, ks, 0, cutE I wt) rfl (Or.inl ⟨hC, rfl, rfl, rfl, rfl, rfl, hE, hN, by omega, hMK⟩)
    · exact absurd q62 (by decide)
  refine v_aload_n h d_M_cut_0 rfl ?_
  refine v_iconst (v := nI 0) h d_M_cut_1 (by decide) ?_
  refine pM_words h d_M_cut_2 ?_
  refine v_aload_n h d_M_cut_5 rfl ?_
  refine v_iconst (v := nI 0) h d_M_cut_6 (by decide) ?_
  refine pM_keptSize h d_M_cut_7 ?_
  refine v_aload_n h d_M_cut_10 rfl ?_
  refine v_iconst (v := nI 0) h d_M_cut_11 (by decide) ?_
  refine pM_fault h d_M_cut_12 ?_
  refine v_aload_n h d_M_cut_15 rfl ?_
  refine v_iconst (v := nI 0) h d_M_cut_16 (by decide) ?_
  refine pM_at h d_M_cut_17 ?_
  refine v_aload_n h d_M_cut_20 rfl ?_
  refine gM_waits h d_M_cut_21 ?_
  refine v_leZ 59 h d_M_cut_24 (by decide) (fun q24 => ?_) (fun q24 => ?_)
  · exact K59 (by rw [cutC, if_pos (by omega)]; decide) K F L 0 0 0 0 (by rw [cutC, if_pos (by omega)]; rfl)
  · refine v_aload_n h d_M_cut_27 rfl ?_
    refine gM_input h d_M_cut_28 ?_
    refine v_iconst (v := nI 0) h d_M_cut_31 (by decide) ?_
    refine lM_input h d_M_cut_32 ?_
    refine v_bipush (v := nI 42) h d_M_cut_33 (by decide) ?_
    refine v_icmp_ne 48 h d_M_cut_35 (by decide) (fun q35 => ?_) (fun q35 => ?_)
    · have eC : cutC I wt = plainC I wt := by rw [cutC, if_neg (by omega), if_neg q35]
      have eN : cutN I wt = pN I (plast I wt) := by rw [cutN, if_neg q35]
      have eE : cutE I wt = pq I wt + 1 := by rw [cutE, if_neg q35]
      have eW : cutW I wt = pW I wt := by funext i; rw [cutW, if_neg q35]
      have eZ : cutZ I wt = pZ I wt := by funext i; rw [cutZ, if_neg q35]
      refine v_aload_n h d_M_cut_48 rfl ?_
      refine v_callI (wc := (wM cB cI g T I K F L tp wt 0 0 0 0)) (wr := []) (As := []) (st := []) h (show LkV "RequestCutterModel" 74 "RequestCutterModel" ⟨"RequestCutterModel", "cutLine", "()Z"⟩ prog_4_method_13_code 5 (some .boolean) 0 from ⟨k_295, k_297, k_s9, k_3, k_298, by decide +kernel⟩) (fun l D => c_M_cutLine l D (wd := 0) (ks := 0) hwt hI) [0, 1, 2, 3, 4, 5] [] rfl rfl (by decide) (by decide) (by decide) (ci := 2) rfl rfl rfl rfl rfl (by decide) rfl (Nat.le_of_ble_eq_true rfl) (by decide) (by decide) d_M_cut_49 rfl (fun r5 u5 hp5 => ?_)
      obtain ⟨K5, F5, L5, wd5, ks5, ft5, at5⟩ := u5
      refine v_ws (ws' := (wM cB cI g T I K5 F5 L5 tp wt wd5 ks5 ft5 at5)) rfl ?_
      rcases hp5 with ⟨a1, rfl, a3, a4, a5, a6, a7, a8, a9⟩ | ⟨a1, rfl, a3⟩
      · refine v_eqB 59 h d_M_cut_52 (by decide) (fun q52 => ?_) (fun q52 => ?_)
        · cases q52
        · dsimp only at a3 a4 a5 a9
          subst a4
          rw [a3, a5, ← eN, ← eE]
          exact K55 (by rw [eC]; exact a1) (by rw [eE]; exact a6) (by rw [eN]; exact a7) (by rw [eZ, eN, eE]; exact a8) K5 F5 L5 ks5 (by rw [eW, eZ, eN]; exact a9)
      · refine v_eqB 59 h d_M_cut_52 (by decide) (fun q52 => ?_) (fun q52 => ?_)
        · exact K59 (by rw [eC]; exact a1) K5 F5 L5 wd5 ks5 ft5 at5 (by rw [eC]; exact a3)
        · cases q52
    · have eC : cutC I wt = toldC I wt := by rw [cutC, if_neg (by omega), if_pos q35]
      have eN : cutN I wt = toldN I wt := by rw [cutN, if_pos q35]
      have eE : cutE I wt = toldP I wt (toldN I wt) := by rw [cutE, if_pos q35]
      have eW : cutW I wt = (fun i => twh I wt (toldP I wt i)) := by funext i; rw [cutW, if_pos q35]
      have eZ : cutZ I wt = (fun i => tsz I wt (toldP I wt i)) := by funext i; rw [cutZ, if_pos q35]
      refine v_aload_n h d_M_cut_38 rfl ?_
      refine v_callI (wc := (wM cB cI g T I K F L tp wt 0 0 0 0)) (wr := []) (As := []) (st := []) h (show LkV "RequestCutterModel" 71 "RequestCutterModel" ⟨"RequestCutterModel", "cutTold", "()Z"⟩ prog_4_method_12_code 4 (some .boolean) 0 from ⟨k_273, k_275, k_s4, k_3, k_276, by decide +kernel⟩) (fun l D => c_M_cutTold l D (wd := 0) (ks := 0) (at_ := 0) hwt hI) [0, 1, 2, 3, 4, 5] [] rfl rfl (by decide) (by decide) (by decide) (ci := 2) rfl rfl rfl rfl rfl (by decide) rfl (Nat.le_of_ble_eq_true rfl) (by decide) (by decide) d_M_cut_39 rfl (fun r5 u5 hp5 => ?_)
      obtain ⟨K5, F5, L5, wd5, ks5, ft5, at5⟩ := u5
      refine v_ws (ws' := (wM cB cI g T I K5 F5 L5 tp wt wd5 ks5 ft5 at5)) rfl ?_
      rcases hp5 with ⟨a1, rfl, a3, a4, a5, a6, a7, a8, a9⟩ | ⟨a1, rfl, a3⟩
      · refine v_eqB 59 h d_M_cut_42 (by decide) (fun q42 => ?_) (fun q42 => ?_)
        · cases q42
        · dsimp only at a3 a4 a5 a9
          subst a4
          refine v_goto 55 h d_M_cut_45 (by decide) ?_
          rw [a3, a5, ← eE, ← eN]
          exact K55 (by rw [eC]; exact a1) (by rw [eE]; exact a6) (by rw [eN]; exact a7) (by rw [eZ, eN, eE]; exact a8) K5 F5 L5 ks5 (by rw [eW, eZ, eN]; exact a9)
      · refine v_eqB 59 h d_M_cut_42 (by decide) (fun q42 => ?_) (fun q42 => ?_)
        · exact K59 (by rw [eC]; exact a1) K5 F5 L5 wd5 ks5 ft5 at5 (by rw [eC]; exact a3)
        · cases q42
end
section
section VC
variable {E : Ev} {cc : ByteArray} {own : String} {rm : Room} {cB cI : ClassId} {ad : Nat → Nat} {k n pc : Nat} {ws : va_W} {lv lv' : List (Option Value)} {st : List Value}
theorem v_callI4 {S : Type} {post : Int32 → S → Prop} {wf : S → va_W} {ty : FieldType} {y : MethodName} {bt : ByteArray} {ml idx b n0 mc ms : Nat} {C : String} {rm2 : Room} {As : List Value} {wc wr : va_W} (h : Cx E cc own rm cB cI ad) (L : LkV own idx C y bt ml (some ty) n0) (hM : ∀ (l : Launch) (D : va_G), CtI l y bt ml ty rm2 D cB cI ad (.ref b :: As) wc post wf mc ms) (isC isR : List Nat) (hC : isC.map (fun i => ws[i]?) = wc.map some) (hRr : isR.map (fun i => ws[i]?) = wr.map some) (hnC : va_nd isC = true) (hnR : va_nd isR = true) (hdis : ∀ i ∈ isR, i ∉ isC) {ci : Nat} {q : vw_C} {fs : List Value} (hkc : kl[ci]? = some q) (hqc : q.1 = C) (hrv : wc[4]? = some (b, .inr (ci, fs))) (hrc : rm2.cells = mc) (hrs : rm2.slots = ms) (hrm : rm2.frames + 1 ≤ rm.frames ∧ 8 + (ml + 11) + rm2.locals ≤ rm.locals) (hn0 : As.length = n0) (hst : (st.map fun v => v.category).sum ≤ 8) (hcl : k + mc ≤ rm.cells) (hsl : n + ms ≤ rm.slots) (hd : decode cc pc = .ok (.invokevirtual idx, 3)) {st0 : List Value} (hst0 : st0 = As.reverse ++ .ref b :: st) (kk : ∀ (r : Int32) (u : S), post r u → V E (k + mc) (n + ms) (wr ++ wf u) (pc + 3) lv (.int r :: st)) : V E k n ws pc lv st0 := by
  obtain ⟨p, l, e, R, s, m, args, below, meth, c, Q, D, A, nL⟩ := E
  obtain ⟨hx, hb, hml, hown, hts, hK, hX, hA, hR⟩ := h
  intro H locs ls hP hD hS hl
  subst hR
  subst hst0
  have hPc := hP.sub (ws' := wc) isC (fm_of hC)
  have hDc := hD.sub (ws' := wc) isC hnC hC
  have hFc := va_free (wc := wc) hD hS hA isC hC
  have hbl : FrameBlind (va_Pc (.ref b :: As) (fun U => U.heap.size = H.size ∧ va_P D kl wc U.heap ∧ va_K D kl [(cB, .byte), (cI, .int)] U ∧ va_D (fun _ => True) wc ∧ SX ad (va_A wc H.size) U U.heap)) := fun a U g mk q => by
    obtain ⟨q0, q1, qP, qK, qD, qX⟩ := q
    exact ⟨q0, q1, qP, va_K.moved (u := U) (U := U.calling g mk a) (Vm.Alike.refl U.vm) qK, qD, SX.same (u := U) (U := U.calling g mk a) rfl qX⟩
  have hpre : ∀ U : State, U.heap = H → s.WarmedH U.vm → va_Pc (.ref b :: As) (fun U => U.heap.size = H.size ∧ va_P D kl wc U.heap ∧ va_K D kl [(cB, .byte), (cI, .int)] U ∧ va_D (fun _ => True) wc ∧ SX ad (va_A wc H.size) U U.heap) (Value.ref b :: As).toArray U := fun U hU hW => ⟨rfl, by rw [hU], by rw [hU]; exact hPc, va_K.moved hW.alike hK, hDc.weaken (fun _ _ _ _ => trivial), by rw [hU]; exact hX.to hW hS.2.1 hFc⟩
  refine va_calli (va_runV (C := C) (As := As) (rest := st) ⟨hx, hb, hml, hown, hts⟩ (hM l D H.size) (cwV n0 hts (gd_V L) rfl hrc hrs L.2.2.2.2.2 hrm) ⟨hbl, by have := va_recv hK hPc hkc hrv; rw [hqc] at this; exact this, fun U hU hW => hpre U hU hW⟩ rfl hn0 (lh_size hl) rfl (lv_room hst) hd ⟨hcl, hsl⟩) hS (fun q _ h => hFc q h) hFc (fun r u t H1 locs1 ht hvm hw hB hz1 hk1 hS1 => ?_)
  obtain ⟨hP1, hD1⟩ := hB
  rw [ht] at hP1
  obtain ⟨hP2, hD2⟩ := va_join (wr := wr) (w1 := wf u) hP hD isC isR hC hRr hnR hdis hk1 hFc hP1 hD1
  exact kk r u hw H1 locs1 ls hP2 hD2 hS1 hl
end VC
end
section
abbrev XS : Type := (Nat → Int32) × (Nat → Int32) × Nat × Nat × Value × Int32
def fvC (ad : Nat → Nat) (c : Nat) : Value := if c = 6 then .null else .ref (ad (c - 1))
def cpP (ad : Nat → Nat) (n c N en : Nat) (wh z : Nat → Nat) (r : Int32) (u : XS) : Prop :=
  (c = 0 ∧ r = bI true ∧ u.2.2.1 = N ∧ u.2.2.2.1 = en ∧ en ≤ n ∧ N ≤ 1024 ∧ CK u.1 u.2.1 wh z N ∧ ∀ j, j < N → wh j + z j ≤ en) ∨ (¬ c = 0 ∧ r = bI false ∧ u.2.2.2.2.1 = fvC ad c)
set_option maxHeartbeats 4000000 in
theorem c_C_plain (l : Launch) (D : va_G) {cB cI : ClassId} {ad g : Nat → Nat} {T : Nat → Int32} {len : Nat} {I : Nat → Int32} {many : Nat} {K : Nat → Int32} {wd ft : Nat} {at_ sz : Nat → Int32} {cw ce : Nat} {cf : Value} {cn : Int32} (n : Nat) (hn : n ≤ 65536) : CtI l y_C_plain prog_2_method_4_code 7 .boolean r3 D cB cI ad [.ref (g 4), .ref (g 2), .int (nI 0), .int (nI n)] (wX cB cI g T len I many K wd ft at_ sz 0 ce .null cn) (fun (r : Int32) (u : XS) => cpP ad n (plainC I n) (pN I (plast I n)) (pq I n + 1) (pW I n) (pZ I n) r u) (fun u => (wX cB cI g T len I many K wd ft u.1 u.2.1 u.2.2.1 u.2.2.2.1 u.2.2.2.2.1 u.2.2.2.2.2)) 0 0 := by
  refine CtI.mk (own := "RequestCutter$Cutter") (by decide) rfl (cat_of rfl) (Nat.le_of_ble_eq_true rfl) (fun E h hr => ?_)
  refine v_lv (lv' := [_, _, _, _, _, _, _]) rfl ?_
  have hq := pq_spec I n
  have K107 : pq I n < n → pq I n < 2048 → ∀ d i k, k ≤ plast I n → plast I n + 1 ≤ k + d → sk I (plast I n) k = pW I n i → (∀ j, j < i → ps I (plast I n) j < plast I n) → i ≤ 1024 → ∀ at_ sz : Nat → Int32, CK at_ sz (pW I n) (pZ I n) i → V E 0 0 (wX cB cI g T len I many K wd ft at_ sz i (pq I n + 1) .null cn) 107 [some (.ref (g 4)), some (.ref (g 2)), some (.int (nI 0)), some (.int (nI n)), some (.int (nI (pq I n))), some (.int (nI (plast I n))), some (.int (nI k))] [] := by
    intro hlt h20 d
    have hla := plast_le (f := I) (n := n)
    have hC : plainC I n = 0 := by rw [plainC, if_neg (by omega), if_neg (by omega)]
    induction d with
    | zero => intro i k h1 h2; omega
    | succ d ih =>
      intro i k h1 h2 hsk hps hi at_ sz hCK
      refine v_iload h d_C_plain_107 rfl ?_
      refine v_iload h d_C_plain_109 rfl ?_
      refine v_geN 196 h d_C_plain_111 (by decide) (fun q111 => ?_) (fun q111 => ?_)
      · rw [sk_end q111] at hsk
        have eN : pN I (plast I n) = i := fs_eq ⟨Nat.zero_le _, fun j _ g2 => hps j g2, fun z => by have : ps I (plast I n) i = k := hsk.symm; omega⟩
        refine v_iconst (v := nI 1) h d_C_plain_196 (by decide) ?_
        refine v_iret h hr (by decide) d_C_plain_197 (at_, sz, i, pq I n + 1, .null, cn) rfl (Or.inl ⟨hC, rfl, ?_⟩)
        rw [eN]
        refine ⟨rfl, rfl, by omega, hi, hCK, fun j hj => ?_⟩
        have y1 := ps_le I (plast I n) j
        have y2 := we_le (f := I) y1
        have y3 := (we_spec I (plast I n) (ps I (plast I n) j)).1
        show ps I (plast I n) j + (we I (plast I n) (ps I (plast I n) j) - ps I (plast I n) j) ≤ _
        omega
      · refine v_aload_n h d_C_plain_114 rfl ?_
        refine v_iload h d_C_plain_115 rfl ?_
        refine lX_input h d_C_plain_117 ?_
        refine v_bipush (v := nI 32) h d_C_plain_118 (by decide) ?_
        refine v_icmp_ne 129 h d_C_plain_120 (by decide) (fun q120 => ?_) (fun q120 => ?_)
        · have e3 : ps I (plast I n) i = k := by rw [show ps I (plast I n) i = pW I n i from rfl, ← hsk, sk_word q120]
          have e4 : pZ I n i = we I (plast I n) k - k := by show we I (plast I n) (ps I (plast I n) i) - ps I (plast I n) i = _; rw [e3]
          have h2i := ps_two (f := I) (last := plast I n) i (by omega) hps
          have K162 : V E 0 0 (wX cB cI g T len I many K wd ft (upd at_ i (nI k)) sz i (pq I n + 1) .null cn) 162 [some (.ref (g 4)), some (.ref (g 2)), some (.int (nI 0)), some (.int (nI n)), some (.int (nI (pq I n))), some (.int (nI (plast I n))), some (.int (nI (we I (plast I n) k)))] [] := by
            have hwl := we_le (f := I) (Nat.le_of_lt q111)
            have hw1 := (we_spec I (plast I n) k).1
            have hw2 := we_gt q111 q120
            refine v_aload_n h d_C_plain_162 rfl ?_
            refine gC_size h d_C_plain_163 ?_
            refine v_aload_n h d_C_plain_166 rfl ?_
            refine gC_words h d_C_plain_167 ?_
            refine v_iload h d_C_plain_170 rfl ?_
            refine v_aload_n h d_C_plain_172 rfl ?_
            refine gC_at h d_C_plain_173 ?_
            refine v_aload_n h d_C_plain_176 rfl ?_
            refine gC_words h d_C_plain_177 ?_
            refine lX_at h d_C_plain_180 ?_
            refine v_topi pk_us ?_
            refine v_isubN h d_C_plain_181 ?_
            refine sX_size h d_C_plain_182 rfl ?_
            have hCK2 := hCK.add
            rw [show pW I n i = k from e3, e4] at hCK2
            refine v_aload_n h d_C_plain_183 rfl ?_
            refine v_dup h d_C_plain_184 rfl ?_
            refine gC_words h d_C_plain_185 ?_
            refine v_iconst (v := nI 1) h d_C_plain_188 (by decide) ?_
            refine v_iaddN h d_C_plain_189 ?_
            refine pC_words h d_C_plain_190 ?_
            refine v_goto 107 h d_C_plain_193 (by decide) ?_
            refine ih (i + 1) (we I (plast I n) k) hwl (by omega) ?_ ?_ (by omega) _ _ hCK2
            · show _ = sk I (plast I n) (we I (plast I n) (ps I (plast I n) i))
              rw [e3]
            · intro j hj
              rcases Nat.eq_or_lt_of_le (Nat.le_of_lt_succ hj) with e | e
              · rw [e, e3]; exact q111
              · exact hps j e
          have inner : ∀ d2 x, k ≤ x → x ≤ plast I n → (∀ j, k ≤ j → j < x → j < plast I n ∧ ¬ I j = nI 32) → plast I n + 1 ≤ x + d2 → V E 0 0 (wX cB cI g T len I many K wd ft (upd at_ i (nI k)) sz i (pq I n + 1) .null cn) 140 [some (.ref (g 4)), some (.ref (g 2)), some (.int (nI 0)), some (.int (nI n)), some (.int (nI (pq I n))), some (.int (nI (plast I n))), some (.int (nI x))] [] := by
            intro d2
            induction d2 with
            | zero => intro x g1 g2 g3 g4; omega
            | succ d2 ih2 =>
              intro x g1 g2 g3 g4
              have out : ¬ (x < plast I n ∧ ¬ I x = nI 32) → V E 0 0 (wX cB cI g T len I many K wd ft (upd at_ i (nI k)) sz i (pq I n + 1) .null cn) 162 [some (.ref (g 4)), some (.ref (g 2)), some (.int (nI 0)), some (.int (nI n)), some (.int (nI (pq I n))), some (.int (nI (plast I n))), some (.int (nI x))] [] := by
                intro hne
                have e : we I (plast I n) k = x := fs_eq ⟨g1, g3, hne⟩
                rw [← e]
                exact K162
              refine v_iload h d_C_plain_140 rfl ?_
              refine v_iload h d_C_plain_142 rfl ?_
              refine v_geN 162 h d_C_plain_144 (by decide) (fun q144 => ?_) (fun q144 => ?_)
              · exact out (fun z => by have := z.1; omega)
              · refine v_aload_n h d_C_plain_147 rfl ?_
                refine v_iload h d_C_plain_148 rfl ?_
                refine lX_input h d_C_plain_150 ?_
                refine v_bipush (v := nI 32) h d_C_plain_151 (by decide) ?_
                refine v_icmp_eq 162 h d_C_plain_153 (by decide) (fun q153 => ?_) (fun q153 => ?_)
                · exact out (fun z => z.2 q153)
                · refine v_iinc1 (lv' := [_, _, _, _, _, _, _]) h d_C_plain_156 rfl rfl ?_
                  refine v_goto 140 h d_C_plain_159 (by decide) ?_
                  refine ih2 (x + 1) (by omega) (by omega) (fun j y1 y2 => ?_) (by omega)
                  rcases Nat.eq_or_lt_of_le (Nat.le_of_lt_succ y2) with e | e
                  · rw [e]; exact ⟨q144, q153⟩
                  · exact g3 j y1 e
          refine v_aload_n h d_C_plain_129 rfl ?_
          refine gC_at h d_C_plain_130 ?_
          refine v_aload_n h d_C_plain_133 rfl ?_
          refine gC_words h d_C_plain_134 ?_
          refine v_iload h d_C_plain_137 rfl ?_
          refine sX_at h d_C_plain_139 rfl ?_
          exact inner (plast I n + 1) k (Nat.le_refl _) (by omega) (fun j y1 y2 => by omega) (by omega)
        · refine v_iinc1 (lv' := [_, _, _, _, _, _, _]) h d_C_plain_123 rfl rfl ?_
          refine v_goto 107 h d_C_plain_126 (by decide) ?_
          refine ih i (k + 1) (by omega) (by omega) ?_ hps hi at_ sz hCK
          rw [← sk_blank q111 q120]
          exact hsk
  have K102 : pq I n < n → pq I n < 2048 → V E 0 0 (wX cB cI g T len I many K wd ft at_ sz 0 (pq I n + 1) .null cn) 102 [some (.ref (g 4)), some (.ref (g 2)), some (.int (nI 0)), some (.int (nI n)), some (.int (nI (pq I n))), none, none] [.int (nI (plast I n))] := by
    intro hlt h20
    refine v_istore (lv' := [_, _, _, _, _, _, _]) h d_C_plain_102 (Nat.le_of_ble_eq_true rfl) rfl ?_
    refine v_iload_n h d_C_plain_104 rfl ?_
    refine v_istore (lv' := [_, _, _, _, _, _, _]) h d_C_plain_105 (Nat.le_of_ble_eq_true rfl) rfl ?_
    exact K107 hlt h20 (plast I n + 1) 0 0 (by omega) (by omega) rfl (fun j g => absurd g (Nat.not_lt_zero j)) (by decide) at_ sz CK.zero
  have K34 : pq I n ≤ n → pq I n ≤ 2048 → V E 0 0 (wX cB cI g T len I many K wd ft at_ sz 0 ce .null cn) 34 [some (.ref (g 4)), some (.ref (g 2)), some (.int (nI 0)), some (.int (nI n)), some (.int (nI (pq I n))), none, none] [] := by
    intro hle hle2
    refine v_iload h d_C_plain_34 rfl ?_
    refine v_iload_n h d_C_plain_36 rfl ?_
    refine v_sipush (v := nI 2048) h d_C_plain_37 (by decide) ?_
    refine v_iaddN h d_C_plain_40 ?_
    refine v_neN 50 h d_C_plain_41 (by decide) (fun q41 => ?_) (fun q41 => ?_)
    · refine v_iload h d_C_plain_50 rfl ?_
      refine v_iload_n h d_C_plain_52 rfl ?_
      refine v_eqN 66 h d_C_plain_53 (by decide) (fun q53 => ?_) (fun q53 => ?_)
      · have hC : plainC I n = 6 := by rw [plainC, if_neg (by omega), if_pos q53]
        refine v_iconst (v := nI 0) h d_C_plain_66 (by decide) ?_
        exact v_iret h hr (by decide) d_C_plain_67 (at_, sz, 0, ce, .null, cn) rfl (Or.inr ⟨by rw [hC]; decide, rfl, by rw [hC]; rfl⟩)
      · refine v_iload h d_C_plain_56 rfl ?_
        refine v_iload_n h d_C_plain_58 rfl ?_
        refine v_sipush (v := nI 2048) h d_C_plain_59 (by decide) ?_
        refine v_iaddN h d_C_plain_62 ?_
        refine v_neN 68 h d_C_plain_63 (by decide) (fun q63 => ?_) (fun q63 => ?_)
        · have hlt : pq I n < n := by omega
          have h20 : pq I n < 2048 := by omega
          refine v_aload_n h d_C_plain_68 rfl ?_
          refine v_iload h d_C_plain_69 rfl ?_
          refine v_iconst (v := nI 1) h d_C_plain_71 (by decide) ?_
          refine v_iaddN h d_C_plain_72 ?_
          refine pC_end h d_C_plain_73 ?_
          refine v_iload h d_C_plain_76 rfl ?_
          refine v_iload_n h d_C_plain_78 rfl ?_
          refine v_leN 100 h d_C_plain_79 (by decide) (fun q79 => ?_) (fun q79 => ?_)
          · refine v_iload h d_C_plain_100 rfl ?_
            have e : plast I n = pq I n := by rw [plast, if_neg (fun z => by have := z.1; omega)]
            have := K102 hlt h20
            rw [e] at this
            exact this
          · refine v_aload_n h d_C_plain_82 rfl ?_
            refine v_iload h d_C_plain_83 rfl ?_
            refine v_iconst (v := nI 1) h d_C_plain_85 (by decide) ?_
            refine v_isubN h d_C_plain_86 ?_
            refine lX_input h d_C_plain_87 ?_
            refine v_bipush (v := nI 13) h d_C_plain_88 (by decide) ?_
            refine v_icmp_ne 100 h d_C_plain_90 (by decide) (fun q90 => ?_) (fun q90 => ?_)
            · refine v_iload h d_C_plain_100 rfl ?_
              have e : plast I n = pq I n := by rw [plast, if_neg (fun z => q90 z.2)]
              have := K102 hlt h20
              rw [e] at this
              exact this
            · refine v_iload h d_C_plain_93 rfl ?_
              refine v_iconst (v := nI 1) h d_C_plain_95 (by decide) ?_
              refine v_isubN h d_C_plain_96 ?_
              refine v_goto 102 h d_C_plain_97 (by decide) ?_
              have e : plast I n = pq I n - 1 := by rw [plast, if_pos ⟨q79, q90⟩]
              have := K102 hlt h20
              rw [e] at this
              exact this
        · omega
    · have hC : plainC I n = 5 := by rw [plainC, if_pos (by omega)]
      refine v_aload_n h d_C_plain_44 rfl ?_
      refine v_ldcS h (fun _ _ x => x.1.2.2.2.2) d_C_plain_45 ?_
      refine pC_fault h d_C_plain_47 ?_
      refine v_iload h d_C_plain_50 rfl ?_
      refine v_iload_n h d_C_plain_52 rfl ?_
      refine v_eqN 66 h d_C_plain_53 (by decide) (fun q53 => ?_) (fun q53 => ?_)
      · refine v_iconst (v := nI 0) h d_C_plain_66 (by decide) ?_
        exact v_iret h hr (by decide) d_C_plain_67 (at_, sz, 0, ce, .ref (ad 4), cn) rfl (Or.inr ⟨by rw [hC]; decide, rfl, by rw [hC]; rfl⟩)
      · refine v_iload h d_C_plain_56 rfl ?_
        refine v_iload_n h d_C_plain_58 rfl ?_
        refine v_sipush (v := nI 2048) h d_C_plain_59 (by decide) ?_
        refine v_iaddN h d_C_plain_62 ?_
        refine v_neN 68 h d_C_plain_63 (by decide) (fun q63 => ?_) (fun q63 => ?_)
        · omega
        · refine v_iconst (v := nI 0) h d_C_plain_66 (by decide) ?_
          exact v_iret h hr (by decide) d_C_plain_67 (at_, sz, 0, ce, .ref (ad 4), cn) rfl (Or.inr ⟨by rw [hC]; decide, rfl, by rw [hC]; rfl⟩)
  have loop : ∀ d q, q ≤ n → q ≤ 2048 → (∀ j, 0 ≤ j → j < q → j < n ∧ j < 2048 ∧ ¬ I j = nI 10) → n + 1 ≤ q + d → V E 0 0 (wX cB cI g T len I many K wd ft at_ sz 0 ce .null cn) 3 [some (.ref (g 4)), some (.ref (g 2)), some (.int (nI 0)), some (.int (nI n)), some (.int (nI q)), none, none] [] := by
    intro d
    induction d with
    | zero => intro q g1 g2 g3 g4; omega
    | succ d ih =>
      intro q g1 g2 g3 g4
      have out : ¬ (q < n ∧ q < 2048 ∧ ¬ I q = nI 10) → V E 0 0 (wX cB cI g T len I many K wd ft at_ sz 0 ce .null cn) 34 [some (.ref (g 4)), some (.ref (g 2)), some (.int (nI 0)), some (.int (nI n)), some (.int (nI q)), none, none] [] := by
        intro hne
        have e : pq I n = q := fs_eq ⟨Nat.zero_le _, g3, hne⟩
        rw [← e]
        exact K34 (by omega) (by omega)
      refine v_iload h d_C_plain_3 rfl ?_
      refine v_iload_n h d_C_plain_5 rfl ?_
      refine v_geN 34 h d_C_plain_6 (by decide) (fun q6 => ?_) (fun q6 => ?_)
      · exact out (fun z => by have := z.1; omega)
      · refine v_iload h d_C_plain_9 rfl ?_
        refine v_iload_n h d_C_plain_11 rfl ?_
        refine v_sipush (v := nI 2048) h d_C_plain_12 (by decide) ?_
        refine v_iaddN h d_C_plain_15 ?_
        refine v_geN 34 h d_C_plain_16 (by decide) (fun q16 => ?_) (fun q16 => ?_)
        · exact out (fun z => by have := z.2.1; omega)
        · refine v_aload_n h d_C_plain_19 rfl ?_
          refine v_iload h d_C_plain_20 rfl ?_
          refine lX_input h d_C_plain_22 ?_
          refine v_bipush (v := nI 10) h d_C_plain_23 (by decide) ?_
          refine v_icmp_eq 34 h d_C_plain_25 (by decide) (fun q25 => ?_) (fun q25 => ?_)
          · exact out (fun z => z.2.2 q25)
          · refine v_iinc1 (lv' := [_, _, _, _, _, _, _]) h d_C_plain_28 rfl rfl ?_
            refine v_goto 3 h d_C_plain_31 (by decide) ?_
            refine ih (q + 1) (by omega) (by omega) (fun j y1 y2 => ?_) (by omega)
            rcases Nat.eq_or_lt_of_le (Nat.le_of_lt_succ y2) with e | e
            · rw [e]; exact ⟨q6, by omega, q25⟩
            · exact g3 j y1 e
  refine v_iload_n h d_C_plain_0 rfl ?_
  refine v_istore (lv' := [_, _, _, _, _, _, _]) h d_C_plain_1 (Nat.le_of_ble_eq_true rfl) rfl ?_
  exact loop (n + 1) 0 (by omega) (by omega) (fun j y1 y2 => by omega) (by omega)
end
section
theorem cpP_no {ad : Nat → Nat} {n c c2 N en : Nat} {wh z : Nat → Nat} {u : XS} (e : c = c2) (hc : ¬ c2 = 0) (hu : u.2.2.2.2.1 = fvC ad c2) : cpP ad n c N en wh z (nI 0) u := Or.inr ⟨by rw [e]; exact hc, rfl, by rw [e]; exact hu⟩
set_option maxHeartbeats 4000000 in
theorem c_C_cuts (l : Launch) (D : va_G) {cB cI : ClassId} {ad g : Nat → Nat} {T : Nat → Int32} {len : Nat} {I : Nat → Int32} {many : Nat} {K : Nat → Int32} {wd ft : Nat} {at_ sz : Nat → Int32} {cw ce : Nat} {cf : Value} {cn : Int32} (n : Nat) (hn : n ≤ 65536) : CtI l y_C_cuts prog_2_method_3_code 8 .boolean r2 D cB cI ad [.ref (g 4), .ref (g 2), .int (nI 0), .int (nI n)] (wX cB cI g T len I many K wd ft at_ sz cw ce cf cn) (fun (r : Int32) (u : XS) => cpP ad n (cutC I n) (cutN I n) (cutE I n) (cutW I n) (cutZ I n) r u) (fun u => (wX cB cI g T len I many K wd ft u.1 u.2.1 u.2.2.1 u.2.2.2.1 u.2.2.2.2.1 u.2.2.2.2.2)) 0 0 := by
  refine CtI.mk (own := "RequestCutter$Cutter") (by decide) rfl (cat_of rfl) (Nat.le_of_ble_eq_true rfl) (fun E h hr => ?_)
  refine v_lv (lv' := [_, _, _, _, _, _, _, _]) rfl ?_
  refine v_aload_n h d_C_cuts_0 rfl ?_
  refine v_null h d_C_cuts_1 ?_
  refine pC_faultN h d_C_cuts_2 ?_
  refine v_aload_n h d_C_cuts_5 rfl ?_
  refine v_iconst (v := nI 0) h d_C_cuts_6 (by decide) ?_
  refine pC_words h d_C_cuts_7 ?_
  refine v_iload_n h d_C_cuts_10 rfl ?_
  refine v_iload_n h d_C_cuts_11 rfl ?_
  refine v_ltN 17 h d_C_cuts_12 (by decide) (fun q12 => ?_) (fun q12 => ?_)
  · refine v_aload_n h d_C_cuts_17 rfl ?_
    refine v_iload_n h d_C_cuts_18 rfl ?_
    refine lX_input h d_C_cuts_19 ?_
    refine v_bipush (v := nI 42) h d_C_cuts_20 (by decide) ?_
    refine v_icmp_eq 33 h d_C_cuts_22 (by decide) (fun q22 => ?_) (fun q22 => ?_)
    · have eC : cutC I n = toldC I n := by rw [cutC, if_neg (by omega), if_pos q22]
      have eN : cutN I n = toldN I n := by rw [cutN, if_pos q22]
      have eE : cutE I n = toldP I n (toldN I n) := by rw [cutE, if_pos q22]
      have eW : cutW I n = (fun i => twh I n (toldP I n i)) := by funext i; rw [cutW, if_pos q22]
      have eZ : cutZ I n = (fun i => tsz I n (toldP I n i)) := by funext i; rw [cutZ, if_pos q22]
      rw [eC, eN, eE, eW, eZ] at hr
      refine v_aload_n h d_C_cuts_33 rfl ?_
      refine v_aload_n h d_C_cuts_34 rfl ?_
      refine v_iload_n h d_C_cuts_35 rfl ?_
      refine v_iload_n h d_C_cuts_36 rfl ?_
      refine v_ldcS h (fun _ _ x => x.1.1) d_C_cuts_37 ?_
      refine v_callI4 (wc := (wX cB cI g T len I many K wd ft at_ sz 0 ce .null cn)) (wr := []) (As := [.ref (g 2), .int (nI 0), .int (nI n), .ref (ad 0)]) (st := []) h (show LkV "RequestCutter$Cutter" 36 "RequestCutter$Cutter" ⟨"RequestCutter$Cutter", "isLine", "([BIILjava/lang/String;)Z"⟩ prog_2_method_2_code 9 (some .boolean) 4 from ⟨k_105, k_107, k_s1, k_2, k_108, by decide +kernel⟩) (fun l D => c_C_isLine l D 0 n (ad 0) hn q12 (by rw [q22]; decide)) [0, 1, 2, 3, 4, 5, 6] [] rfl rfl (by decide) (by decide) (by decide) (ci := 1) rfl rfl rfl rfl rfl (by decide) rfl (Nat.le_of_ble_eq_true rfl) (by decide) (by decide) d_C_cuts_39 rfl (fun r1_ u1 hp1 => ?_)
      obtain ⟨ce1, cf1, cn1⟩ := u1
      refine v_ws (ws' := (wX cB cI g T len I many K wd ft at_ sz 0 ce1 cf1 cn1)) rfl ?_
      rcases hp1 with ⟨hl, rfl, e1⟩ | ⟨hl, rfl, e1⟩ | ⟨hl, rfl, e1⟩
      · cases e1
        have hw1 := (lc_0 hl).1.1
        refine v_neB 47 h d_C_cuts_42 (by decide) (fun q42 => ?_) (fun q42 => ?_)
        · refine v_aload_n h d_C_cuts_47 rfl ?_
          refine gC_number h d_C_cuts_48 ?_
          refine v_istore (lv' := [_, _, _, _, _, _, _, _]) h d_C_cuts_51 (Nat.le_of_ble_eq_true rfl) rfl ?_
          refine v_iload h d_C_cuts_53 rfl ?_
          refine v_sipush (v := nI 1024) h d_C_cuts_55 (by decide) ?_
          refine v_icmp_le 67 h d_C_cuts_58 (by decide) (fun q58 => ?_) (fun q58 => ?_)
          · have hC : toldC I n = tres I n (toldN I n) (lq I n 0 + 2) := by rw [toldC, if_neg (by omega), if_neg (by omega), if_neg (Int32.not_lt.mpr q58)]; rfl
            refine v_iconst (v := nI 0) h d_C_cuts_67 (by decide) ?_
            refine v_istore (lv' := [_, _, _, _, _, _, _, _]) h d_C_cuts_68 (Nat.le_of_ble_eq_true rfl) rfl ?_
            by_cases hneg : lval I n 0 < 0
            · have hN0 : toldN I n = 0 := neg_clamp hneg
              refine v_iload h d_C_cuts_70 rfl ?_
              refine v_iload h d_C_cuts_72 rfl ?_
              refine v_icmp_ge 264 h d_C_cuts_74 (by decide) (fun q74 => ?_) (fun q74 => ?_)
              · refine v_aload_n h d_C_cuts_264 rfl ?_
                refine v_iload h d_C_cuts_265 rfl ?_
                refine v_iconst (v := nI 0) h d_C_cuts_267 (by decide) ?_
                refine v_max (v := nI 0) h rfl (by decide) (Nat.le_of_ble_eq_true rfl) (by decide) (by decide) (if_pos hneg) d_C_cuts_268 ?_
                refine pC_words h d_C_cuts_271 ?_
                refine v_aload_n h d_C_cuts_274 rfl ?_
                refine gC_fault h d_C_cuts_275 ?_
                refine v_nonnullN h d_C_cuts_278 ?_
                refine v_iconst (v := nI 1) h d_C_cuts_281 (by decide) ?_
                refine v_goto 286 h d_C_cuts_282 (by decide) ?_
                refine v_iret h hr (by decide) d_C_cuts_286 (at_, sz, 0, lq I n 0 + 2, .null, lval I n 0) rfl (Or.inl ⟨by rw [hC, hN0]; rfl, rfl, ?_⟩)
                rw [hN0]
                exact ⟨rfl, rfl, by show lq I n 0 + 2 ≤ n; omega, by decide, CK.zero, fun j hj => absurd hj (Nat.not_lt_zero j)⟩
              · exact absurd (Int32.le_of_lt hneg) q74
            · obtain ⟨N, hN, eNv⟩ := nI_of hneg
              have eN2 : toldN I n = N := by rw [toldN, eNv, nI_clamp hN]
              have hN3 : N ≤ 1024 := by rw [eNv] at q58; exact (nI_leI hN (by decide)).mp q58
              have loop : ∀ d i, i + d = N → ∀ (at_ sz : Nat → Int32) (cn : Int32) (x6 x7 : Option Value), CK at_ sz (fun i => twh I n (toldP I n i)) (fun i => tsz I n (toldP I n i)) i → toldP I n i ≤ n → (∀ j, j < i → twh I n (toldP I n j) + tsz I n (toldP I n j) ≤ toldP I n i) → tres I n d (toldP I n i) = toldC I n → V E 0 0 (wX cB cI g T len I many K wd ft at_ sz 0 (toldP I n i) .null cn) 70 [some (.ref (g 4)), some (.ref (g 2)), some (.int (nI 0)), some (.int (nI n)), some (.int (nI N)), some (.int (nI i)), x6, x7] [] := by
                intro d
                induction d with
                | zero =>
                  intro i hd at_ sz cn x6 x7 hCK hle hin hres
                  have ei : i = N := by omega
                  refine v_iload h d_C_cuts_70 rfl ?_
                  refine v_iload h d_C_cuts_72 rfl ?_
                  refine v_geN 264 h d_C_cuts_74 (by decide) (fun q74 => ?_) (fun q74 => ?_)
                  · refine v_aload_n h d_C_cuts_264 rfl ?_
                    refine v_iload h d_C_cuts_265 rfl ?_
                    refine v_iconst (v := nI 0) h d_C_cuts_267 (by decide) ?_
                    refine v_max (v := nI N) h rfl (by decide) (Nat.le_of_ble_eq_true rfl) (by decide) (by decide) (if_neg (nI_nlt (Nat.zero_le _) hN)) d_C_cuts_268 ?_
                    refine pC_words h d_C_cuts_271 ?_
                    refine v_aload_n h d_C_cuts_274 rfl ?_
                    refine gC_fault h d_C_cuts_275 ?_
                    refine v_nonnullN h d_C_cuts_278 ?_
                    refine v_iconst (v := nI 1) h d_C_cuts_281 (by decide) ?_
                    refine v_goto 286 h d_C_cuts_282 (by decide) ?_
                    refine v_iret h hr (by decide) d_C_cuts_286 (at_, sz, N, toldP I n i, .null, cn) rfl (Or.inl ⟨hres.symm, rfl, ?_⟩)
                    rw [eN2, ← ei]
                    exact ⟨rfl, rfl, hle, by omega, hCK, hin⟩
                  · omega
                | succ d ih =>
                  intro i hd at_ sz cn x6 x7 hCK hle hin hres
                  have hres2 : (if tcode I n (toldP I n i) = 0 then tres I n d (tnx I n (toldP I n i)) else tcode I n (toldP I n i)) = toldC I n := hres
                  have hbad : ¬ tcode I n (toldP I n i) = 0 → toldC I n = tcode I n (toldP I n i) := fun z => by rw [← hres2, if_neg z]
                  refine v_iload h d_C_cuts_70 rfl ?_
                  refine v_iload h d_C_cuts_72 rfl ?_
                  refine v_geN 264 h d_C_cuts_74 (by decide) (fun q74 => ?_) (fun q74 => ?_)
                  · omega
                  · refine v_aload_n h d_C_cuts_77 rfl ?_
                    refine gC_fault h d_C_cuts_78 ?_
                    refine v_nonnullN h d_C_cuts_81 ?_
                    refine v_aload_n h d_C_cuts_84 rfl ?_
                    refine gC_end h d_C_cuts_85 ?_
                    refine v_istore (lv' := [_, _, _, _, _, _, _, _]) h d_C_cuts_88 (Nat.le_of_ble_eq_true rfl) rfl ?_
                    refine v_iload h d_C_cuts_90 rfl ?_
                    refine v_iload_n h d_C_cuts_92 rfl ?_
                    refine v_ltN 98 h d_C_cuts_93 (by decide) (fun q93 => ?_) (fun q93 => ?_)
                    · refine v_aload_n h d_C_cuts_98 rfl ?_
                      refine v_iload h d_C_cuts_99 rfl ?_
                      refine lX_input h d_C_cuts_101 ?_
                      refine v_bipush (v := nI 36) h d_C_cuts_102 (by decide) ?_
                      refine v_icmp_eq 113 h d_C_cuts_104 (by decide) (fun q104 => ?_) (fun q104 => ?_)
                      · refine v_aload_n h d_C_cuts_113 rfl ?_
                        refine gC_fault h d_C_cuts_114 ?_
                        refine v_nonnullN h d_C_cuts_117 ?_
                        refine v_aload_n h d_C_cuts_120 rfl ?_
                        refine v_aload_n h d_C_cuts_121 rfl ?_
                        refine v_iload h d_C_cuts_122 rfl ?_
                        refine v_iload_n h d_C_cuts_124 rfl ?_
                        refine v_ldcS h (fun _ _ x => x.1.2.2.1) d_C_cuts_125 ?_
                        refine v_callI4 (wc := (wX cB cI g T len I many K wd ft at_ sz 0 (toldP I n i) .null cn)) (wr := []) (As := [.ref (g 2), .int (nI (toldP I n i)), .int (nI n), .ref (ad 2)]) (st := []) h (show LkV "RequestCutter$Cutter" 36 "RequestCutter$Cutter" ⟨"RequestCutter$Cutter", "isLine", "([BIILjava/lang/String;)Z"⟩ prog_2_method_2_code 9 (some .boolean) 4 from ⟨k_105, k_107, k_s1, k_2, k_108, by decide +kernel⟩) (fun l D => c_C_isLine l D (toldP I n i) n (ad 2) hn q93 (by rw [q104]; decide)) [0, 1, 2, 3, 4, 5, 6] [] rfl rfl (by decide) (by decide) (by decide) (ci := 1) rfl rfl rfl rfl rfl (by decide) rfl (Nat.le_of_ble_eq_true rfl) (by decide) (by decide) d_C_cuts_127 rfl (fun r2_ u2 hp2 => ?_)
                        obtain ⟨ce2, cf2, cn2⟩ := u2
                        refine v_ws (ws' := (wX cB cI g T len I many K wd ft at_ sz 0 ce2 cf2 cn2)) rfl ?_
                        rcases hp2 with ⟨hl2, rfl, e2⟩ | ⟨hl2, rfl, e2⟩ | ⟨hl2, rfl, e2⟩
                        · cases e2
                          have hw2 := (lc_0 hl2).1.1
                          refine v_neB 135 h d_C_cuts_130 (by decide) (fun q130 => ?_) (fun q130 => ?_)
                          · have K152 : (lval I n (toldP I n i) < 0 ∨ nI 16384 < lval I n (toldP I n i)) → V E 0 0 (wX cB cI g T len I many K wd ft at_ sz 0 (lq I n (toldP I n i) + 2) .null (lval I n (toldP I n i))) 152 [some (.ref (g 4)), some (.ref (g 2)), some (.int (nI 0)), some (.int (nI n)), some (.int (nI N)), some (.int (nI i)), some (.int (nI (toldP I n i))), x7] [] := by
                              intro hb2
                              have ht : tcode I n (toldP I n i) = 3 := by rw [tcode, if_neg (by omega), if_neg (not_not_intro q104), if_neg (by omega), if_neg (by omega), if_pos hb2]
                              refine v_aload_n h d_C_cuts_152 rfl ?_
                              refine v_ldcS h (fun _ _ x => x.1.2.2.1) d_C_cuts_153 ?_
                              refine pC_fault h d_C_cuts_155 ?_
                              refine v_iconst (v := nI 0) h d_C_cuts_158 (by decide) ?_
                              exact v_iret h hr (by decide) d_C_cuts_159 (at_, sz, 0, lq I n (toldP I n i) + 2, .ref (ad 2), lval I n (toldP I n i)) rfl (cpP_no ((hbad (by rw [ht]; decide)).trans ht) (by decide) rfl)
                            refine v_aload_n h d_C_cuts_135 rfl ?_
                            refine gC_number h d_C_cuts_136 ?_
                            refine v_if_lt 152 h d_C_cuts_139 (by decide) (fun q139 => ?_) (fun q139 => ?_)
                            · exact K152 (Or.inl q139)
                            · refine v_aload_n h d_C_cuts_142 rfl ?_
                              refine gC_number h d_C_cuts_143 ?_
                              refine v_sipush (v := nI 16384) h d_C_cuts_146 (by decide) ?_
                              refine v_icmp_le 160 h d_C_cuts_149 (by decide) (fun q149 => ?_) (fun q149 => ?_)
                              · have hok : ¬ (lval I n (toldP I n i) < 0 ∨ nI 16384 < lval I n (toldP I n i)) := fun z => by rcases z with z | z; exact q139 z; exact absurd q149 (Int32.not_le.mpr z)
                                obtain ⟨hv, hz⟩ := tsz_ok (lc_0 hl2).2 hok
                                have t7 : twh I n (toldP I n i) = lq I n (toldP I n i) + 2 := rfl
                                have t8 : toldP I n (i + 1) = twh I n (toldP I n i) + tsz I n (toldP I n i) + 2 := rfl
                                have t9 := (lq_spec I n (toldP I n i)).1
                                rw [hv]
                                have K205 : tcode I n (toldP I n i) = 4 → V E 0 0 (wX cB cI g T len I many K wd ft at_ sz 0 (lq I n (toldP I n i) + 2) .null (nI (tsz I n (toldP I n i)))) 205 [some (.ref (g 4)), some (.ref (g 2)), some (.int (nI 0)), some (.int (nI n)), some (.int (nI N)), some (.int (nI i)), some (.int (nI (toldP I n i))), some (.int (nI (lq I n (toldP I n i) + 2 + tsz I n (toldP I n i))))] [] := by
                                  intro ht
                                  refine v_aload_n h d_C_cuts_205 rfl ?_
                                  refine v_ldcS h (fun _ _ x => x.1.2.2.2.1) d_C_cuts_206 ?_
                                  refine pC_fault h d_C_cuts_208 ?_
                                  refine v_aload_n h d_C_cuts_211 rfl ?_
                                  refine gC_fault h d_C_cuts_212 ?_
                                  refine v_nonnull 226 h d_C_cuts_215 (by decide) ?_
                                  refine v_iconst (v := nI 0) h d_C_cuts_226 (by decide) ?_
                                  exact v_iret h hr (by decide) d_C_cuts_227 (at_, sz, 0, lq I n (toldP I n i) + 2, .ref (ad 3), nI (tsz I n (toldP I n i))) rfl (cpP_no ((hbad (by rw [ht]; decide)).trans ht) (by decide) rfl)
                                have K211 : (lq I n (toldP I n i) + 2 + tsz I n (toldP I n i) < n → I (lq I n (toldP I n i) + 2 + tsz I n (toldP I n i)) = nI 13) → (lq I n (toldP I n i) + 2 + tsz I n (toldP I n i) + 1 < n → I (lq I n (toldP I n i) + 2 + tsz I n (toldP I n i) + 1) = nI 10) → V E 0 0 (wX cB cI g T len I many K wd ft at_ sz 0 (lq I n (toldP I n i) + 2) .null (nI (tsz I n (toldP I n i)))) 211 [some (.ref (g 4)), some (.ref (g 2)), some (.int (nI 0)), some (.int (nI n)), some (.int (nI N)), some (.int (nI i)), some (.int (nI (toldP I n i))), some (.int (nI (lq I n (toldP I n i) + 2 + tsz I n (toldP I n i))))] [] := by
                                  intro y1 y2
                                  refine v_aload_n h d_C_cuts_211 rfl ?_
                                  refine gC_fault h d_C_cuts_212 ?_
                                  refine v_nonnullN h d_C_cuts_215 ?_
                                  refine v_iload h d_C_cuts_218 rfl ?_
                                  refine v_iconst (v := nI 2) h d_C_cuts_220 (by decide) ?_
                                  refine v_iaddN h d_C_cuts_221 ?_
                                  refine v_iload_n h d_C_cuts_222 rfl ?_
                                  refine v_leN 228 h d_C_cuts_223 (by decide) (fun q223 => ?_) (fun q223 => ?_)
                                  · have ht : tcode I n (toldP I n i) = 0 := by rw [tcode, t7, if_neg (by omega), if_neg (not_not_intro q104), if_neg (by omega), if_neg (by omega), if_neg hok, if_neg (by omega), if_neg (not_not_intro (y1 (by omega))), if_neg (by omega), if_neg (not_not_intro (y2 (by omega)))]
                                    refine v_aload_n h d_C_cuts_228 rfl ?_
                                    refine gC_at h d_C_cuts_229 ?_
                                    refine v_iload h d_C_cuts_232 rfl ?_
                                    refine v_aload_n h d_C_cuts_234 rfl ?_
                                    refine gC_end h d_C_cuts_235 ?_
                                    refine sX_at h d_C_cuts_238 rfl ?_
                                    refine v_aload_n h d_C_cuts_239 rfl ?_
                                    refine gC_size h d_C_cuts_240 ?_
                                    refine v_iload h d_C_cuts_243 rfl ?_
                                    refine v_aload_n h d_C_cuts_245 rfl ?_
                                    refine gC_number h d_C_cuts_246 ?_
                                    refine sX_size h d_C_cuts_249 rfl ?_
                                    refine v_aload_n h d_C_cuts_250 rfl ?_
                                    refine v_iload h d_C_cuts_251 rfl ?_
                                    refine v_iconst (v := nI 2) h d_C_cuts_253 (by decide) ?_
                                    refine v_iaddN h d_C_cuts_254 ?_
                                    refine pC_end h d_C_cuts_255 ?_
                                    refine v_iinc1 (lv' := [_, _, _, _, _, _, _, _]) h d_C_cuts_258 rfl rfl ?_
                                    refine v_goto 70 h d_C_cuts_261 (by decide) ?_
                                    refine ih (i + 1) (by omega) _ _ _ _ _ hCK.add (by omega) (fun j hj => ?_) ?_
                                    · rcases Nat.eq_or_lt_of_le (Nat.le_of_lt_succ hj) with e | e
                                      · rw [e]; omega
                                      · have := hin j e; omega
                                    · rw [← hres2, if_pos ht]; rfl
                                  · have ht : tcode I n (toldP I n i) = 6 := by
                                      rcases Nat.lt_or_ge (lq I n (toldP I n i) + 2 + tsz I n (toldP I n i)) n with z | z
                                      · rw [tcode, t7, if_neg (by omega), if_neg (not_not_intro q104), if_neg (by omega), if_neg (by omega), if_neg hok, if_neg (by omega), if_neg (not_not_intro (y1 z)), if_pos (by omega)]
                                      · rw [tcode, t7, if_neg (by omega), if_neg (not_not_intro q104), if_neg (by omega), if_neg (by omega), if_neg hok, if_pos (by omega)]
                                    refine v_iconst (v := nI 0) h d_C_cuts_226 (by decide) ?_
                                    exact v_iret h hr (by decide) d_C_cuts_227 (at_, sz, 0, lq I n (toldP I n i) + 2, .null, nI (tsz I n (toldP I n i))) rfl (cpP_no ((hbad (by rw [ht]; decide)).trans ht) (by decide) rfl)
                                have K186 : (lq I n (toldP I n i) + 2 + tsz I n (toldP I n i) < n → I (lq I n (toldP I n i) + 2 + tsz I n (toldP I n i)) = nI 13) → V E 0 0 (wX cB cI g T len I many K wd ft at_ sz 0 (lq I n (toldP I n i) + 2) .null (nI (tsz I n (toldP I n i)))) 186 [some (.ref (g 4)), some (.ref (g 2)), some (.int (nI 0)), some (.int (nI n)), some (.int (nI N)), some (.int (nI i)), some (.int (nI (toldP I n i))), some (.int (nI (lq I n (toldP I n i) + 2 + tsz I n (toldP I n i))))] [] := by
                                  intro y1
                                  refine v_iload h d_C_cuts_186 rfl ?_
                                  refine v_iconst (v := nI 1) h d_C_cuts_188 (by decide) ?_
                                  refine v_iaddN h d_C_cuts_189 ?_
                                  refine v_iload_n h d_C_cuts_190 rfl ?_
                                  refine v_geN 211 h d_C_cuts_191 (by decide) (fun q191 => ?_) (fun q191 => ?_)
                                  · exact K211 y1 (fun z => by omega)
                                  · refine v_aload_n h d_C_cuts_194 rfl ?_
                                    refine v_iload h d_C_cuts_195 rfl ?_
                                    refine v_iconst (v := nI 1) h d_C_cuts_197 (by decide) ?_
                                    refine v_iaddN h d_C_cuts_198 ?_
                                    refine lX_input h d_C_cuts_199 ?_
                                    refine v_bipush (v := nI 10) h d_C_cuts_200 (by decide) ?_
                                    refine v_icmp_eq 211 h d_C_cuts_202 (by decide) (fun q202 => ?_) (fun q202 => ?_)
                                    · exact K211 y1 (fun _ => q202)
                                    · refine K205 ?_
                                      rw [tcode, t7, if_neg (by omega), if_neg (not_not_intro q104), if_neg (by omega), if_neg (by omega), if_neg hok, if_neg (by omega), if_neg (not_not_intro (y1 (by omega))), if_neg (by omega), if_pos q202]
                                refine v_aload_n h d_C_cuts_160 rfl ?_
                                refine gC_end h d_C_cuts_161 ?_
                                refine v_aload_n h d_C_cuts_164 rfl ?_
                                refine gC_number h d_C_cuts_165 ?_
                                refine v_iaddN h d_C_cuts_168 ?_
                                refine v_istore (lv' := [_, _, _, _, _, _, _, _]) h d_C_cuts_169 (Nat.le_of_ble_eq_true rfl) rfl ?_
                                refine v_iload h d_C_cuts_171 rfl ?_
                                refine v_iload_n h d_C_cuts_173 rfl ?_
                                refine v_geN 186 h d_C_cuts_174 (by decide) (fun q174 => ?_) (fun q174 => ?_)
                                · exact K186 (fun z => by omega)
                                · refine v_aload_n h d_C_cuts_177 rfl ?_
                                  refine v_iload h d_C_cuts_178 rfl ?_
                                  refine lX_input h d_C_cuts_180 ?_
                                  refine v_bipush (v := nI 13) h d_C_cuts_181 (by decide) ?_
                                  refine v_icmp_ne 205 h d_C_cuts_183 (by decide) (fun q183 => ?_) (fun q183 => ?_)
                                  · refine K205 ?_
                                    rw [tcode, t7, if_neg (by omega), if_neg (not_not_intro q104), if_neg (by omega), if_neg (by omega), if_neg hok, if_neg (by omega), if_pos q183]
                                  · exact K186 (fun _ => q183)
                              · exact K152 (Or.inr (Int32.not_le.mp q149))
                          · cases q130
                        · have e2 : cf2 = .null := e2
                          subst e2
                          have ht : tcode I n (toldP I n i) = 6 := by rw [tcode, if_neg (by omega), if_neg (not_not_intro q104), if_pos hl2]
                          refine v_neB 135 h d_C_cuts_130 (by decide) (fun q130 => ?_) (fun q130 => ?_)
                          · cases q130
                          · refine v_iconst (v := nI 0) h d_C_cuts_133 (by decide) ?_
                            exact v_iret h hr (by decide) d_C_cuts_134 (at_, sz, 0, ce2, .null, cn2) rfl (cpP_no ((hbad (by rw [ht]; decide)).trans ht) (by decide) rfl)
                        · have e2 : cf2 = .ref (ad 2) := e2
                          subst e2
                          have ht : tcode I n (toldP I n i) = 3 := by rw [tcode, if_neg (by omega), if_neg (not_not_intro q104), if_neg (by omega), if_pos hl2]
                          refine v_neB 135 h d_C_cuts_130 (by decide) (fun q130 => ?_) (fun q130 => ?_)
                          · cases q130
                          · refine v_iconst (v := nI 0) h d_C_cuts_133 (by decide) ?_
                            exact v_iret h hr (by decide) d_C_cuts_134 (at_, sz, 0, ce2, .ref (ad 2), cn2) rfl (cpP_no ((hbad (by rw [ht]; decide)).trans ht) (by decide) rfl)
                      · have ht : tcode I n (toldP I n i) = 2 := by rw [tcode, if_neg (by omega), if_pos q104]
                        refine v_aload_n h d_C_cuts_107 rfl ?_
                        refine v_ldcS h (fun _ _ x => x.1.2.1) d_C_cuts_108 ?_
                        refine pC_fault h d_C_cuts_110 ?_
                        refine v_aload_n h d_C_cuts_113 rfl ?_
                        refine gC_fault h d_C_cuts_114 ?_
                        refine v_nonnull 133 h d_C_cuts_117 (by decide) ?_
                        refine v_iconst (v := nI 0) h d_C_cuts_133 (by decide) ?_
                        exact v_iret h hr (by decide) d_C_cuts_134 (at_, sz, 0, toldP I n i, .ref (ad 1), cn) rfl (cpP_no ((hbad (by rw [ht]; decide)).trans ht) (by decide) rfl)
                    · have ht : tcode I n (toldP I n i) = 6 := by rw [tcode, if_pos q93]
                      refine v_iconst (v := nI 0) h d_C_cuts_96 (by decide) ?_
                      exact v_iret h hr (by decide) d_C_cuts_97 (at_, sz, 0, toldP I n i, .null, cn) rfl (cpP_no ((hbad (by rw [ht]; decide)).trans ht) (by decide) rfl)
              refine v_lv (lv' := [some (.ref (g 4)), some (.ref (g 2)), some (.int (nI 0)), some (.int (nI n)), some (.int (nI N)), some (.int (nI 0)), none, none]) (by rw [eNv]) ?_
              exact loop N 0 (by omega) at_ sz _ none none CK.zero (by show lq I n 0 + 2 ≤ n; omega) (fun j hj => absurd hj (Nat.not_lt_zero j)) (by rw [hC, eN2]; rfl)
          · have hC : toldC I n = 1 := by rw [toldC, if_neg (by omega), if_neg (by omega), if_pos (Int32.not_le.mp q58)]
            have hgt := Int32.not_le.mp q58
            have hneg : ¬ lval I n 0 < 0 := fun z => absurd (Int32.le_of_lt (Int32.lt_trans hgt z)) (by decide)
            obtain ⟨N, hN, eNv⟩ := nI_of hneg
            have K264 : ∀ x6 x7 : Option Value, V E 0 0 (wX cB cI g T len I many K wd ft at_ sz 0 (lq I n 0 + 2) (.ref (ad 0)) (lval I n 0)) 264 [some (.ref (g 4)), some (.ref (g 2)), some (.int (nI 0)), some (.int (nI n)), some (.int (lval I n 0)), some (.int (nI 0)), x6, x7] [] := by
              intro x6 x7
              refine v_aload_n h d_C_cuts_264 rfl ?_
              refine v_iload h d_C_cuts_265 rfl ?_
              refine v_iconst (v := nI 0) h d_C_cuts_267 (by decide) ?_
              refine v_max (v := nI N) h rfl (by decide) (Nat.le_of_ble_eq_true rfl) (by decide) (by decide) ((if_neg hneg).trans eNv) d_C_cuts_268 ?_
              refine pC_words h d_C_cuts_271 ?_
              refine v_aload_n h d_C_cuts_274 rfl ?_
              refine gC_fault h d_C_cuts_275 ?_
              refine v_nonnull 285 h d_C_cuts_278 (by decide) ?_
              refine v_iconst (v := nI 0) h d_C_cuts_285 (by decide) ?_
              exact v_iret h hr (by decide) d_C_cuts_286 (at_, sz, N, lq I n 0 + 2, .ref (ad 0), lval I n 0) rfl (cpP_no hC (by decide) rfl)
            refine v_aload_n h d_C_cuts_61 rfl ?_
            refine v_ldcS h (fun _ _ x => x.1.1) d_C_cuts_62 ?_
            refine pC_fault h d_C_cuts_64 ?_
            refine v_iconst (v := nI 0) h d_C_cuts_67 (by decide) ?_
            refine v_istore (lv' := [_, _, _, _, _, _, _, _]) h d_C_cuts_68 (Nat.le_of_ble_eq_true rfl) rfl ?_
            refine v_iload h d_C_cuts_70 rfl ?_
            refine v_iload h d_C_cuts_72 rfl ?_
            refine v_icmp_ge 264 h d_C_cuts_74 (by decide) (fun q74 => ?_) (fun q74 => ?_)
            · exact K264 _ _
            · refine v_aload_n h d_C_cuts_77 rfl ?_
              refine gC_fault h d_C_cuts_78 ?_
              refine v_nonnull 264 h d_C_cuts_81 (by decide) ?_
              exact K264 _ _
        · cases q42
      · have e1 : cf1 = .null := e1
        subst e1
        have hC : toldC I n = 6 := by rw [toldC, if_pos hl]
        refine v_neB 47 h d_C_cuts_42 (by decide) (fun q42 => ?_) (fun q42 => ?_)
        · cases q42
        · refine v_iconst (v := nI 0) h d_C_cuts_45 (by decide) ?_
          exact v_iret h hr (by decide) d_C_cuts_46 (at_, sz, 0, ce1, .null, cn1) rfl (cpP_no hC (by decide) rfl)
      · have e1 : cf1 = .ref (ad 0) := e1
        subst e1
        have hC : toldC I n = 1 := by rw [toldC, if_neg (by omega), if_pos hl]
        refine v_neB 47 h d_C_cuts_42 (by decide) (fun q42 => ?_) (fun q42 => ?_)
        · cases q42
        · refine v_iconst (v := nI 0) h d_C_cuts_45 (by decide) ?_
          exact v_iret h hr (by decide) d_C_cuts_46 (at_, sz, 0, ce1, .ref (ad 0), cn1) rfl (cpP_no hC (by decide) rfl)
    · have eC : cutC I n = plainC I n := by rw [cutC, if_neg (by omega), if_neg q22]
      have eN : cutN I n = pN I (plast I n) := by rw [cutN, if_neg q22]
      have eE : cutE I n = pq I n + 1 := by rw [cutE, if_neg q22]
      have eW : cutW I n = pW I n := by funext i; rw [cutW, if_neg q22]
      have eZ : cutZ I n = pZ I n := by funext i; rw [cutZ, if_neg q22]
      rw [eC, eN, eE, eW, eZ] at hr
      refine v_aload_n h d_C_cuts_25 rfl ?_
      refine v_aload_n h d_C_cuts_26 rfl ?_
      refine v_iload_n h d_C_cuts_27 rfl ?_
      refine v_iload_n h d_C_cuts_28 rfl ?_
      refine v_callI4 (wc := (wX cB cI g T len I many K wd ft at_ sz 0 ce .null cn)) (wr := []) (As := [.ref (g 2), .int (nI 0), .int (nI n)]) (st := []) h (show LkV "RequestCutter$Cutter" 30 "RequestCutter$Cutter" ⟨"RequestCutter$Cutter", "cutsPlain", "([BII)Z"⟩ prog_2_method_4_code 7 (some .boolean) 3 from ⟨k_99, k_101, k_s0, k_2, k_102, by decide +kernel⟩) (fun l D => c_C_plain l D (cw := 0) (cf := .null) n hn) [0, 1, 2, 3, 4, 5, 6] [] rfl rfl (by decide) (by decide) (by decide) (ci := 1) rfl rfl rfl rfl rfl (by decide) rfl (Nat.le_of_ble_eq_true rfl) (by decide) (by decide) d_C_cuts_29 rfl (fun r1_ u1 hp1 => ?_)
      obtain ⟨at1, sz1, cw1, ce1, cf1, cn1⟩ := u1
      refine v_ws (ws' := (wX cB cI g T len I many K wd ft at1 sz1 cw1 ce1 cf1 cn1)) rfl ?_
      refine v_iret h hr ?_ d_C_cuts_32 (at1, sz1, cw1, ce1, cf1, cn1) rfl hp1
      rcases hp1 with ⟨_, rfl, _⟩ | ⟨_, rfl, _⟩
      · exact bI_nar _
      · exact bI_nar _
  · have hC : cutC I n = 6 := by rw [cutC, if_pos (by omega)]
    refine v_iconst (v := nI 0) h d_C_cuts_15 (by decide) ?_
    exact v_iret h hr (by decide) d_C_cuts_16 (at_, sz, 0, ce, .null, cn) rfl (cpP_no hC (by decide) rfl)
end
section
section VS
variable {E : Ev} {cc : ByteArray} {own : String} {rm : Room} {cB cI : ClassId} {ad : Nat → Nat} {k n pc : Nat} {ws : va_W} {lv lv' : List (Option Value)} {st : List Value}
theorem v_callS {S : Type} {post : Int32 → S → Prop} {wf : S → va_W} {ty : FieldType} {y : MethodName} {bt : ByteArray} {ml idx b n0 mc ms : Nat} {C : String} {rm2 : Room} {As : List Value} {wc wr : va_W} (h : Cx E cc own rm cB cI ad) (L : LkV own idx C y bt ml (some ty) n0) (hM : ∀ (l : Launch) (D : va_G), CtI l y bt ml ty rm2 D cB cI ad (.ref b :: As) wc post wf mc ms) (isC isR : List Nat) (hC : isC.map (fun i => ws[i]?) = wc.map some) (hRr : isR.map (fun i => ws[i]?) = wr.map some) (hnC : va_nd isC = true) (hnR : va_nd isR = true) (hdis : ∀ i ∈ isR, i ∉ isC) {k0 : Nat} (hk0 : k0 < 5) (hb0 : b = ad k0) (hqc : C = "java/lang/String") (hrc : rm2.cells = mc) (hrs : rm2.slots = ms) (hrm : rm2.frames + 1 ≤ rm.frames ∧ 8 + (ml + 11) + rm2.locals ≤ rm.locals) (hn0 : As.length = n0) (hst : (st.map fun v => v.category).sum ≤ 8) (hcl : k + mc ≤ rm.cells) (hsl : n + ms ≤ rm.slots) (hd : decode cc pc = .ok (.invokevirtual idx, 3)) {st0 : List Value} (hst0 : st0 = As.reverse ++ .ref b :: st) (kk : ∀ (r : Int32) (u : S), post r u → V E (k + mc) (n + ms) (wr ++ wf u) (pc + 3) lv (.int r :: st)) : V E k n ws pc lv st0 := by
  obtain ⟨p, l, e, R, s, m, args, below, meth, c, Q, D, A, nL⟩ := E
  obtain ⟨hx, hb, hml, hown, hts, hK, hX, hA, hR⟩ := h
  intro H locs ls hP hD hS hl
  subst hR
  subst hst0
  have hPc := hP.sub (ws' := wc) isC (fm_of hC)
  have hDc := hD.sub (ws' := wc) isC hnC hC
  have hFc := va_free (wc := wc) hD hS hA isC hC
  have hbl : FrameBlind (va_Pc (.ref b :: As) (fun U => U.heap.size = H.size ∧ va_P D kl wc U.heap ∧ va_K D kl [(cB, .byte), (cI, .int)] U ∧ va_D (fun _ => True) wc ∧ SX ad (va_A wc H.size) U U.heap)) := fun a U g mk q => by
    obtain ⟨q0, q1, qP, qK, qD, qX⟩ := q
    exact ⟨q0, q1, qP, va_K.moved (u := U) (U := U.calling g mk a) (Vm.Alike.refl U.vm) qK, qD, SX.same (u := U) (U := U.calling g mk a) rfl qX⟩
  have hpre : ∀ U : State, U.heap = H → s.WarmedH U.vm → va_Pc (.ref b :: As) (fun U => U.heap.size = H.size ∧ va_P D kl wc U.heap ∧ va_K D kl [(cB, .byte), (cI, .int)] U ∧ va_D (fun _ => True) wc ∧ SX ad (va_A wc H.size) U U.heap) (Value.ref b :: As).toArray U := fun U hU hW => ⟨rfl, by rw [hU], by rw [hU]; exact hPc, va_K.moved hW.alike hK, hDc.weaken (fun _ _ _ _ => trivial), by rw [hU]; exact hX.to hW hS.2.1 hFc⟩
  refine va_calli (va_runV (C := C) (As := As) (rest := st) ⟨hx, hb, hml, hown, hts⟩ (hM l D H.size) (cwV n0 hts (gd_V L) rfl hrc hrs L.2.2.2.2.2 hrm) ⟨hbl, by rw [hqc, hb0]; exact va_Orecv (hX.2.2.2 k0 hk0).1 hS, fun U hU hW => hpre U hU hW⟩ rfl hn0 (lh_size hl) rfl (lv_room hst) hd ⟨hcl, hsl⟩) hS (fun q _ h => hFc q h) hFc (fun r u t H1 locs1 ht hvm hw hB hz1 hk1 hS1 => ?_)
  obtain ⟨hP1, hD1⟩ := hB
  rw [ht] at hP1
  obtain ⟨hP2, hD2⟩ := va_join (wr := wr) (w1 := wf u) hP hD isC isR hC hRr hnR hdis hk1 hFc hP1 hD1
  exact kk r u hw H1 locs1 ls hP2 hD2 hS1 hl
theorem v_getS {k0 : Nat} (h : Cx E cc "java/lang/String" rm cB cI ad) (hk0 : k0 < 5) (hd : decode cc pc = .ok (.getfield 19, 3)) (kk : V E k n ws (pc + 3) lv (.int (hsh k0) :: st)) : V E k n ws pc lv (.ref (ad k0) :: st) := by
  obtain ⟨p, l, e, R, s, m, args, below, meth, c, Q, D, A, nL⟩ := E
  obtain ⟨hx, hb, hml, hown, hts, hK, hX, hA, hR⟩ := h
  intro H locs ls hP hD hS hl
  exact vk_getf hx hb (hX.2.2.2 k0 hk0).2 hS hown (hts _ k_318) (fun _ h9 => h9) hd (kk H locs ls hP hD hS hl)
theorem v_acmpne {a b : Nat} {off : Int} (tgt : Nat) (h : Cx E cc own rm cB cI ad) (hd : decode cc pc = .ok (.if_acmp .ne off, 3)) (ht : (pc : Int) + off = (tgt : Int)) (kt : ¬ a = b → V E k n ws tgt lv st) (kf : a = b → V E k n ws (pc + 3) lv st) : V E k n ws pc lv (.ref b :: .ref a :: st) := by
  obtain ⟨p, l, e, R, s, m, args, below, meth, c, Q, D, A, nL⟩ := E
  obtain ⟨hx, hb, hml, hown, hts, hK, hX, hA, hR⟩ := h
  intro H locs ls hP hD hS hl
  exact lv_acmp_ne (rx := some a) (ry := some b) hx hb hd ht (fun q => kt (fun z => q (congrArg some z)) H locs ls hP hD hS hl) (fun q => kf (Option.some.inj q) H locs ls hP hD hS hl)
end VS
end
section
theorem hsh_ne : ∀ k, k < 5 → ¬ hsh k = 0 := by decide
theorem c_S_hash (l : Launch) (D : va_G) {cB cI : ClassId} {ad : Nat → Nat} (k : Nat) (hk : k < 5) : CtI l y_S_hash prog_6_method_78_code 2 .int r2 D cB cI ad [.ref (ad k)] [] (fun (r : Int32) (_ : Unit) => r = hsh k) (fun _ => []) 0 0 := by
  refine CtI.mk (own := "java/lang/String") (by decide) rfl (cat_of rfl) (Nat.le_of_ble_eq_true rfl) (fun E h hr => ?_)
  refine v_lv (lv' := [_, _]) rfl ?_
  refine v_aload_n h d_S_hash_0 rfl ?_
  refine v_getS h hk d_S_hash_1 ?_
  refine v_istore_n (lv' := [_, _]) h d_S_hash_4 (Nat.le_of_ble_eq_true rfl) rfl ?_
  refine v_iload_n h d_S_hash_5 rfl ?_
  refine v_if_ne 58 h d_S_hash_6 (by decide) (fun q6 => ?_) (fun q6 => ?_)
  · refine v_iload_n h d_S_hash_58 rfl ?_
    exact v_iret h hr rfl d_S_hash_59 () rfl rfl
  · exact absurd q6 (hsh_ne k hk)
theorem c_S_equals (l : Launch) (D : va_G) {cB cI : ClassId} {ad : Nat → Nat} (k : Nat) : CtI l y_S_equals prog_6_method_66_code 3 .boolean r2 D cB cI ad [.ref (ad k), .ref (ad k)] [] (fun (r : Int32) (_ : Unit) => r = nI 1) (fun _ => []) 0 0 := by
  refine CtI.mk (own := "java/lang/String") (by decide) rfl (cat_of rfl) (Nat.le_of_ble_eq_true rfl) (fun E h hr => ?_)
  refine v_lv (lv' := [_, _, _]) rfl ?_
  refine v_aload_n h d_S_equals_0 rfl ?_
  refine v_aload_n h d_S_equals_1 rfl ?_
  refine v_acmpne 7 h d_S_equals_2 (by decide) (fun q => absurd rfl q) (fun _ => ?_)
  refine v_iconst (v := nI 1) h d_S_equals_5 (by decide) ?_
  exact v_iret h hr (by decide) d_S_equals_6 () rfl rfl
abbrev XC : Type := (Nat → Int32) × Nat × (Nat → Int32) × Nat × Nat × (Nat → Int32) × (Nat → Int32) × Nat × Nat × Value × Int32
def xcP (I : Nat → Int32) (n : Nat) (K : Nat → Int32) (r : Int32) (u : XC) : Prop :=
  (cutC I n = 0 ∧ r = nI (cutN I n) ∧ u.1 = va_cpy I I (cutE I n) 0 (n - cutE I n) ∧ u.2.1 = n - cutE I n ∧ u.2.2.1 = va_cpy I K 0 0 (cutE I n) ∧ u.2.2.2.1 = cutN I n ∧ u.2.2.2.2.1 = 0 ∧ cutE I n ≤ n ∧ cutN I n ≤ 1024 ∧ CK u.2.2.2.2.2.1 u.2.2.2.2.2.2.1 (cutW I n) (cutZ I n) (cutN I n) ∧ ∀ j, j < cutN I n → cutW I n j + cutZ I n j ≤ cutE I n) ∨
  (¬ cutC I n = 0 ∧ r = (if cutC I n = 6 then -1 else -2) ∧ u.1 = I ∧ u.2.1 = n ∧ u.2.2.2.1 = 0 ∧ u.2.2.2.2.1 = ftC (cutC I n))
set_option maxHeartbeats 4000000 in
theorem c_X_cut (l : Launch) (D : va_G) {cB cI : ClassId} {ad g : Nat → Nat} {T : Nat → Int32} {len : Nat} {I : Nat → Int32} {many : Nat} {K : Nat → Int32} {wd ft : Nat} {at_ sz : Nat → Int32} {cw ce : Nat} {cf : Value} {cn : Int32} (hI : B8 I) (hmany : many ≤ 65536) : CtI l y_X_cut prog_1_method_5_code 3 .int r1 D cB cI ad [.ref (g 0)] (wX cB cI g T len I many K wd ft at_ sz cw ce cf cn) (fun (r : Int32) (u : XC) => xcP I many K r u) (fun u => (wX cB cI g T len u.1 u.2.1 u.2.2.1 u.2.2.2.1 u.2.2.2.2.1 u.2.2.2.2.2.1 u.2.2.2.2.2.2.1 u.2.2.2.2.2.2.2.1 u.2.2.2.2.2.2.2.2.1 u.2.2.2.2.2.2.2.2.2.1 u.2.2.2.2.2.2.2.2.2.2)) 0 0 := by
  refine CtI.mk (own := "RequestCutter") (by decide) rfl (cat_of rfl) (Nat.le_of_ble_eq_true rfl) (fun E h hr => ?_)
  refine v_lv (lv' := [_, _, _]) rfl ?_
  generalize hmn : many = n at *
  refine v_aload_n h d_X_cut_0 rfl ?_
  refine v_iconst (v := nI 0) h d_X_cut_1 (by decide) ?_
  refine pX_words h d_X_cut_2 ?_
  refine v_aload_n h d_X_cut_5 rfl ?_
  refine v_iconst (v := nI 0) h d_X_cut_6 (by decide) ?_
  refine pX_fault h d_X_cut_7 ?_
  refine v_aload_n h d_X_cut_10 rfl ?_
  refine gX_cutter h d_X_cut_11 ?_
  refine v_aload_n h d_X_cut_14 rfl ?_
  refine gX_input h d_X_cut_15 ?_
  refine v_iconst (v := nI 0) h d_X_cut_18 (by decide) ?_
  refine v_aload_n h d_X_cut_19 rfl ?_
  refine gX_many h d_X_cut_20 ?_
  refine v_callI4 (wc := (wX cB cI g T len I n K 0 0 at_ sz cw ce cf cn)) (wr := []) (As := [.ref (g 2), .int (nI 0), .int (nI n)]) (st := []) h (show LkV "RequestCutter" 46 "RequestCutter$Cutter" ⟨"RequestCutter$Cutter", "cuts", "([BII)Z"⟩ prog_2_method_3_code 8 (some .boolean) 3 from ⟨k_95, k_96, k_97, k_2, k_98, by decide +kernel⟩) (fun l D => c_C_cuts l D n hmany) [0, 1, 2, 3, 4, 5, 6] [] rfl rfl (by decide) (by decide) (by decide) (ci := 1) rfl rfl rfl rfl rfl (by decide) rfl (Nat.le_of_ble_eq_true rfl) (by decide) (by decide) d_X_cut_23 rfl (fun r1_ u1 hp1 => ?_)
  obtain ⟨at1, sz1, cw1, ce1, cf1, cn1⟩ := u1
  refine v_ws (ws' := (wX cB cI g T len I n K 0 0 at1 sz1 cw1 ce1 cf1 cn1)) rfl ?_
  have hc6 := cutC_le I n
  rcases hp1 with ⟨a1, rfl, a3, a4, a5, a6, a7, a8⟩ | ⟨a1, rfl, a3⟩
  · dsimp only at a3 a4 a7
    subst a3
    subst a4
    have hB := endB_ok (j := cutE I n) (len := n) (by omega) (by omega) a5
    refine v_neB 220 h d_X_cut_26 (by decide) (fun q26 => ?_) (fun q26 => ?_)
    · refine v_aload_n h d_X_cut_220 rfl ?_
      refine v_aload_n h d_X_cut_221 rfl ?_
      refine gX_cutter h d_X_cut_222 ?_
      refine gXC_words h d_X_cut_225 ?_
      refine pX_words h d_X_cut_228 ?_
      refine v_aload_n h d_X_cut_231 rfl ?_
      refine gX_input h d_X_cut_232 ?_
      refine v_iconst (v := nI 0) h d_X_cut_235 (by decide) ?_
      refine v_aload_n h d_X_cut_236 rfl ?_
      refine gX_kept h d_X_cut_237 ?_
      refine v_iconst (v := nI 0) h d_X_cut_240 (by decide) ?_
      refine v_aload_n h d_X_cut_241 rfl ?_
      refine gX_cutter h d_X_cut_242 ?_
      refine gXC_end h d_X_cut_245 ?_
      refine v_copy (ws' := (wX cB cI g T len I n (va_cpy I K 0 0 (cutE I n)) (cutN I n) 0 at1 sz1 (cutN I n) (cutE I n) cf1 cn1)) h rfl (by decide) (by decide) 2 3 rfl rfl (by omega) (by omega) (by decide) (by decide) hI.fit rfl d_X_cut_248 ?_
      refine v_aload_n h d_X_cut_251 rfl ?_
      refine v_aload_n h d_X_cut_252 rfl ?_
      refine gX_cutter h d_X_cut_253 ?_
      refine gXC_end h d_X_cut_256 ?_
      refine v_callI (wc := (wX cB cI g T len I n (va_cpy I K 0 0 (cutE I n)) (cutN I n) 0 at1 sz1 (cutN I n) (cutE I n) cf1 cn1)) (wr := []) (As := [.int (nI (cutE I n))]) (st := []) h (show LkV "RequestCutter" 74 "RequestCutter" ⟨"RequestCutter", "drop", "(I)Z"⟩ prog_1_method_9_code 2 (some .boolean) 1 from ⟨k_183, k_184, k_185, k_1, k_186, by decide +kernel⟩) (fun l D => c_X_drop l D (nI (cutE I n)) hmany hI) [0, 1, 2, 3, 4, 5, 6] [] rfl rfl (by decide) (by decide) (by decide) (ci := 0) rfl rfl rfl rfl rfl (by decide) rfl (Nat.le_of_ble_eq_true rfl) (by decide) (by decide) d_X_cut_259 rfl (fun r4_ u4 hp4 => ?_)
      obtain ⟨e1, e2⟩ := hp4
      rw [drp_t (by omega) hB] at e2
      subst e2
      refine v_ws (ws' := (wX cB cI g T len (va_cpy I I (cutE I n) 0 (n - cutE I n)) (n - cutE I n) (va_cpy I K 0 0 (cutE I n)) (cutN I n) 0 at1 sz1 (cutN I n) (cutE I n) cf1 cn1)) rfl ?_
      refine v_pop h d_X_cut_262 rfl ?_
      refine v_aload_n h d_X_cut_263 rfl ?_
      refine gX_words h d_X_cut_264 ?_
      exact v_iret h hr rfl d_X_cut_267 (va_cpy I I (cutE I n) 0 (n - cutE I n), n - cutE I n, va_cpy I K 0 0 (cutE I n), cutN I n, 0, at1, sz1, cutN I n, cutE I n, cf1, cn1) rfl (Or.inl ⟨a1, rfl, rfl, rfl, rfl, rfl, rfl, a5, a6, a7, a8⟩)
    · cases q26
  · have a3 : cf1 = fvC ad (cutC I n) := a3
    refine v_neB 220 h d_X_cut_26 (by decide) (fun q26 => ?_) (fun q26 => ?_)
    · cases q26
    rcases (show cutC I n = 1 ∨ cutC I n = 2 ∨ cutC I n = 3 ∨ cutC I n = 4 ∨ cutC I n = 5 ∨ cutC I n = 6 by omega) with hc | hc | hc | hc | hc | hc <;> rw [hc] at a3
    · have a3 : cf1 = .ref (ad 0) := a3
      subst a3
      refine v_aload_n h d_X_cut_29 rfl ?_
      refine gX_cutter h d_X_cut_30 ?_
      refine gXC_fault h d_X_cut_33 ?_
      refine v_nonnull 41 h d_X_cut_36 (by decide) ?_
      refine v_aload_n h d_X_cut_41 rfl ?_
      refine gX_cutter h d_X_cut_42 ?_
      refine gXC_fault h d_X_cut_45 ?_
      refine v_astore_n (lv' := [_, _, _]) h d_X_cut_48 (Nat.le_of_ble_eq_true rfl) rfl ?_
      refine v_iconst (v := (-1)) h d_X_cut_49 (by decide) ?_
      refine v_istore_n (lv' := [_, _, _]) h d_X_cut_50 (Nat.le_of_ble_eq_true rfl) rfl ?_
      refine v_aload_n h d_X_cut_51 rfl ?_
      refine v_callS (wc := []) (wr := (wX cB cI g T len I n K 0 0 at1 sz1 cw1 ce1 (.ref (ad 0)) cn1)) (As := []) (st := []) h (show LkV "RequestCutter" 53 "java/lang/String" ⟨"java/lang/String", "hashCode", "()I"⟩ prog_6_method_78_code 2 (some .int) 0 from ⟨k_115, k_116, k_117, k_6, k_118, by decide +kernel⟩) (fun l D => c_S_hash l D 0 (by decide)) [] [0, 1, 2, 3, 4, 5, 6] rfl rfl (by decide) (by decide) (by decide) (k0 := 0) (by decide) rfl rfl rfl rfl (by decide) rfl (Nat.le_of_ble_eq_true rfl) (by decide) (by decide) d_X_cut_52 rfl (fun r2_ _ hp2 => ?_)
      subst hp2
      refine v_ws (ws' := (wX cB cI g T len I n K 0 0 at1 sz1 cw1 ce1 (.ref (ad 0)) cn1)) rfl ?_
      refine v_lookup (off := 41) 96 h d_X_cut_55 (by decide) (by decide) (by decide) ?_
      refine v_aload_n h d_X_cut_96 rfl ?_
      refine v_ldcS h (fun _ _ x => x.2.1.1) d_X_cut_97 ?_
      refine v_callS (wc := []) (wr := (wX cB cI g T len I n K 0 0 at1 sz1 cw1 ce1 (.ref (ad 0)) cn1)) (As := [.ref (ad 0)]) (st := []) h (show LkV "RequestCutter" 61 "java/lang/String" ⟨"java/lang/String", "equals", "(Ljava/lang/Object;)Z"⟩ prog_6_method_66_code 3 (some .boolean) 1 from ⟨k_172, k_173, k_174, k_6, k_175, by decide +kernel⟩) (fun l D => c_S_equals l D 0) [] [0, 1, 2, 3, 4, 5, 6] rfl rfl (by decide) (by decide) (by decide) (k0 := 0) (by decide) rfl rfl rfl rfl (by decide) rfl (Nat.le_of_ble_eq_true rfl) (by decide) (by decide) d_X_cut_99 rfl (fun r3_ _ hp3 => ?_)
      subst hp3
      refine v_ws (ws' := (wX cB cI g T len I n K 0 0 at1 sz1 cw1 ce1 (.ref (ad 0)) cn1)) rfl ?_
      refine v_eqZ 149 h d_X_cut_102 (by decide) (fun q102 => ?_) (fun q102 => ?_)
      · exact absurd q102 (by decide)
      · refine v_iconst (v := nI 0) h d_X_cut_105 (by decide) ?_
        refine v_istore_n (lv' := [_, _, _]) h d_X_cut_106 (Nat.le_of_ble_eq_true rfl) rfl ?_
        refine v_goto 149 h d_X_cut_107 (by decide) ?_
        refine v_iload_n h d_X_cut_149 rfl ?_
        refine v_tabIn (off := 30) 180 h d_X_cut_150 (by decide) (by decide) (by decide) (by decide) ?_
        refine v_aload_n h d_X_cut_180 rfl ?_
        refine v_iconst (v := nI 1) h d_X_cut_181 (by decide) ?_
        refine pX_fault h d_X_cut_182 ?_
        refine v_goto 217 h d_X_cut_185 (by decide) ?_
        refine v_bipush (v := (-2)) h d_X_cut_217 (by decide) ?_
        exact v_iret h hr rfl d_X_cut_219 (I, n, K, 0, 1, at1, sz1, cw1, ce1, .ref (ad 0), cn1) rfl (Or.inr ⟨by rw [hc]; decide, by rw [hc]; rfl, rfl, rfl, rfl, by rw [hc]; rfl⟩)
    · have a3 : cf1 = .ref (ad 1) := a3
      subst a3
      refine v_aload_n h d_X_cut_29 rfl ?_
      refine gX_cutter h d_X_cut_30 ?_
      refine gXC_fault h d_X_cut_33 ?_
      refine v_nonnull 41 h d_X_cut_36 (by decide) ?_
      refine v_aload_n h d_X_cut_41 rfl ?_
      refine gX_cutter h d_X_cut_42 ?_
      refine gXC_fault h d_X_cut_45 ?_
      refine v_astore_n (lv' := [_, _, _]) h d_X_cut_48 (Nat.le_of_ble_eq_true rfl) rfl ?_
      refine v_iconst (v := (-1)) h d_X_cut_49 (by decide) ?_
      refine v_istore_n (lv' := [_, _, _]) h d_X_cut_50 (Nat.le_of_ble_eq_true rfl) rfl ?_
      refine v_aload_n h d_X_cut_51 rfl ?_
      refine v_callS (wc := []) (wr := (wX cB cI g T len I n K 0 0 at1 sz1 cw1 ce1 (.ref (ad 1)) cn1)) (As := []) (st := []) h (show LkV "RequestCutter" 53 "java/lang/String" ⟨"java/lang/String", "hashCode", "()I"⟩ prog_6_method_78_code 2 (some .int) 0 from ⟨k_115, k_116, k_117, k_6, k_118, by decide +kernel⟩) (fun l D => c_S_hash l D 1 (by decide)) [] [0, 1, 2, 3, 4, 5, 6] rfl rfl (by decide) (by decide) (by decide) (k0 := 1) (by decide) rfl rfl rfl rfl (by decide) rfl (Nat.le_of_ble_eq_true rfl) (by decide) (by decide) d_X_cut_52 rfl (fun r2_ _ hp2 => ?_)
      subst hp2
      refine v_ws (ws' := (wX cB cI g T len I n K 0 0 at1 sz1 cw1 ce1 (.ref (ad 1)) cn1)) rfl ?_
      refine v_lookup (off := 55) 110 h d_X_cut_55 (by decide) (by decide) (by decide) ?_
      refine v_aload_n h d_X_cut_110 rfl ?_
      refine v_ldcS h (fun _ _ x => x.2.1.2.1) d_X_cut_111 ?_
      refine v_callS (wc := []) (wr := (wX cB cI g T len I n K 0 0 at1 sz1 cw1 ce1 (.ref (ad 1)) cn1)) (As := [.ref (ad 1)]) (st := []) h (show LkV "RequestCutter" 61 "java/lang/String" ⟨"java/lang/String", "equals", "(Ljava/lang/Object;)Z"⟩ prog_6_method_66_code 3 (some .boolean) 1 from ⟨k_172, k_173, k_174, k_6, k_175, by decide +kernel⟩) (fun l D => c_S_equals l D 1) [] [0, 1, 2, 3, 4, 5, 6] rfl rfl (by decide) (by decide) (by decide) (k0 := 1) (by decide) rfl rfl rfl rfl (by decide) rfl (Nat.le_of_ble_eq_true rfl) (by decide) (by decide) d_X_cut_113 rfl (fun r3_ _ hp3 => ?_)
      subst hp3
      refine v_ws (ws' := (wX cB cI g T len I n K 0 0 at1 sz1 cw1 ce1 (.ref (ad 1)) cn1)) rfl ?_
      refine v_eqZ 149 h d_X_cut_116 (by decide) (fun q116 => ?_) (fun q116 => ?_)
      · exact absurd q116 (by decide)
      · refine v_iconst (v := nI 1) h d_X_cut_119 (by decide) ?_
        refine v_istore_n (lv' := [_, _, _]) h d_X_cut_120 (Nat.le_of_ble_eq_true rfl) rfl ?_
        refine v_goto 149 h d_X_cut_121 (by decide) ?_
        refine v_iload_n h d_X_cut_149 rfl ?_
        refine v_tabIn (off := 38) 188 h d_X_cut_150 (by decide) (by decide) (by decide) (by decide) ?_
        refine v_aload_n h d_X_cut_188 rfl ?_
        refine v_iconst (v := nI 2) h d_X_cut_189 (by decide) ?_
        refine pX_fault h d_X_cut_190 ?_
        refine v_goto 217 h d_X_cut_193 (by decide) ?_
        refine v_bipush (v := (-2)) h d_X_cut_217 (by decide) ?_
        exact v_iret h hr rfl d_X_cut_219 (I, n, K, 0, 2, at1, sz1, cw1, ce1, .ref (ad 1), cn1) rfl (Or.inr ⟨by rw [hc]; decide, by rw [hc]; rfl, rfl, rfl, rfl, by rw [hc]; rfl⟩)
    · have a3 : cf1 = .ref (ad 2) := a3
      subst a3
      refine v_aload_n h d_X_cut_29 rfl ?_
      refine gX_cutter h d_X_cut_30 ?_
      refine gXC_fault h d_X_cut_33 ?_
      refine v_nonnull 41 h d_X_cut_36 (by decide) ?_
      refine v_aload_n h d_X_cut_41 rfl ?_
      refine gX_cutter h d_X_cut_42 ?_
      refine gXC_fault h d_X_cut_45 ?_
      refine v_astore_n (lv' := [_, _, _]) h d_X_cut_48 (Nat.le_of_ble_eq_true rfl) rfl ?_
      refine v_iconst (v := (-1)) h d_X_cut_49 (by decide) ?_
      refine v_istore_n (lv' := [_, _, _]) h d_X_cut_50 (Nat.le_of_ble_eq_true rfl) rfl ?_
      refine v_aload_n h d_X_cut_51 rfl ?_
      refine v_callS (wc := []) (wr := (wX cB cI g T len I n K 0 0 at1 sz1 cw1 ce1 (.ref (ad 2)) cn1)) (As := []) (st := []) h (show LkV "RequestCutter" 53 "java/lang/String" ⟨"java/lang/String", "hashCode", "()I"⟩ prog_6_method_78_code 2 (some .int) 0 from ⟨k_115, k_116, k_117, k_6, k_118, by decide +kernel⟩) (fun l D => c_S_hash l D 2 (by decide)) [] [0, 1, 2, 3, 4, 5, 6] rfl rfl (by decide) (by decide) (by decide) (k0 := 2) (by decide) rfl rfl rfl rfl (by decide) rfl (Nat.le_of_ble_eq_true rfl) (by decide) (by decide) d_X_cut_52 rfl (fun r2_ _ hp2 => ?_)
      subst hp2
      refine v_ws (ws' := (wX cB cI g T len I n K 0 0 at1 sz1 cw1 ce1 (.ref (ad 2)) cn1)) rfl ?_
      refine v_lookup (off := 69) 124 h d_X_cut_55 (by decide) (by decide) (by decide) ?_
      refine v_aload_n h d_X_cut_124 rfl ?_
      refine v_ldcS h (fun _ _ x => x.2.1.2.2.1) d_X_cut_125 ?_
      refine v_callS (wc := []) (wr := (wX cB cI g T len I n K 0 0 at1 sz1 cw1 ce1 (.ref (ad 2)) cn1)) (As := [.ref (ad 2)]) (st := []) h (show LkV "RequestCutter" 61 "java/lang/String" ⟨"java/lang/String", "equals", "(Ljava/lang/Object;)Z"⟩ prog_6_method_66_code 3 (some .boolean) 1 from ⟨k_172, k_173, k_174, k_6, k_175, by decide +kernel⟩) (fun l D => c_S_equals l D 2) [] [0, 1, 2, 3, 4, 5, 6] rfl rfl (by decide) (by decide) (by decide) (k0 := 2) (by decide) rfl rfl rfl rfl (by decide) rfl (Nat.le_of_ble_eq_true rfl) (by decide) (by decide) d_X_cut_127 rfl (fun r3_ _ hp3 => ?_)
      subst hp3
      refine v_ws (ws' := (wX cB cI g T len I n K 0 0 at1 sz1 cw1 ce1 (.ref (ad 2)) cn1)) rfl ?_
      refine v_eqZ 149 h d_X_cut_130 (by decide) (fun q130 => ?_) (fun q130 => ?_)
      · exact absurd q130 (by decide)
      · refine v_iconst (v := nI 2) h d_X_cut_133 (by decide) ?_
        refine v_istore_n (lv' := [_, _, _]) h d_X_cut_134 (Nat.le_of_ble_eq_true rfl) rfl ?_
        refine v_goto 149 h d_X_cut_135 (by decide) ?_
        refine v_iload_n h d_X_cut_149 rfl ?_
        refine v_tabIn (off := 46) 196 h d_X_cut_150 (by decide) (by decide) (by decide) (by decide) ?_
        refine v_aload_n h d_X_cut_196 rfl ?_
        refine v_iconst (v := nI 3) h d_X_cut_197 (by decide) ?_
        refine pX_fault h d_X_cut_198 ?_
        refine v_goto 217 h d_X_cut_201 (by decide) ?_
        refine v_bipush (v := (-2)) h d_X_cut_217 (by decide) ?_
        exact v_iret h hr rfl d_X_cut_219 (I, n, K, 0, 3, at1, sz1, cw1, ce1, .ref (ad 2), cn1) rfl (Or.inr ⟨by rw [hc]; decide, by rw [hc]; rfl, rfl, rfl, rfl, by rw [hc]; rfl⟩)
    · have a3 : cf1 = .ref (ad 3) := a3
      subst a3
      refine v_aload_n h d_X_cut_29 rfl ?_
      refine gX_cutter h d_X_cut_30 ?_
      refine gXC_fault h d_X_cut_33 ?_
      refine v_nonnull 41 h d_X_cut_36 (by decide) ?_
      refine v_aload_n h d_X_cut_41 rfl ?_
      refine gX_cutter h d_X_cut_42 ?_
      refine gXC_fault h d_X_cut_45 ?_
      refine v_astore_n (lv' := [_, _, _]) h d_X_cut_48 (Nat.le_of_ble_eq_true rfl) rfl ?_
      refine v_iconst (v := (-1)) h d_X_cut_49 (by decide) ?_
      refine v_istore_n (lv' := [_, _, _]) h d_X_cut_50 (Nat.le_of_ble_eq_true rfl) rfl ?_
      refine v_aload_n h d_X_cut_51 rfl ?_
      refine v_callS (wc := []) (wr := (wX cB cI g T len I n K 0 0 at1 sz1 cw1 ce1 (.ref (ad 3)) cn1)) (As := []) (st := []) h (show LkV "RequestCutter" 53 "java/lang/String" ⟨"java/lang/String", "hashCode", "()I"⟩ prog_6_method_78_code 2 (some .int) 0 from ⟨k_115, k_116, k_117, k_6, k_118, by decide +kernel⟩) (fun l D => c_S_hash l D 3 (by decide)) [] [0, 1, 2, 3, 4, 5, 6] rfl rfl (by decide) (by decide) (by decide) (k0 := 3) (by decide) rfl rfl rfl rfl (by decide) rfl (Nat.le_of_ble_eq_true rfl) (by decide) (by decide) d_X_cut_52 rfl (fun r2_ _ hp2 => ?_)
      subst hp2
      refine v_ws (ws' := (wX cB cI g T len I n K 0 0 at1 sz1 cw1 ce1 (.ref (ad 3)) cn1)) rfl ?_
      refine v_lookup (off := 83) 138 h d_X_cut_55 (by decide) (by decide) (by decide) ?_
      refine v_aload_n h d_X_cut_138 rfl ?_
      refine v_ldcS h (fun _ _ x => x.2.1.2.2.2) d_X_cut_139 ?_
      refine v_callS (wc := []) (wr := (wX cB cI g T len I n K 0 0 at1 sz1 cw1 ce1 (.ref (ad 3)) cn1)) (As := [.ref (ad 3)]) (st := []) h (show LkV "RequestCutter" 61 "java/lang/String" ⟨"java/lang/String", "equals", "(Ljava/lang/Object;)Z"⟩ prog_6_method_66_code 3 (some .boolean) 1 from ⟨k_172, k_173, k_174, k_6, k_175, by decide +kernel⟩) (fun l D => c_S_equals l D 3) [] [0, 1, 2, 3, 4, 5, 6] rfl rfl (by decide) (by decide) (by decide) (k0 := 3) (by decide) rfl rfl rfl rfl (by decide) rfl (Nat.le_of_ble_eq_true rfl) (by decide) (by decide) d_X_cut_141 rfl (fun r3_ _ hp3 => ?_)
      subst hp3
      refine v_ws (ws' := (wX cB cI g T len I n K 0 0 at1 sz1 cw1 ce1 (.ref (ad 3)) cn1)) rfl ?_
      refine v_eqZ 149 h d_X_cut_144 (by decide) (fun q144 => ?_) (fun q144 => ?_)
      · exact absurd q144 (by decide)
      · refine v_iconst (v := nI 3) h d_X_cut_147 (by decide) ?_
        refine v_istore_n (lv' := [_, _, _]) h d_X_cut_148 (Nat.le_of_ble_eq_true rfl) rfl ?_
        refine v_iload_n h d_X_cut_149 rfl ?_
        refine v_tabIn (off := 54) 204 h d_X_cut_150 (by decide) (by decide) (by decide) (by decide) ?_
        refine v_aload_n h d_X_cut_204 rfl ?_
        refine v_iconst (v := nI 4) h d_X_cut_205 (by decide) ?_
        refine pX_fault h d_X_cut_206 ?_
        refine v_goto 217 h d_X_cut_209 (by decide) ?_
        refine v_bipush (v := (-2)) h d_X_cut_217 (by decide) ?_
        exact v_iret h hr rfl d_X_cut_219 (I, n, K, 0, 4, at1, sz1, cw1, ce1, .ref (ad 3), cn1) rfl (Or.inr ⟨by rw [hc]; decide, by rw [hc]; rfl, rfl, rfl, rfl, by rw [hc]; rfl⟩)
    · have a3 : cf1 = .ref (ad 4) := a3
      subst a3
      refine v_aload_n h d_X_cut_29 rfl ?_
      refine gX_cutter h d_X_cut_30 ?_
      refine gXC_fault h d_X_cut_33 ?_
      refine v_nonnull 41 h d_X_cut_36 (by decide) ?_
      refine v_aload_n h d_X_cut_41 rfl ?_
      refine gX_cutter h d_X_cut_42 ?_
      refine gXC_fault h d_X_cut_45 ?_
      refine v_astore_n (lv' := [_, _, _]) h d_X_cut_48 (Nat.le_of_ble_eq_true rfl) rfl ?_
      refine v_iconst (v := (-1)) h d_X_cut_49 (by decide) ?_
      refine v_istore_n (lv' := [_, _, _]) h d_X_cut_50 (Nat.le_of_ble_eq_true rfl) rfl ?_
      refine v_aload_n h d_X_cut_51 rfl ?_
      refine v_callS (wc := []) (wr := (wX cB cI g T len I n K 0 0 at1 sz1 cw1 ce1 (.ref (ad 4)) cn1)) (As := []) (st := []) h (show LkV "RequestCutter" 53 "java/lang/String" ⟨"java/lang/String", "hashCode", "()I"⟩ prog_6_method_78_code 2 (some .int) 0 from ⟨k_115, k_116, k_117, k_6, k_118, by decide +kernel⟩) (fun l D => c_S_hash l D 4 (by decide)) [] [0, 1, 2, 3, 4, 5, 6] rfl rfl (by decide) (by decide) (by decide) (k0 := 4) (by decide) rfl rfl rfl rfl (by decide) rfl (Nat.le_of_ble_eq_true rfl) (by decide) (by decide) d_X_cut_52 rfl (fun r2_ _ hp2 => ?_)
      subst hp2
      refine v_ws (ws' := (wX cB cI g T len I n K 0 0 at1 sz1 cw1 ce1 (.ref (ad 4)) cn1)) rfl ?_
      refine v_lookup (off := 94) 149 h d_X_cut_55 (by decide) (by decide) (by decide) ?_
      refine v_iload_n h d_X_cut_149 rfl ?_
      refine v_tabOut 212 h d_X_cut_150 (by decide) (by decide) ?_
      refine v_aload_n h d_X_cut_212 rfl ?_
      refine v_iconst (v := nI 5) h d_X_cut_213 (by decide) ?_
      refine pX_fault h d_X_cut_214 ?_
      refine v_bipush (v := (-2)) h d_X_cut_217 (by decide) ?_
      exact v_iret h hr rfl d_X_cut_219 (I, n, K, 0, 5, at1, sz1, cw1, ce1, .ref (ad 4), cn1) rfl (Or.inr ⟨by rw [hc]; decide, by rw [hc]; rfl, rfl, rfl, rfl, by rw [hc]; rfl⟩)
    · have a3 : cf1 = .null := a3
      subst a3
      refine v_aload_n h d_X_cut_29 rfl ?_
      refine gX_cutter h d_X_cut_30 ?_
      refine gXC_fault h d_X_cut_33 ?_
      refine v_nonnullN h d_X_cut_36 ?_
      refine v_iconst (v := (-1)) h d_X_cut_39 (by decide) ?_
      exact v_iret h hr rfl d_X_cut_40 (I, n, K, 0, 0, at1, sz1, cw1, ce1, .null, cn1) rfl (Or.inr ⟨by rw [hc]; decide, by rw [hc]; rfl, rfl, rfl, rfl, by rw [hc]; rfl⟩)
end
section
abbrev rC0 : Room := { frames := 4, cells := 2, slots := 2200, locals := 138 }
abbrev rX0 : Room := { frames := 6, cells := 6, slots := 143518, locals := 196 }
abbrev rM0 : Room := { frames := 6, cells := 5, slots := 143362, locals := 196 }
theorem c_C_init (l : Launch) (D : va_G) {cB cI : ClassId} {ad : Nat → Nat} (c0 : Nat) : CtV l y_C_init prog_2_method_1_code 1 rC0 D cB cI ad [.ref c0] [(c0, .inr (1, [.null, .null, .int (nI 0), .int (nI 0), .null, .int (nI 0)]))] (fun (_ : Nat × Nat) => True) (fun u => [(c0, .inr (1, [.ref u.1, .ref u.2, .int (nI 0), .int (nI 0), .null, .int (nI 0)])), (u.1, .inl (cI, 1100, .inl (fun _ => 0))), (u.2, .inl (cI, 1100, .inl (fun _ => 0)))]) 2 2200 := by
  refine CtV.mk (own := "RequestCutter$Cutter") (by decide) rfl (cat_of rfl) (Nat.le_of_ble_eq_true rfl) (fun E h hr hin => ?_)
  have hin := hin rfl
  refine v_lv (lv' := [_]) rfl ?_
  refine v_aload_n h d_C_init_0 rfl ?_
  refine v_objInit h k_24 (by decide) (by decide) d_C_init_1 ?_
  refine v_aload_n h d_C_init_4 rfl ?_
  refine v_sipush (v := nI 1100) h d_C_init_5 (by decide) ?_
  refine v_newi h (by decide) (by decide) (by decide) d_C_init_8 (fun a => ?_)
  refine v_putF (C := "RequestCutter$Cutter") (T := F_C) (N := 6) (ci := 1) (t0 := t_C) (ty := .array .int) (ws' := [(c0, .inr (1, [.ref a, .null, .int (nI 0), .int (nI 0), .null, .int (nI 0)])), (a, .inl (cI, 1100, .inl (fun _ => 0)))]) h i_C t_C_ok n_C 0 rfl rfl 0 (by decide) k_25 rfl rfl hin rfl (by decide +kernel) rfl rfl (Nat.le_of_ble_eq_true rfl) rfl d_C_init_10 ?_
  refine v_aload_n h d_C_init_13 rfl ?_
  refine v_sipush (v := nI 1100) h d_C_init_14 (by decide) ?_
  refine v_newi h (by decide) (by decide) (by decide) d_C_init_17 (fun z => ?_)
  refine v_putF (C := "RequestCutter$Cutter") (T := F_C) (N := 6) (ci := 1) (t0 := t_C) (ty := .array .int) (ws' := [(c0, .inr (1, [.ref a, .ref z, .int (nI 0), .int (nI 0), .null, .int (nI 0)])), (a, .inl (cI, 1100, .inl (fun _ => 0))), (z, .inl (cI, 1100, .inl (fun _ => 0)))]) h i_C t_C_ok n_C 0 rfl rfl 1 (by decide) k_27 rfl rfl hin rfl (by decide +kernel) rfl rfl (Nat.le_of_ble_eq_true rfl) rfl d_C_init_19 ?_
  exact v_vret h hr d_C_init_22 (a, z) rfl trivial
theorem c_X_init (l : Launch) (D : va_G) {cB cI : ClassId} {ad : Nat → Nat} (q0 : Nat) : CtV l y_X_init prog_1_method_1_code 1 rX0 D cB cI ad [.ref q0] [(q0, .inr (0, [.null, .int (nI 0), .null, .int (nI 0), .null, .null, .int (nI 0), .int (nI 0)]))] (fun (g : Nat → Nat) => g 0 = q0) (fun g => wX cB cI g (fun _ => 0) 0 (fun _ => 0) 0 (fun _ => 0) 0 0 (fun _ => 0) (fun _ => 0) 0 0 .null (nI 0)) 6 143518 := by
  refine CtV.mk (own := "RequestCutter") (by decide) rfl (cat_of rfl) (Nat.le_of_ble_eq_true rfl) (fun E h hr hin => ?_)
  have hin := hin rfl
  refine v_lv (lv' := [_]) rfl ?_
  refine v_aload_n h d_X_init_0 rfl ?_
  refine v_objInit h k_15 (by decide) (by decide) d_X_init_1 ?_
  refine v_aload_n h d_X_init_4 rfl ?_
  refine v_sipush (v := nI 10240) h d_X_init_5 (by decide) ?_
  refine v_newb h (by decide) (by decide) (by decide) d_X_init_8 (fun t => ?_)
  refine v_putF (C := "RequestCutter") (T := F_X) (N := 8) (ci := 0) (t0 := t_X) (ty := .array .byte) (ws' := [(q0, .inr (0, [.ref t, .int (nI 0), .null, .int (nI 0), .null, .null, .int (nI 0), .int (nI 0)])), (t, .inl (cB, 10240, .inl (fun _ => 0)))]) h i_X t_X_ok n_X 0 rfl rfl 0 (by decide) k_51 rfl rfl hin rfl (by decide +kernel) rfl rfl (Nat.le_of_ble_eq_true rfl) rfl d_X_init_10 ?_
  refine v_aload_n h d_X_init_13 rfl ?_
  refine v_ldc (v := nI 65536) h d_X_init_14 k_18 (by decide) ?_
  refine v_newb h (by decide) (by decide) (by decide) d_X_init_16 (fun i => ?_)
  refine v_putF (C := "RequestCutter") (T := F_X) (N := 8) (ci := 0) (t0 := t_X) (ty := .array .byte) (ws' := [(q0, .inr (0, [.ref t, .int (nI 0), .ref i, .int (nI 0), .null, .null, .int (nI 0), .int (nI 0)])), (t, .inl (cB, 10240, .inl (fun _ => 0))), (i, .inl (cB, 65536, .inl (fun _ => 0)))]) h i_X t_X_ok n_X 0 rfl rfl 2 (by decide) k_53 rfl rfl hin rfl (by decide +kernel) rfl rfl (Nat.le_of_ble_eq_true rfl) rfl d_X_init_18 ?_
  refine v_aload_n h d_X_init_21 rfl ?_
  refine v_new (C := "RequestCutter$Cutter") (T := F_C) (N := 6) (ci := 1) (fs := [.null, .null, .int (nI 0), .int (nI 0), .null, .int (nI 0)]) (t0 := t_C) h i_C t_C_ok k_19 k_20 k_2 rfl (fun j hj => by rcases (show j = 0 ∨ j = 1 ∨ j = 2 ∨ j = 3 ∨ j = 4 ∨ j = 5 by omega) with rfl | rfl | rfl | rfl | rfl | rfl <;> first | rfl | exact congrArg Value.int nI_0.symm) (by decide) (by decide) d_X_init_22 (fun c0 => ?_)
  refine v_dup h d_X_init_25 rfl ?_
  refine v_callC (C := "") (wc := [(c0, .inr (1, [.null, .null, .int (nI 0), .int (nI 0), .null, .int (nI 0)]))]) (wr := [(q0, .inr (0, [.ref t, .int (nI 0), .ref i, .int (nI 0), .null, .null, .int (nI 0), .int (nI 0)])), (t, .inl (cB, 10240, .inl (fun _ => 0))), (i, .inl (cB, 65536, .inl (fun _ => 0)))]) (As := []) (st := [.ref c0, .ref q0]) h (y := y_C_init) (host := "RequestCutter") (fun _ _ x => x.2.2.1) k_22 k_2 k_23 rfl (n0 := 0) (by decide +kernel) (fun l D => c_C_init l D c0) [3] [0, 1, 2] rfl rfl (by decide) (by decide) (by decide) rfl rfl (by decide) rfl (Nat.le_of_ble_eq_true rfl) (by decide) (by decide) d_X_init_26 rfl (fun u _ => ?_)
  obtain ⟨a, z⟩ := u
  refine v_ws (ws' := [(q0, .inr (0, [.ref t, .int (nI 0), .ref i, .int (nI 0), .null, .null, .int (nI 0), .int (nI 0)])), (t, .inl (cB, 10240, .inl (fun _ => 0))), (i, .inl (cB, 65536, .inl (fun _ => 0))), (c0, .inr (1, [.ref a, .ref z, .int (nI 0), .int (nI 0), .null, .int (nI 0)])), (a, .inl (cI, 1100, .inl (fun _ => 0))), (z, .inl (cI, 1100, .inl (fun _ => 0)))]) rfl ?_
  refine v_putF (C := "RequestCutter") (T := F_X) (N := 8) (ci := 0) (t0 := t_X) (ty := .object "RequestCutter$Cutter") (ws' := [(q0, .inr (0, [.ref t, .int (nI 0), .ref i, .int (nI 0), .ref c0, .null, .int (nI 0), .int (nI 0)])), (t, .inl (cB, 10240, .inl (fun _ => 0))), (i, .inl (cB, 65536, .inl (fun _ => 0))), (c0, .inr (1, [.ref a, .ref z, .int (nI 0), .int (nI 0), .null, .int (nI 0)])), (a, .inl (cI, 1100, .inl (fun _ => 0))), (z, .inl (cI, 1100, .inl (fun _ => 0)))]) h i_X t_X_ok n_X 0 rfl rfl 4 (by decide) k_55 rfl rfl hin rfl (by decide +kernel) rfl rfl (Nat.le_of_ble_eq_true rfl) rfl d_X_init_29 ?_
  refine v_aload_n h d_X_init_32 rfl ?_
  refine v_ldc (v := nI 65536) h d_X_init_33 k_18 (by decide) ?_
  refine v_newb h (by decide) (by decide) (by decide) d_X_init_35 (fun q => ?_)
  refine v_putF (C := "RequestCutter") (T := F_X) (N := 8) (ci := 0) (t0 := t_X) (ty := .array .byte) (ws' := [(q0, .inr (0, [.ref t, .int (nI 0), .ref i, .int (nI 0), .ref c0, .ref q, .int (nI 0), .int (nI 0)])), (t, .inl (cB, 10240, .inl (fun _ => 0))), (i, .inl (cB, 65536, .inl (fun _ => 0))), (c0, .inr (1, [.ref a, .ref z, .int (nI 0), .int (nI 0), .null, .int (nI 0)])), (a, .inl (cI, 1100, .inl (fun _ => 0))), (z, .inl (cI, 1100, .inl (fun _ => 0))), (q, .inl (cB, 65536, .inl (fun _ => 0)))]) h i_X t_X_ok n_X 0 rfl rfl 5 (by decide) k_56 rfl rfl hin rfl (by decide +kernel) rfl rfl (Nat.le_of_ble_eq_true rfl) rfl d_X_init_37 ?_
  refine v_sub (ws' := wX cB cI (fun j => match j with | 0 => q0 | 1 => t | 2 => i | 3 => q | 4 => c0 | 5 => a | _ => z) (fun _ => 0) 0 (fun _ => 0) 0 (fun _ => 0) 0 0 (fun _ => 0) (fun _ => 0) 0 0 .null (nI 0)) [0, 1, 2, 6, 3, 4, 5] rfl rfl (by decide) ?_
  exact v_vret h hr d_X_init_40 (fun j => match j with | 0 => q0 | 1 => t | 2 => i | 3 => q | 4 => c0 | 5 => a | _ => z) rfl rfl
theorem c_M_init (l : Launch) (D : va_G) {cB cI : ClassId} {ad : Nat → Nat} (q0 : Nat) : CtV l y_M_init prog_4_method_1_code 1 rM0 D cB cI ad [.ref q0] [(q0, .inr (2, [.null, .null, .null, .null, .null, .int (nI 0), .int (nI 0), .int (nI 0), .int (nI 0), .int (nI 0), .int (nI 0)]))] (fun (g : Nat → Nat) => g 0 = q0) (fun g => wM cB cI g (fun _ => 0) (fun _ => 0) (fun _ => 0) (fun _ => 0) (fun _ => 0) 0 0 0 0 0 0) 5 143362 := by
  refine CtV.mk (own := "RequestCutterModel") (by decide) rfl (cat_of rfl) (Nat.le_of_ble_eq_true rfl) (fun E h hr hin => ?_)
  have hin := hin rfl
  refine v_lv (lv' := [_]) rfl ?_
  refine v_aload_n h d_M_init_0 rfl ?_
  refine v_objInit h k_209 (by decide) (by decide) d_M_init_1 ?_
  refine v_aload_n h d_M_init_4 rfl ?_
  refine v_sipush (v := nI 10240) h d_M_init_5 (by decide) ?_
  refine v_newb h (by decide) (by decide) (by decide) d_M_init_8 (fun t => ?_)
  refine v_putF (C := "RequestCutterModel") (T := F_M) (N := 11) (ci := 2) (t0 := t_M) (ty := .array .byte) (ws' := [(q0, .inr (2, [.ref t, .null, .null, .null, .null, .int (nI 0), .int (nI 0), .int (nI 0), .int (nI 0), .int (nI 0), .int (nI 0)])), (t, .inl (cB, 10240, .inl (fun _ => 0)))]) h i_M t_M_ok n_M 0 rfl rfl 0 (by decide) k_211 rfl rfl hin rfl (by decide +kernel) rfl rfl (Nat.le_of_ble_eq_true rfl) rfl d_M_init_10 ?_
  refine v_aload_n h d_M_init_13 rfl ?_
  refine v_ldc (v := nI 65536) h d_M_init_14 k_210 (by decide) ?_
  refine v_newb h (by decide) (by decide) (by decide) d_M_init_16 (fun i => ?_)
  refine v_putF (C := "RequestCutterModel") (T := F_M) (N := 11) (ci := 2) (t0 := t_M) (ty := .array .byte) (ws' := [(q0, .inr (2, [.ref t, .ref i, .null, .null, .null, .int (nI 0), .int (nI 0), .int (nI 0), .int (nI 0), .int (nI 0), .int (nI 0)])), (t, .inl (cB, 10240, .inl (fun _ => 0))), (i, .inl (cB, 65536, .inl (fun _ => 0)))]) h i_M t_M_ok n_M 0 rfl rfl 1 (by decide) k_212 rfl rfl hin rfl (by decide +kernel) rfl rfl (Nat.le_of_ble_eq_true rfl) rfl d_M_init_18 ?_
  refine v_aload_n h d_M_init_21 rfl ?_
  refine v_ldc (v := nI 65536) h d_M_init_22 k_210 (by decide) ?_
  refine v_newb h (by decide) (by decide) (by decide) d_M_init_24 (fun q => ?_)
  refine v_putF (C := "RequestCutterModel") (T := F_M) (N := 11) (ci := 2) (t0 := t_M) (ty := .array .byte) (ws' := [(q0, .inr (2, [.ref t, .ref i, .ref q, .null, .null, .int (nI 0), .int (nI 0), .int (nI 0), .int (nI 0), .int (nI 0), .int (nI 0)])), (t, .inl (cB, 10240, .inl (fun _ => 0))), (i, .inl (cB, 65536, .inl (fun _ => 0))), (q, .inl (cB, 65536, .inl (fun _ => 0)))]) h i_M t_M_ok n_M 0 rfl rfl 2 (by decide) k_213 rfl rfl hin rfl (by decide +kernel) rfl rfl (Nat.le_of_ble_eq_true rfl) rfl d_M_init_26 ?_
  refine v_aload_n h d_M_init_29 rfl ?_
  refine v_sipush (v := nI 1025) h d_M_init_30 (by decide) ?_
  refine v_newi h (by decide) (by decide) (by decide) d_M_init_33 (fun a => ?_)
  refine v_putF (C := "RequestCutterModel") (T := F_M) (N := 11) (ci := 2) (t0 := t_M) (ty := .array .int) (ws' := [(q0, .inr (2, [.ref t, .ref i, .ref q, .ref a, .null, .int (nI 0), .int (nI 0), .int (nI 0), .int (nI 0), .int (nI 0), .int (nI 0)])), (t, .inl (cB, 10240, .inl (fun _ => 0))), (i, .inl (cB, 65536, .inl (fun _ => 0))), (q, .inl (cB, 65536, .inl (fun _ => 0))), (a, .inl (cI, 1025, .inl (fun _ => 0)))]) h i_M t_M_ok n_M 0 rfl rfl 3 (by decide) k_214 rfl rfl hin rfl (by decide +kernel) rfl rfl (Nat.le_of_ble_eq_true rfl) rfl d_M_init_35 ?_
  refine v_aload_n h d_M_init_38 rfl ?_
  refine v_sipush (v := nI 1025) h d_M_init_39 (by decide) ?_
  refine v_newi h (by decide) (by decide) (by decide) d_M_init_42 (fun z => ?_)
  refine v_putF (C := "RequestCutterModel") (T := F_M) (N := 11) (ci := 2) (t0 := t_M) (ty := .array .int) (ws' := [(q0, .inr (2, [.ref t, .ref i, .ref q, .ref a, .ref z, .int (nI 0), .int (nI 0), .int (nI 0), .int (nI 0), .int (nI 0), .int (nI 0)])), (t, .inl (cB, 10240, .inl (fun _ => 0))), (i, .inl (cB, 65536, .inl (fun _ => 0))), (q, .inl (cB, 65536, .inl (fun _ => 0))), (a, .inl (cI, 1025, .inl (fun _ => 0))), (z, .inl (cI, 1025, .inl (fun _ => 0)))]) h i_M t_M_ok n_M 0 rfl rfl 4 (by decide) k_215 rfl rfl hin rfl (by decide +kernel) rfl rfl (Nat.le_of_ble_eq_true rfl) rfl d_M_init_44 ?_
  refine v_ws (ws' := wM cB cI (fun j => match j with | 0 => q0 | 1 => t | 2 => i | 3 => q | 4 => a | _ => z) (fun _ => 0) (fun _ => 0) (fun _ => 0) (fun _ => 0) (fun _ => 0) 0 0 0 0 0 0) rfl ?_
  exact v_vret h hr d_M_init_47 (fun j => match j with | 0 => q0 | 1 => t | 2 => i | 3 => q | 4 => a | _ => z) rfl rfl
end
section
def R_law : String := "RequestCutterLaw"
def lw_P (b : Addr) (xs : List Int32) (args : Array Value) (s : State) : Prop := args = #[.ref b] ∧ s.IntsAt b xs ∧ xs.length ≤ 3072 ∧ (Jvm.Cond.and given_1 narrow_1).before args s = true
def lw_Q (_ : Array Value) (s : State) (o : Outcome) (t : State) : Prop := o = .returned (some (.int 1)) ∧ Framed s o t [] 600000 7302249
def lw_Z (below : List Frame) (a : Array Value) (s : State) : State → Prop := fun t => ∃ o, t.status = .running ∧ Ended t below o ∧ lw_Q a s o t
/-- the law's own end, with 1 on the stack, nothing written that was there before, its room as the claim has it -/
theorem lw_ret {p : Program} {l : Launch} {e : Env} {s : State} {m : MethodId} {below : List Frame} {meth : Method} {c : Code} {b : Nat} (hx : p.tables.exec = Jvm.exec) (hb : c.code = code) (hr : meth.sig.returnType = ret) (hlocks : meth.locks = false) {pc : Nat} {H : Heap} {ls : Array Slot} (hdg : decode code pc = .ok (.ireturn, 1)) : W p l e room_1 s m #[Value.ref b] below meth c H [] 600000 7302249 (lw_Z below #[Value.ref b] s) (F0 m pc ls [.int 1]) := by
  intro T hT X
  obtain ⟨fs, hret, hrun, hended, hW, hframe⟩ := X.leave (v := some (.int 1)) (hlocks := hlocks) (fun h => by rw [hr] at h; cases h)
  have hmeth' : T.vm.method? m = some meth := X.method'
  refine ⟨T.setFrames fs, ?_, .returned (some (.int 1)), hrun, hended, rfl, ⟨_, rfl⟩, hW, hframe⟩
  jvm_step X.here [X.here.top, hx, hb, hdg, hmeth', hr, ret, narrow_b1]
  (try refine ⟨rfl, ?_⟩); (try refine ⟨rfl, ?_⟩)
  first | (intro acts; rw [hret _ acts rfl rfl rfl]) | rw [hret _ _ rfl rfl rfl]
  exact Steps.refl _
/-- what holds at the law's entry: the machine, the code, the tables' words (any of lw_tbl by 'hts w (by decide +kernel)'), the script of L ints xs at the cell b, what the Statement gives of the start (any of its parts by flat_of_before) -/
def lw_At (p : Program) (s : State) (m : MethodId) (meth : Method) (c : Code) (b L : Nat) (xs : Nat → Int32) : Prop :=
  p.tables.exec = Jvm.exec ∧ c.code = code ∧ meth.sig.returnType = ret ∧ c.maxLocals = 4 ∧ s.vm.findClass R_law = some m.cls ∧ (∀ w ∈ lw_tbl, w.before #[Value.ref b] s = true) ∧ va_X b L xs s s.heap ∧ b < s.heap.size ∧ meth.locks = false ∧ (Jvm.Cond.and given_1 narrow_1).before #[Value.ref b] s = true
/-- the script, as the law reads it -/
def Scr : Ev → Nat → Nat → (Nat → Int32) → Prop := fun (p, l, e, R, s, m, args, below, meth, c, Q, D, A, nL) b L xs => va_X b L xs s s.heap ∧ b < s.heap.size ∧ ¬ A b
/-- the law's own end -/
def LwE : Ev → Nat → Prop := fun (p, l, e, R, s, m, args, below, meth, c, Q, D, A, nL) b => args = #[Value.ref b] ∧ Q = lw_Z below #[Value.ref b] s ∧ meth.sig.returnType = ret ∧ meth.locks = false ∧ A = (fun q : Nat => s.heap.size ≤ q) ∧ R = room_1
section VLW
variable {E : Ev} {cc : ByteArray} {own : String} {rm : Room} {cB cI : ClassId} {ad : Nat → Nat} {k n pc : Nat} {ws : va_W} {lv : List (Option Value)} {st : List Value} {b L : Nat} {xs : Nat → Int32}
theorem v_sld {j : Nat} (h : Cx E cc own rm cB cI ad) (hS : Scr E b L xs ∧ L ≤ 3072) (hd : decode cc pc = .ok (.iaload, 1)) (kk : V E k n ws (pc + 1) lv (.int (xs j) :: st)) (hj : j < L := by omega) : V E k n ws pc lv (.int (nI j) :: .ref b :: st) := by
  obtain ⟨p, l, e, R, s, m, args, below, meth, c, Q, D, A, nL⟩ := E
  obtain ⟨hx, hb, hml, hown, hts, hK, hX, hA, hR⟩ := h
  obtain ⟨⟨hX1, hbl, hbA⟩, hL⟩ := hS
  intro H locs ls hP hD hSS hl
  refine va_sld hx hb hX1 hbl hbA hSS (vp_in_nI hj (by omega)) hd ?_
  rw [nI_clamp (by omega)]
  exact kk H locs ls hP hD hSS hl
theorem v_slen (h : Cx E cc own rm cB cI ad) (hS : Scr E b L xs ∧ L ≤ 3072) (hd : decode cc pc = .ok (.arraylength, 1)) (kk : V E k n ws (pc + 1) lv (.int (nI L) :: st)) : V E k n ws pc lv (.ref b :: st) := by
  obtain ⟨p, l, e, R, s, m, args, below, meth, c, Q, D, A, nL⟩ := E
  obtain ⟨hx, hb, hml, hown, hts, hK, hX, hA, hR⟩ := h
  obtain ⟨⟨hX1, hbl, hbA⟩, hL⟩ := hS
  intro H locs ls hP hD hSS hl
  exact va_slen hx hb hX1 hbl hbA hSS hd (kk H locs ls hP hD hSS hl)
theorem v_lret (h : Cx E code own rm cB cI ad) (hE : LwE E b) (hd : decode code pc = .ok (.ireturn, 1)) : V E 600000 7302249 ws pc lv [.int 1] := by
  obtain ⟨p, l, e, R, s, m, args, below, meth, c, Q, D, A, nL⟩ := E
  obtain ⟨hx, hb, hml, hown, hts, hK, hX, hA, hR⟩ := h
  obtain ⟨rfl, rfl, hr, hlk, rfl, rfl⟩ := hE
  intro H locs ls hP hD hSS hl
  refine va_forget (fun q hq => hSS.2.2 q hq) ?_
  exact lw_ret hx hb hr hlk hd
end VLW
/-- the words of both sides agree -/
def WR (wd : Nat) (A Z Kx F Lm Km : Nat → Int32) : Prop := ∀ j, j < wd → ∃ a f s : Nat, A j = nI a ∧ F j = nI f ∧ Z j = nI s ∧ Lm j = nI s ∧ a + s ≤ 65536 ∧ f + s ≤ 65536 ∧ ∀ b, b < s → Kx (a + b) = Km (f + b)
theorem WR.zero {A Z Kx F Lm Km : Nat → Int32} : WR 0 A Z Kx F Lm Km := fun j h => absurd h (Nat.not_lt_zero j)
theorem WR.size {wd : Nat} {A Z Kx F Lm Km : Nat → Int32} (h : WR wd A Z Kx F Lm Km) (hw : wd ≤ 1024) (x : Int32) : sizeR wd Z x = sizeR wd Lm x := by
  by_cases h0 : x < 0
  · rw [sizeR_neg h0, sizeR_neg h0]
  · obtain ⟨j, hj, rfl⟩ := nI_of h0
    rcases Nat.lt_or_ge j wd with q | q
    · obtain ⟨a, f, s, -, -, h3, h4, -⟩ := h j q
      rw [sizeR_in (by omega) q, sizeR_in (by omega) q, h3, h4]
    · rw [sizeR_out hj q, sizeR_out hj q]
theorem WR.byte {wd : Nat} {A Z Kx F Lm Km : Nat → Int32} (h : WR wd A Z Kx F Lm Km) (hw : wd ≤ 1024) (x y : Int32) : byR wd A Z Kx x y = byR wd F Lm Km x y := by
  by_cases h0 : x < 0
  · rw [byR_x0 h0, byR_x0 h0]
  · obtain ⟨j, hj, rfl⟩ := nI_of h0
    rcases Nat.lt_or_ge j wd with q | q
    · obtain ⟨a, f, s, h1, h2, h3, h4, h5, h6, h7⟩ := h j q
      by_cases y0 : y < 0
      · rw [byR_y0 y0, byR_y0 y0]
      · obtain ⟨i, hi, rfl⟩ := nI_of y0
        rcases Nat.lt_or_ge i s with z | z
        · rw [byR_in (by omega) q (by omega) (by omega) h1 h3 z, byR_in (by omega) q (by omega) (by omega) h2 h4 z, h7 i z]
        · rw [byR_y1 hj hi h3 z, byR_y1 hj hi h4 z]
    · rw [byR_x1 hj q, byR_x1 hj q]
theorem WR.x {wd : Nat} {A Z Kx F Lm Km : Nat → Int32} (h : WR wd A Z Kx F Lm Km) : ∀ j, j < wd → ∃ a s : Nat, A j = nI a ∧ Z j = nI s ∧ a + s ≤ 65536 := fun j hj => by
  obtain ⟨a, f, s, h1, h2, h3, h4, h5, h6, h7⟩ := h j hj
  exact ⟨a, s, h1, h3, h5⟩
theorem WR.m {wd : Nat} {A Z Kx F Lm Km : Nat → Int32} (h : WR wd A Z Kx F Lm Km) : ∀ j, j < wd → ∃ a s : Nat, F j = nI a ∧ Lm j = nI s ∧ a + s ≤ 65536 := fun j hj => by
  obtain ⟨a, f, s, h1, h2, h3, h4, h5, h6, h7⟩ := h j hj
  exact ⟨f, s, h2, h4, h6⟩
theorem WR.cut {N en n : Nat} {I A Z Kx F Lm Km : Nat → Int32} {wh z : Nat → Nat} (h1 : CK A Z wh z N) (h2 : ∀ j, j < N → wh j + z j ≤ en) (h3 : en ≤ n) (h4 : n ≤ 65536) (h5 : sumZ z N ≤ 65536) (h6 : MK I Km F Lm wh z N) : WR N A Z (va_cpy I Kx 0 0 en) F Lm Km := fun j hj => by
  obtain ⟨c1, c2⟩ := h1 j hj
  obtain ⟨m1, m2, m3, m4⟩ := h6 j hj
  have := h2 j hj
  refine ⟨wh j, sumZ z j, z j, c1, m1, c2, m2, by omega, by omega, fun b hb => ?_⟩
  rw [pk_cpy_in (Nat.zero_le _) (by omega), m4 b hb]
  congr 1
  omega
theorem feedN_le {len : Nat} (h : len ≤ 10240) : feedN len ≤ 10240 := by
  unfold feedN
  split
  · assumption
  · exact h
theorem arrN_le {len many : Nat} (h : many ≤ 65536) : arrN len many ≤ 65536 := by
  unfold arrN
  split
  · assumption
  · exact h
theorem B8.arr {T I : Nat → Int32} {len many : Nat} (hT : B8 T) (hI : B8 I) : B8 (arrI T I len many) := by
  unfold arrI
  split
  · exact hT.cpy hI
  · exact hI
theorem B8.drp {I : Nat → Int32} {many : Nat} {x : Int32} (hI : B8 I) : B8 (drpI I many x) := by
  unfold drpI
  split
  · exact hI.cpy hI
  · exact hI
theorem drpN_le {many : Nat} {x : Int32} (h : many ≤ 65536) : drpN many x ≤ 65536 := by
  unfold drpN
  split
  · omega
  · exact h
set_option maxHeartbeats 4000000 in
/-- THE LAW'S LOOP: at its head both sides agree -/
theorem law_loop {E : Ev} {cB cI : ClassId} {ad gx gm : Nat → Nat} {b L : Nat} {xs : Nat → Int32} (h : Cx E code "RequestCutterLaw" room_1 cB cI ad) (hS : Scr E b L xs ∧ L ≤ 3072) (hE : LwE E b) : ∀ (d i : Nat), i ≤ L → L + 1 ≤ i + d → ∀ (T : Nat → Int32) (len : Nat) (I : Nat → Int32) (many : Nat) (K : Nat → Int32) (wd ft : Nat) (at_ sz : Nat → Int32) (cw ce : Nat) (cf : Value) (cn : Int32) (Km F Lm : Nat → Int32) (ks atm : Nat), len ≤ 10240 → many ≤ 65536 → B8 T → B8 I → wd ≤ 1024 → WR wd at_ sz K F Lm Km → V E 600000 7302249 ((wX cB cI gx T len I many K wd ft at_ sz cw ce cf cn) ++ (wM cB cI gm T I Km F Lm len many wd ks ft atm)) 18 [some (.ref b), some (.ref (gx 0)), some (.ref (gm 0)), some (.int (nI i))] [] := by
  have hL3 := hS.2
  intro d
  induction d with
  | zero => intro i h1 h2; omega
  | succ d ih =>
    intro i hi hd T len I many K wd ft at_ sz cw ce cf cn Km F Lm ks atm hlen hmany hT hI hwd hWR
    have out : V E 600000 7302249 ((wX cB cI gx T len I many K wd ft at_ sz cw ce cf cn) ++ (wM cB cI gm T I Km F Lm len many wd ks ft atm)) 307 [some (.ref b), some (.ref (gx 0)), some (.ref (gm 0)), some (.int (nI i))] [] := by
      refine v_iconst (v := nI 1) h d_L_law_307 (by decide) ?_
      exact v_lret h hE d_L_law_308
    have body : i + 6 ≤ L → V E 600000 7302249 ((wX cB cI gx T len I many K wd ft at_ sz cw ce cf cn) ++ (wM cB cI gm T I Km F Lm len many wd ks ft atm)) 27 [some (.ref b), some (.ref (gx 0)), some (.ref (gm 0)), some (.int (nI i))] [] := by
      intro hi6
      have K301 : ∀ (T : Nat → Int32) (len : Nat) (I : Nat → Int32) (many : Nat) (K : Nat → Int32) (wd ft : Nat) (at_ sz : Nat → Int32) (cw ce : Nat) (cf : Value) (cn : Int32) (Km F Lm : Nat → Int32) (ks atm : Nat), len ≤ 10240 → many ≤ 65536 → B8 T → B8 I → wd ≤ 1024 → WR wd at_ sz K F Lm Km → V E 600000 7302249 ((wX cB cI gx T len I many K wd ft at_ sz cw ce cf cn) ++ (wM cB cI gm T I Km F Lm len many wd ks ft atm)) 301 [some (.ref b), some (.ref (gx 0)), some (.ref (gm 0)), some (.int (nI i))] [] := by
        intro T len I many K wd ft at_ sz cw ce cf cn Km F Lm ks atm hlen hmany hT hI hwd hWR
        refine v_iinc (v := nI (i + 6)) (lv' := [_, _, _, _]) h d_L_law_301 rfl (by rw [show Int32.ofInt 6 = nI 6 by decide, nI_add]) rfl ?_
        refine v_goto 18 h d_L_law_304 (by decide) ?_
        exact ih (i + 6) (by omega) (by omega) T len I many K wd ft at_ sz cw ce cf cn Km F Lm ks atm hlen hmany hT hI hwd hWR
      refine v_aload_n h d_L_law_27 rfl ?_
      refine v_iload_n h d_L_law_28 rfl ?_
      refine v_sld h hS d_L_law_29 ?_
      refine v_bipush (v := nI 15) h d_L_law_30 (by decide) ?_
      refine v_iand h d_L_law_32 ?_
      obtain ⟨j, hj, ej⟩ := pk_andE (xs i) (m := nI 15) 4 (by decide)
      refine v_topi ej ?_
      rcases (show j = 0 ∨ j = 1 ∨ j = 2 ∨ j = 3 ∨ j = 4 ∨ j = 5 ∨ j = 6 ∨ j = 7 ∨ j = 8 ∨ 9 ≤ j by omega) with rfl | rfl | rfl | rfl | rfl | rfl | rfl | rfl | rfl | h9
      · refine v_tabIn (off := 51) 84 h d_L_law_33 (by decide) (by decide) (by decide) (by decide) ?_
        refine v_aload_n h d_L_law_84 rfl ?_
        refine v_aload_n h d_L_law_85 rfl ?_
        refine v_iload_n h d_L_law_86 rfl ?_
        refine v_iconst (v := nI 1) h d_L_law_87 (by decide) ?_
        refine v_iaddN h d_L_law_88 ?_
        refine v_sld h hS d_L_law_89 ?_
        refine v_aload_n h d_L_law_90 rfl ?_
        refine v_iload_n h d_L_law_91 rfl ?_
        refine v_iconst (v := nI 2) h d_L_law_92 (by decide) ?_
        refine v_iaddN h d_L_law_93 ?_
        refine v_sld h hS d_L_law_94 ?_
        refine v_aload_n h d_L_law_95 rfl ?_
        refine v_iload_n h d_L_law_96 rfl ?_
        refine v_iconst (v := nI 3) h d_L_law_97 (by decide) ?_
        refine v_iaddN h d_L_law_98 ?_
        refine v_sld h hS d_L_law_99 ?_
        refine v_aload_n h d_L_law_100 rfl ?_
        refine v_iload_n h d_L_law_101 rfl ?_
        refine v_iconst (v := nI 4) h d_L_law_102 (by decide) ?_
        refine v_iaddN h d_L_law_103 ?_
        refine v_sld h hS d_L_law_104 ?_
        refine v_aload_n h d_L_law_105 rfl ?_
        refine v_iload_n h d_L_law_106 rfl ?_
        refine v_iconst (v := nI 5) h d_L_law_107 (by decide) ?_
        refine v_iaddN h d_L_law_108 ?_
        refine v_sld h hS d_L_law_109 ?_
        refine v_callI (wc := (wX cB cI gx T len I many K wd ft at_ sz cw ce cf cn)) (wr := (wM cB cI gm T I Km F Lm len many wd ks ft atm)) (As := [.int (xs (i + 1)), .int (xs (i + 2)), .int (xs (i + 3)), .int (xs (i + 4)), .int (xs (i + 5))]) (st := []) h (show LkV "RequestCutterLaw" 13 "RequestCutter" ⟨"RequestCutter", "feed", "(IIIII)Z"⟩ prog_1_method_2_code 8 (some .boolean) 5 from ⟨k_76, k_77, k_78, k_1, k_79, by decide +kernel⟩) (fun l D => c_X_feed l D (xs (i + 1)) (xs (i + 2)) (xs (i + 3)) (xs (i + 4)) (xs (i + 5)) hlen) [0, 1, 2, 3, 4, 5, 6] [7, 8, 9, 10, 11, 12] rfl rfl (by decide) (by decide) (by decide) (ci := 0) rfl rfl rfl rfl rfl (by decide) rfl (Nat.le_of_ble_eq_true rfl) (by decide) (by decide) d_L_law_110 rfl (fun r1_ u1 hp1 => ?_)
        obtain ⟨e1, e2⟩ := hp1
        subst e2
        refine v_ws (ws' := (wM cB cI gm T I Km F Lm len many wd ks ft atm) ++ (wX cB cI gx (feedT T len (fw (xs (i + 1)) (xs (i + 2)) (xs (i + 3)) (xs (i + 4)) (xs (i + 5)))) (feedN len) I many K wd ft at_ sz cw ce cf cn)) rfl ?_
        refine v_aload_n h d_L_law_113 rfl ?_
        refine v_aload_n h d_L_law_114 rfl ?_
        refine v_iload_n h d_L_law_115 rfl ?_
        refine v_iconst (v := nI 1) h d_L_law_116 (by decide) ?_
        refine v_iaddN h d_L_law_117 ?_
        refine v_sld h hS d_L_law_118 ?_
        refine v_aload_n h d_L_law_119 rfl ?_
        refine v_iload_n h d_L_law_120 rfl ?_
        refine v_iconst (v := nI 2) h d_L_law_121 (by decide) ?_
        refine v_iaddN h d_L_law_122 ?_
        refine v_sld h hS d_L_law_123 ?_
        refine v_aload_n h d_L_law_124 rfl ?_
        refine v_iload_n h d_L_law_125 rfl ?_
        refine v_iconst (v := nI 3) h d_L_law_126 (by decide) ?_
        refine v_iaddN h d_L_law_127 ?_
        refine v_sld h hS d_L_law_128 ?_
        refine v_aload_n h d_L_law_129 rfl ?_
        refine v_iload_n h d_L_law_130 rfl ?_
        refine v_iconst (v := nI 4) h d_L_law_131 (by decide) ?_
        refine v_iaddN h d_L_law_132 ?_
        refine v_sld h hS d_L_law_133 ?_
        refine v_aload_n h d_L_law_134 rfl ?_
        refine v_iload_n h d_L_law_135 rfl ?_
        refine v_iconst (v := nI 5) h d_L_law_136 (by decide) ?_
        refine v_iaddN h d_L_law_137 ?_
        refine v_sld h hS d_L_law_138 ?_
        refine v_callI (wc := (wM cB cI gm T I Km F Lm len many wd ks ft atm)) (wr := (wX cB cI gx (feedT T len (fw (xs (i + 1)) (xs (i + 2)) (xs (i + 3)) (xs (i + 4)) (xs (i + 5)))) (feedN len) I many K wd ft at_ sz cw ce cf cn)) (As := [.int (xs (i + 1)), .int (xs (i + 2)), .int (xs (i + 3)), .int (xs (i + 4)), .int (xs (i + 5))]) (st := [.int r1_]) h (show LkV "RequestCutterLaw" 17 "RequestCutterModel" ⟨"RequestCutterModel", "feed", "(IIIII)Z"⟩ prog_4_method_3_code 6 (some .boolean) 5 from ⟨k_245, k_246, k_247, k_3, k_248, by decide +kernel⟩) (fun l D => c_M_feed l D (xs (i + 1)) (xs (i + 2)) (xs (i + 3)) (xs (i + 4)) (xs (i + 5)) hlen) [0, 1, 2, 3, 4, 5] [6, 7, 8, 9, 10, 11, 12] rfl rfl (by decide) (by decide) (by decide) (ci := 2) rfl rfl rfl rfl rfl (by decide) rfl (Nat.le_of_ble_eq_true rfl) (by decide) (by decide) d_L_law_139 rfl (fun r2_ u2 hp2 => ?_)
        obtain ⟨e3, e4⟩ := hp2
        subst e4
        refine v_ws (ws' := (wX cB cI gx (feedT T len (fw (xs (i + 1)) (xs (i + 2)) (xs (i + 3)) (xs (i + 4)) (xs (i + 5)))) (feedN len) I many K wd ft at_ sz cw ce cf cn) ++ (wM cB cI gm (feedT T len (fw (xs (i + 1)) (xs (i + 2)) (xs (i + 3)) (xs (i + 4)) (xs (i + 5)))) I Km F Lm (feedN len) many wd ks ft atm)) rfl ?_
        refine v_icmp_eq 301 h d_L_law_142 (by decide) (fun q142 => ?_) (fun q142 => ?_)
        · exact K301 _ _ _ _ _ _ _ _ _ _ _ _ _ _ _ _ _ _ (feedN_le hlen) hmany hT.feed hI hwd hWR
        · exact absurd (e1.trans e3.symm) q142
      · refine v_tabIn (off := 114) 147 h d_L_law_33 (by decide) (by decide) (by decide) (by decide) ?_
        refine v_aload_n h d_L_law_147 rfl ?_
        refine v_aload_n h d_L_law_148 rfl ?_
        refine v_iload_n h d_L_law_149 rfl ?_
        refine v_iconst (v := nI 1) h d_L_law_150 (by decide) ?_
        refine v_iaddN h d_L_law_151 ?_
        refine v_sld h hS d_L_law_152 ?_
        refine v_callI (wc := (wX cB cI gx T len I many K wd ft at_ sz cw ce cf cn)) (wr := (wM cB cI gm T I Km F Lm len many wd ks ft atm)) (As := [.int (xs (i + 1))]) (st := []) h (show LkV "RequestCutterLaw" 18 "RequestCutter" ⟨"RequestCutter", "end", "(I)Z"⟩ prog_1_method_3_code 2 (some .boolean) 1 from ⟨k_80, k_81, k_82, k_1, k_83, by decide +kernel⟩) (fun l D => c_X_end l D (xs (i + 1)) hlen) [0, 1, 2, 3, 4, 5, 6] [7, 8, 9, 10, 11, 12] rfl rfl (by decide) (by decide) (by decide) (ci := 0) rfl rfl rfl rfl rfl (by decide) rfl (Nat.le_of_ble_eq_true rfl) (by decide) (by decide) d_L_law_153 rfl (fun r1_ u1 hp1 => ?_)
        obtain ⟨e1, e2⟩ := hp1
        subst e2
        refine v_ws (ws' := (wM cB cI gm T I Km F Lm len many wd ks ft atm) ++ (wX cB cI gx T (endN len (xs (i + 1))) I many K wd ft at_ sz cw ce cf cn)) rfl ?_
        refine v_aload_n h d_L_law_156 rfl ?_
        refine v_aload_n h d_L_law_157 rfl ?_
        refine v_iload_n h d_L_law_158 rfl ?_
        refine v_iconst (v := nI 1) h d_L_law_159 (by decide) ?_
        refine v_iaddN h d_L_law_160 ?_
        refine v_sld h hS d_L_law_161 ?_
        refine v_callI (wc := (wM cB cI gm T I Km F Lm len many wd ks ft atm)) (wr := (wX cB cI gx T (endN len (xs (i + 1))) I many K wd ft at_ sz cw ce cf cn)) (As := [.int (xs (i + 1))]) (st := [.int r1_]) h (show LkV "RequestCutterLaw" 22 "RequestCutterModel" ⟨"RequestCutterModel", "end", "(I)Z"⟩ prog_4_method_4_code 2 (some .boolean) 1 from ⟨k_253, k_254, k_255, k_3, k_256, by decide +kernel⟩) (fun l D => c_M_end l D (xs (i + 1)) hlen) [0, 1, 2, 3, 4, 5] [6, 7, 8, 9, 10, 11, 12] rfl rfl (by decide) (by decide) (by decide) (ci := 2) rfl rfl rfl rfl rfl (by decide) rfl (Nat.le_of_ble_eq_true rfl) (by decide) (by decide) d_L_law_162 rfl (fun r2_ u2 hp2 => ?_)
        obtain ⟨e3, e4⟩ := hp2
        subst e4
        refine v_ws (ws' := (wX cB cI gx T (endN len (xs (i + 1))) I many K wd ft at_ sz cw ce cf cn) ++ (wM cB cI gm T I Km F Lm (endN len (xs (i + 1))) many wd ks ft atm)) rfl ?_
        refine v_icmp_eq 301 h d_L_law_165 (by decide) (fun q165 => ?_) (fun q165 => ?_)
        · exact K301 _ _ _ _ _ _ _ _ _ _ _ _ _ _ _ _ _ _ (Nat.le_trans (endN_le (by omega)) hlen) hmany hT hI hwd hWR
        · exact absurd (e1.trans e3.symm) q165
      · refine v_tabIn (off := 137) 170 h d_L_law_33 (by decide) (by decide) (by decide) (by decide) ?_
        refine v_aload_n h d_L_law_170 rfl ?_
        refine v_callI (wc := (wX cB cI gx T len I many K wd ft at_ sz cw ce cf cn)) (wr := (wM cB cI gm T I Km F Lm len many wd ks ft atm)) (As := []) (st := []) h (show LkV "RequestCutterLaw" 23 "RequestCutter" ⟨"RequestCutter", "arrive", "()I"⟩ prog_1_method_4_code 2 (some .int) 0 from ⟨k_84, k_85, k_86, k_1, k_87, by decide +kernel⟩) (fun l D => c_X_arrive l D hlen hmany hT) [0, 1, 2, 3, 4, 5, 6] [7, 8, 9, 10, 11, 12] rfl rfl (by decide) (by decide) (by decide) (ci := 0) rfl rfl rfl rfl rfl (by decide) rfl (Nat.le_of_ble_eq_true rfl) (by decide) (by decide) d_L_law_171 rfl (fun r1_ u1 hp1 => ?_)
        obtain ⟨e1, e2⟩ := hp1
        subst e2
        refine v_ws (ws' := (wM cB cI gm T I Km F Lm len many wd ks ft atm) ++ (wX cB cI gx T 0 (arrI T I len many) (arrN len many) K wd ft at_ sz cw ce cf cn)) rfl ?_
        refine v_aload_n h d_L_law_174 rfl ?_
        refine v_callI (wc := (wM cB cI gm T I Km F Lm len many wd ks ft atm)) (wr := (wX cB cI gx T 0 (arrI T I len many) (arrN len many) K wd ft at_ sz cw ce cf cn)) (As := []) (st := [.int r1_]) h (show LkV "RequestCutterLaw" 27 "RequestCutterModel" ⟨"RequestCutterModel", "arrive", "()I"⟩ prog_4_method_5_code 3 (some .int) 0 from ⟨k_257, k_258, k_259, k_3, k_260, by decide +kernel⟩) (fun l D => c_M_arrive l D hlen hmany hT) [0, 1, 2, 3, 4, 5] [6, 7, 8, 9, 10, 11, 12] rfl rfl (by decide) (by decide) (by decide) (ci := 2) rfl rfl rfl rfl rfl (by decide) rfl (Nat.le_of_ble_eq_true rfl) (by decide) (by decide) d_L_law_175 rfl (fun r2_ u2 hp2 => ?_)
        obtain ⟨e3, e4⟩ := hp2
        subst e4
        refine v_ws (ws' := (wX cB cI gx T 0 (arrI T I len many) (arrN len many) K wd ft at_ sz cw ce cf cn) ++ (wM cB cI gm T (arrI T I len many) Km F Lm 0 (arrN len many) wd ks ft atm)) rfl ?_
        refine v_icmp_eq 301 h d_L_law_178 (by decide) (fun q178 => ?_) (fun q178 => ?_)
        · exact K301 _ _ _ _ _ _ _ _ _ _ _ _ _ _ _ _ _ _ (by decide) (arrN_le hmany) hT (hT.arr hI) hwd hWR
        · exact absurd (e1.trans e3.symm) q178
      · refine v_tabIn (off := 150) 183 h d_L_law_33 (by decide) (by decide) (by decide) (by decide) ?_
        refine v_aload_n h d_L_law_183 rfl ?_
        refine v_callI (wc := (wX cB cI gx T len I many K wd ft at_ sz cw ce cf cn)) (wr := (wM cB cI gm T I Km F Lm len many wd ks ft atm)) (As := []) (st := []) h (show LkV "RequestCutterLaw" 28 "RequestCutter" ⟨"RequestCutter", "cut", "()I"⟩ prog_1_method_5_code 3 (some .int) 0 from ⟨k_91, k_92, k_93, k_1, k_94, by decide +kernel⟩) (fun l D => c_X_cut l D hI hmany) [0, 1, 2, 3, 4, 5, 6] [7, 8, 9, 10, 11, 12] rfl rfl (by decide) (by decide) (by decide) (ci := 0) rfl rfl rfl rfl rfl (by decide) rfl (Nat.le_of_ble_eq_true rfl) (by decide) (by decide) d_L_law_184 rfl (fun r1_ u1 hp1 => ?_)
        obtain ⟨I1, many1, K1, wd1, ft1, at1, sz1, cw1, ce1, cf1, cn1⟩ := u1
        refine v_ws (ws' := (wM cB cI gm T I Km F Lm len many wd ks ft atm) ++ (wX cB cI gx T len I1 many1 K1 wd1 ft1 at1 sz1 cw1 ce1 cf1 cn1)) rfl ?_
        refine v_aload_n h d_L_law_187 rfl ?_
        refine v_callI (wc := (wM cB cI gm T I Km F Lm len many wd ks ft atm)) (wr := (wX cB cI gx T len I1 many1 K1 wd1 ft1 at1 sz1 cw1 ce1 cf1 cn1)) (As := []) (st := [.int r1_]) h (show LkV "RequestCutterLaw" 31 "RequestCutterModel" ⟨"RequestCutterModel", "cut", "()I"⟩ prog_4_method_14_code 2 (some .int) 0 from ⟨k_269, k_270, k_271, k_3, k_272, by decide +kernel⟩) (fun l D => c_M_cut l D hmany hI) [0, 1, 2, 3, 4, 5] [6, 7, 8, 9, 10, 11, 12] rfl rfl (by decide) (by decide) (by decide) (ci := 2) rfl rfl rfl rfl rfl (by decide) rfl (Nat.le_of_ble_eq_true rfl) (by decide) (by decide) d_L_law_188 rfl (fun r2_ u2 hp2 => ?_)
        obtain ⟨I2, Km2, F2, L2, wt2, wd2, ks2, ft2, at2⟩ := u2
        refine v_ws (ws' := (wX cB cI gx T len I1 many1 K1 wd1 ft1 at1 sz1 cw1 ce1 cf1 cn1) ++ (wM cB cI gm T I2 Km2 F2 L2 len wt2 wd2 ks2 ft2 at2)) rfl ?_
        rcases hp1 with ⟨a1, a2, a3, a4, a5, a6, a7, a8, a9, a10, a11⟩ | ⟨a1, a2, a3, a4, a5, a6⟩
        · rcases hp2 with ⟨b1, b2, b3, b4, b5, b6, b7, b8, b9, b10⟩ | ⟨b1, b2, b3, b4, b5, b6⟩
          · dsimp only at a3 a4 a5 a6 a7 a10 b3 b4 b5 b6 b10
            subst a3 a4 a5 a6 a7 b3 b4 b5 b6
            refine v_icmp_eq 301 h d_L_law_191 (by decide) (fun q191 => ?_) (fun q191 => ?_)
            · exact K301 _ _ _ _ _ _ _ _ _ _ _ _ _ _ _ _ _ _ hlen (by omega) hT (hI.cpy hI) a9 (WR.cut a10 a11 a8 hmany b9 b10)
            · exact absurd (a2.trans b2.symm) q191
          · exact absurd a1 b1
        · rcases hp2 with ⟨b1, b2, b3, b4, b5, b6, b7, b8, b9, b10⟩ | ⟨b1, b2, b3, b4, b5, b6⟩
          · exact absurd b1 a1
          · dsimp only at a3 a4 a5 a6 b3 b4 b5 b6
            subst a3 a4 a5 a6 b3 b4 b5 b6
            refine v_icmp_eq 301 h d_L_law_191 (by decide) (fun q191 => ?_) (fun q191 => ?_)
            · exact K301 _ _ _ _ _ _ _ _ _ _ _ _ _ _ _ _ _ _ hlen hmany hT hI (by omega) WR.zero
            · exact absurd (a2.trans b2.symm) q191
      · refine v_tabIn (off := 163) 196 h d_L_law_33 (by decide) (by decide) (by decide) (by decide) ?_
        refine v_aload_n h d_L_law_196 rfl ?_
        refine v_callI (wc := (wX cB cI gx T len I many K wd ft at_ sz cw ce cf cn)) (wr := (wM cB cI gm T I Km F Lm len many wd ks ft atm)) (As := []) (st := []) h (show LkV "RequestCutterLaw" 32 "RequestCutter" ⟨"RequestCutter", "fault", "()I"⟩ prog_1_method_6_code 1 (some .int) 0 from ⟨k_187, k_188, k_189, k_1, k_190, by decide +kernel⟩) (fun l D => c_X_fault l D) [0, 1, 2, 3, 4, 5, 6] [7, 8, 9, 10, 11, 12] rfl rfl (by decide) (by decide) (by decide) (ci := 0) rfl rfl rfl rfl rfl (by decide) rfl (Nat.le_of_ble_eq_true rfl) (by decide) (by decide) d_L_law_197 rfl (fun r1_ u1 hp1 => ?_)
        have e1 := hp1
        refine v_ws (ws' := (wM cB cI gm T I Km F Lm len many wd ks ft atm) ++ (wX cB cI gx T len I many K wd ft at_ sz cw ce cf cn)) rfl ?_
        refine v_aload_n h d_L_law_200 rfl ?_
        refine v_callI (wc := (wM cB cI gm T I Km F Lm len many wd ks ft atm)) (wr := (wX cB cI gx T len I many K wd ft at_ sz cw ce cf cn)) (As := []) (st := [.int r1_]) h (show LkV "RequestCutterLaw" 35 "RequestCutterModel" ⟨"RequestCutterModel", "fault", "()I"⟩ prog_4_method_15_code 1 (some .int) 0 from ⟨k_299, k_300, k_301, k_3, k_302, by decide +kernel⟩) (fun l D => c_M_fault l D) [0, 1, 2, 3, 4, 5] [6, 7, 8, 9, 10, 11, 12] rfl rfl (by decide) (by decide) (by decide) (ci := 2) rfl rfl rfl rfl rfl (by decide) rfl (Nat.le_of_ble_eq_true rfl) (by decide) (by decide) d_L_law_201 rfl (fun r2_ u2 hp2 => ?_)
        have e3 := hp2
        refine v_ws (ws' := (wX cB cI gx T len I many K wd ft at_ sz cw ce cf cn) ++ (wM cB cI gm T I Km F Lm len many wd ks ft atm)) rfl ?_
        refine v_icmp_eq 301 h d_L_law_204 (by decide) (fun q204 => ?_) (fun q204 => ?_)
        · exact K301 _ _ _ _ _ _ _ _ _ _ _ _ _ _ _ _ _ _ hlen hmany hT hI hwd hWR
        · exact absurd (e1.trans e3.symm) q204
      · refine v_tabIn (off := 176) 209 h d_L_law_33 (by decide) (by decide) (by decide) (by decide) ?_
        refine v_aload_n h d_L_law_209 rfl ?_
        refine v_aload_n h d_L_law_210 rfl ?_
        refine v_iload_n h d_L_law_211 rfl ?_
        refine v_iconst (v := nI 1) h d_L_law_212 (by decide) ?_
        refine v_iaddN h d_L_law_213 ?_
        refine v_sld h hS d_L_law_214 ?_
        refine v_callI (wc := (wX cB cI gx T len I many K wd ft at_ sz cw ce cf cn)) (wr := (wM cB cI gm T I Km F Lm len many wd ks ft atm)) (As := [.int (xs (i + 1))]) (st := []) h (show LkV "RequestCutterLaw" 36 "RequestCutter" ⟨"RequestCutter", "size", "(I)I"⟩ prog_1_method_7_code 2 (some .int) 1 from ⟨k_191, k_192, k_193, k_1, k_194, by decide +kernel⟩) (fun l D => c_X_size l D (xs (i + 1)) (by omega)) [0, 1, 2, 3, 4, 5, 6] [7, 8, 9, 10, 11, 12] rfl rfl (by decide) (by decide) (by decide) (ci := 0) rfl rfl rfl rfl rfl (by decide) rfl (Nat.le_of_ble_eq_true rfl) (by decide) (by decide) d_L_law_215 rfl (fun r1_ u1 hp1 => ?_)
        have e1 := hp1
        refine v_ws (ws' := (wM cB cI gm T I Km F Lm len many wd ks ft atm) ++ (wX cB cI gx T len I many K wd ft at_ sz cw ce cf cn)) rfl ?_
        refine v_aload_n h d_L_law_218 rfl ?_
        refine v_aload_n h d_L_law_219 rfl ?_
        refine v_iload_n h d_L_law_220 rfl ?_
        refine v_iconst (v := nI 1) h d_L_law_221 (by decide) ?_
        refine v_iaddN h d_L_law_222 ?_
        refine v_sld h hS d_L_law_223 ?_
        refine v_callI (wc := (wM cB cI gm T I Km F Lm len many wd ks ft atm)) (wr := (wX cB cI gx T len I many K wd ft at_ sz cw ce cf cn)) (As := [.int (xs (i + 1))]) (st := [.int r1_]) h (show LkV "RequestCutterLaw" 40 "RequestCutterModel" ⟨"RequestCutterModel", "size", "(I)I"⟩ prog_4_method_16_code 2 (some .int) 1 from ⟨k_303, k_304, k_305, k_3, k_306, by decide +kernel⟩) (fun l D => c_M_size l D (xs (i + 1)) (by omega)) [0, 1, 2, 3, 4, 5] [6, 7, 8, 9, 10, 11, 12] rfl rfl (by decide) (by decide) (by decide) (ci := 2) rfl rfl rfl rfl rfl (by decide) rfl (Nat.le_of_ble_eq_true rfl) (by decide) (by decide) d_L_law_224 rfl (fun r2_ u2 hp2 => ?_)
        have e3 := hp2
        refine v_ws (ws' := (wX cB cI gx T len I many K wd ft at_ sz cw ce cf cn) ++ (wM cB cI gm T I Km F Lm len many wd ks ft atm)) rfl ?_
        refine v_icmp_eq 301 h d_L_law_227 (by decide) (fun q227 => ?_) (fun q227 => ?_)
        · exact K301 _ _ _ _ _ _ _ _ _ _ _ _ _ _ _ _ _ _ hlen hmany hT hI hwd hWR
        · exact absurd ((e1.trans (hWR.size hwd _)).trans e3.symm) q227
      · refine v_tabIn (off := 199) 232 h d_L_law_33 (by decide) (by decide) (by decide) (by decide) ?_
        refine v_aload_n h d_L_law_232 rfl ?_
        refine v_aload_n h d_L_law_233 rfl ?_
        refine v_iload_n h d_L_law_234 rfl ?_
        refine v_iconst (v := nI 1) h d_L_law_235 (by decide) ?_
        refine v_iaddN h d_L_law_236 ?_
        refine v_sld h hS d_L_law_237 ?_
        refine v_aload_n h d_L_law_238 rfl ?_
        refine v_iload_n h d_L_law_239 rfl ?_
        refine v_iconst (v := nI 2) h d_L_law_240 (by decide) ?_
        refine v_iaddN h d_L_law_241 ?_
        refine v_sld h hS d_L_law_242 ?_
        refine v_callI (wc := (wX cB cI gx T len I many K wd ft at_ sz cw ce cf cn)) (wr := (wM cB cI gm T I Km F Lm len many wd ks ft atm)) (As := [.int (xs (i + 1)), .int (xs (i + 2))]) (st := []) h (show LkV "RequestCutterLaw" 41 "RequestCutter" ⟨"RequestCutter", "byteOf", "(II)I"⟩ prog_1_method_8_code 3 (some .int) 2 from ⟨k_195, k_196, k_197, k_1, k_198, by decide +kernel⟩) (fun l D => c_X_byteOf l D (xs (i + 1)) (xs (i + 2)) (by omega) hWR.x) [0, 1, 2, 3, 4, 5, 6] [7, 8, 9, 10, 11, 12] rfl rfl (by decide) (by decide) (by decide) (ci := 0) rfl rfl rfl rfl rfl (by decide) rfl (Nat.le_of_ble_eq_true rfl) (by decide) (by decide) d_L_law_243 rfl (fun r1_ u1 hp1 => ?_)
        have e1 := hp1
        refine v_ws (ws' := (wM cB cI gm T I Km F Lm len many wd ks ft atm) ++ (wX cB cI gx T len I many K wd ft at_ sz cw ce cf cn)) rfl ?_
        refine v_aload_n h d_L_law_246 rfl ?_
        refine v_aload_n h d_L_law_247 rfl ?_
        refine v_iload_n h d_L_law_248 rfl ?_
        refine v_iconst (v := nI 1) h d_L_law_249 (by decide) ?_
        refine v_iaddN h d_L_law_250 ?_
        refine v_sld h hS d_L_law_251 ?_
        refine v_aload_n h d_L_law_252 rfl ?_
        refine v_iload_n h d_L_law_253 rfl ?_
        refine v_iconst (v := nI 2) h d_L_law_254 (by decide) ?_
        refine v_iaddN h d_L_law_255 ?_
        refine v_sld h hS d_L_law_256 ?_
        refine v_callI (wc := (wM cB cI gm T I Km F Lm len many wd ks ft atm)) (wr := (wX cB cI gx T len I many K wd ft at_ sz cw ce cf cn)) (As := [.int (xs (i + 1)), .int (xs (i + 2))]) (st := [.int r1_]) h (show LkV "RequestCutterLaw" 45 "RequestCutterModel" ⟨"RequestCutterModel", "byteOf", "(II)I"⟩ prog_4_method_17_code 3 (some .int) 2 from ⟨k_307, k_308, k_309, k_3, k_310, by decide +kernel⟩) (fun l D => c_M_byteOf l D (xs (i + 1)) (xs (i + 2)) (by omega) hWR.m) [0, 1, 2, 3, 4, 5] [6, 7, 8, 9, 10, 11, 12] rfl rfl (by decide) (by decide) (by decide) (ci := 2) rfl rfl rfl rfl rfl (by decide) rfl (Nat.le_of_ble_eq_true rfl) (by decide) (by decide) d_L_law_257 rfl (fun r2_ u2 hp2 => ?_)
        have e3 := hp2
        refine v_ws (ws' := (wX cB cI gx T len I many K wd ft at_ sz cw ce cf cn) ++ (wM cB cI gm T I Km F Lm len many wd ks ft atm)) rfl ?_
        refine v_icmp_eq 301 h d_L_law_260 (by decide) (fun q260 => ?_) (fun q260 => ?_)
        · exact K301 _ _ _ _ _ _ _ _ _ _ _ _ _ _ _ _ _ _ hlen hmany hT hI hwd hWR
        · exact absurd ((e1.trans (hWR.byte hwd _ _)).trans e3.symm) q260
      · refine v_tabIn (off := 232) 265 h d_L_law_33 (by decide) (by decide) (by decide) (by decide) ?_
        refine v_aload_n h d_L_law_265 rfl ?_
        refine v_aload_n h d_L_law_266 rfl ?_
        refine v_iload_n h d_L_law_267 rfl ?_
        refine v_iconst (v := nI 1) h d_L_law_268 (by decide) ?_
        refine v_iaddN h d_L_law_269 ?_
        refine v_sld h hS d_L_law_270 ?_
        refine v_callI (wc := (wX cB cI gx T len I many K wd ft at_ sz cw ce cf cn)) (wr := (wM cB cI gm T I Km F Lm len many wd ks ft atm)) (As := [.int (xs (i + 1))]) (st := []) h (show LkV "RequestCutterLaw" 46 "RequestCutter" ⟨"RequestCutter", "drop", "(I)Z"⟩ prog_1_method_9_code 2 (some .boolean) 1 from ⟨k_199, k_184, k_185, k_1, k_186, by decide +kernel⟩) (fun l D => c_X_drop l D (xs (i + 1)) hmany hI) [0, 1, 2, 3, 4, 5, 6] [7, 8, 9, 10, 11, 12] rfl rfl (by decide) (by decide) (by decide) (ci := 0) rfl rfl rfl rfl rfl (by decide) rfl (Nat.le_of_ble_eq_true rfl) (by decide) (by decide) d_L_law_271 rfl (fun r1_ u1 hp1 => ?_)
        obtain ⟨e1, e2⟩ := hp1
        subst e2
        refine v_ws (ws' := (wM cB cI gm T I Km F Lm len many wd ks ft atm) ++ (wX cB cI gx T len (drpI I many (xs (i + 1))) (drpN many (xs (i + 1))) K wd ft at_ sz cw ce cf cn)) rfl ?_
        refine v_aload_n h d_L_law_274 rfl ?_
        refine v_aload_n h d_L_law_275 rfl ?_
        refine v_iload_n h d_L_law_276 rfl ?_
        refine v_iconst (v := nI 1) h d_L_law_277 (by decide) ?_
        refine v_iaddN h d_L_law_278 ?_
        refine v_sld h hS d_L_law_279 ?_
        refine v_callI (wc := (wM cB cI gm T I Km F Lm len many wd ks ft atm)) (wr := (wX cB cI gx T len (drpI I many (xs (i + 1))) (drpN many (xs (i + 1))) K wd ft at_ sz cw ce cf cn)) (As := [.int (xs (i + 1))]) (st := [.int r1_]) h (show LkV "RequestCutterLaw" 49 "RequestCutterModel" ⟨"RequestCutterModel", "drop", "(I)Z"⟩ prog_4_method_7_code 2 (some .boolean) 1 from ⟨k_261, k_262, k_263, k_3, k_264, by decide +kernel⟩) (fun l D => c_M_drop l D (xs (i + 1)) hmany hI) [0, 1, 2, 3, 4, 5] [6, 7, 8, 9, 10, 11, 12] rfl rfl (by decide) (by decide) (by decide) (ci := 2) rfl rfl rfl rfl rfl (by decide) rfl (Nat.le_of_ble_eq_true rfl) (by decide) (by decide) d_L_law_280 rfl (fun r2_ u2 hp2 => ?_)
        obtain ⟨e3, e4⟩ := hp2
        subst e4
        refine v_ws (ws' := (wX cB cI gx T len (drpI I many (xs (i + 1))) (drpN many (xs (i + 1))) K wd ft at_ sz cw ce cf cn) ++ (wM cB cI gm T (drpI I many (xs (i + 1))) Km F Lm len (drpN many (xs (i + 1))) wd ks ft atm)) rfl ?_
        refine v_icmp_eq 301 h d_L_law_283 (by decide) (fun q283 => ?_) (fun q283 => ?_)
        · exact K301 _ _ _ _ _ _ _ _ _ _ _ _ _ _ _ _ _ _ hlen (drpN_le hmany) hT hI.drp hwd hWR
        · exact absurd (e1.trans e3.symm) q283
      · refine v_tabIn (off := 255) 288 h d_L_law_33 (by decide) (by decide) (by decide) (by decide) ?_
        refine v_aload_n h d_L_law_288 rfl ?_
        refine v_callI (wc := (wX cB cI gx T len I many K wd ft at_ sz cw ce cf cn)) (wr := (wM cB cI gm T I Km F Lm len many wd ks ft atm)) (As := []) (st := []) h (show LkV "RequestCutterLaw" 50 "RequestCutter" ⟨"RequestCutter", "waiting", "()I"⟩ prog_1_method_10_code 1 (some .int) 0 from ⟨k_200, k_201, k_202, k_1, k_203, by decide +kernel⟩) (fun l D => c_X_waiting l D) [0, 1, 2, 3, 4, 5, 6] [7, 8, 9, 10, 11, 12] rfl rfl (by decide) (by decide) (by decide) (ci := 0) rfl rfl rfl rfl rfl (by decide) rfl (Nat.le_of_ble_eq_true rfl) (by decide) (by decide) d_L_law_289 rfl (fun r1_ u1 hp1 => ?_)
        have e1 := hp1
        refine v_ws (ws' := (wM cB cI gm T I Km F Lm len many wd ks ft atm) ++ (wX cB cI gx T len I many K wd ft at_ sz cw ce cf cn)) rfl ?_
        refine v_aload_n h d_L_law_292 rfl ?_
        refine v_callI (wc := (wM cB cI gm T I Km F Lm len many wd ks ft atm)) (wr := (wX cB cI gx T len I many K wd ft at_ sz cw ce cf cn)) (As := []) (st := [.int r1_]) h (show LkV "RequestCutterLaw" 53 "RequestCutterModel" ⟨"RequestCutterModel", "waiting", "()I"⟩ prog_4_method_18_code 1 (some .int) 0 from ⟨k_312, k_313, k_314, k_3, k_315, by decide +kernel⟩) (fun l D => c_M_waiting l D) [0, 1, 2, 3, 4, 5] [6, 7, 8, 9, 10, 11, 12] rfl rfl (by decide) (by decide) (by decide) (ci := 2) rfl rfl rfl rfl rfl (by decide) rfl (Nat.le_of_ble_eq_true rfl) (by decide) (by decide) d_L_law_293 rfl (fun r2_ u2 hp2 => ?_)
        have e3 := hp2
        refine v_ws (ws' := (wX cB cI gx T len I many K wd ft at_ sz cw ce cf cn) ++ (wM cB cI gm T I Km F Lm len many wd ks ft atm)) rfl ?_
        refine v_icmp_eq 301 h d_L_law_296 (by decide) (fun q296 => ?_) (fun q296 => ?_)
        · exact K301 _ _ _ _ _ _ _ _ _ _ _ _ _ _ _ _ _ _ hlen hmany hT hI hwd hWR
        · exact absurd (e1.trans e3.symm) q296
      · refine v_tabOut 301 h d_L_law_33 (Or.inr ?_) (by decide) ?_
        · rw [nI_toInt (by omega)]; omega
        · exact K301 T len I many K wd ft at_ sz cw ce cf cn Km F Lm ks atm hlen hmany hT hI hwd hWR
    rcases Nat.lt_or_ge L 6 with hs | hs
    · refine v_iload_n h d_L_law_18 rfl ?_
      refine v_aload_n h d_L_law_19 rfl ?_
      refine v_slen h hS d_L_law_20 ?_
      refine v_bipush (v := nI 6) h d_L_law_21 (by decide) ?_
      refine v_isub h d_L_law_23 ?_
      refine v_icmp_gt 307 h d_L_law_24 (by decide) (fun q24 => ?_) (fun q24 => ?_)
      · exact out
      · refine absurd (Int32.lt_of_lt_of_le (pk_sneg (by decide) hs) (nI_pos' (by omega))) q24
    · refine v_iload_n h d_L_law_18 rfl ?_
      refine v_aload_n h d_L_law_19 rfl ?_
      refine v_slen h hS d_L_law_20 ?_
      refine v_bipush (v := nI 6) h d_L_law_21 (by decide) ?_
      refine v_isubN h d_L_law_23 ?_
      refine v_gtN 307 h d_L_law_24 (by decide) (fun q24 => ?_) (fun q24 => ?_)
      · exact out
      · exact body (by omega)
end
section
set_option maxHeartbeats 4000000 in
theorem sx_of {args : Array Value} {s : State} {A : Nat → Prop} (hts : ∀ w ∈ lw_tbl, w.before args s = true) (hg : (Jvm.Cond.and given_1 narrow_1).before args s = true) (hA : ∀ a : Nat, a < s.heap.size → ¬ A a) : ∃ ad : Nat → Nat, SX ad A s s.heap := by
  have hs := flat_of_before _ hg
  have x0 : (Cond.exactly (.string "RequestCutter$Cutter" 34) "java/lang/String").before args s = true := hs _ (by decide +kernel)
  have y0 : (Cond.eq (.field (.string "RequestCutter$Cutter" 34) "java/lang/String" "hash" "I") (.int (94851343))).before args s = true := hs _ (by decide +kernel)
  obtain ⟨a0, -, -, -, e0, -⟩ := Cond.exactly_spec (args := args) (first := s) (o := none) (s := s) (idx := []) x0
  have z0 : (Cond.eq (.string "RequestCutter$Cutter" 34) (.string "RequestCutter" 59)).before args s = true := hs _ (by decide +kernel)
  have x1 : (Cond.exactly (.string "RequestCutter$Cutter" 40) "java/lang/String").before args s = true := hs _ (by decide +kernel)
  have y1 : (Cond.eq (.field (.string "RequestCutter$Cutter" 40) "java/lang/String" "hash" "I") (.int (-1326217028))).before args s = true := hs _ (by decide +kernel)
  obtain ⟨a1, -, -, -, e1, -⟩ := Cond.exactly_spec (args := args) (first := s) (o := none) (s := s) (idx := []) x1
  have z1 : (Cond.eq (.string "RequestCutter$Cutter" 40) (.string "RequestCutter" 65)).before args s = true := hs _ (by decide +kernel)
  have x2 : (Cond.exactly (.string "RequestCutter$Cutter" 42) "java/lang/String").before args s = true := hs _ (by decide +kernel)
  have y2 : (Cond.eq (.field (.string "RequestCutter$Cutter" 42) "java/lang/String" "hash" "I") (.int (-1106363674))).before args s = true := hs _ (by decide +kernel)
  obtain ⟨a2, -, -, -, e2, -⟩ := Cond.exactly_spec (args := args) (first := s) (o := none) (s := s) (idx := []) x2
  have z2 : (Cond.eq (.string "RequestCutter$Cutter" 42) (.string "RequestCutter" 67)).before args s = true := hs _ (by decide +kernel)
  have x3 : (Cond.exactly (.string "RequestCutter$Cutter" 44) "java/lang/String").before args s = true := hs _ (by decide +kernel)
  have y3 : (Cond.eq (.field (.string "RequestCutter$Cutter" 44) "java/lang/String" "hash" "I") (.int (-1298752217))).before args s = true := hs _ (by decide +kernel)
  obtain ⟨a3, -, -, -, e3, -⟩ := Cond.exactly_spec (args := args) (first := s) (o := none) (s := s) (idx := []) x3
  have z3 : (Cond.eq (.string "RequestCutter$Cutter" 44) (.string "RequestCutter" 68)).before args s = true := hs _ (by decide +kernel)
  have x4 : (Cond.exactly (.string "RequestCutter$Cutter" 52) "java/lang/String").before args s = true := hs _ (by decide +kernel)
  have y4 : (Cond.eq (.field (.string "RequestCutter$Cutter" 52) "java/lang/String" "hash" "I") (.int (3321844))).before args s = true := hs _ (by decide +kernel)
  obtain ⟨a4, -, -, -, e4, -⟩ := Cond.exactly_spec (args := args) (first := s) (o := none) (s := s) (idx := []) x4
  refine ⟨fun k => match k with | 0 => a0 | 1 => a1 | 2 => a2 | 3 => a3 | _ => a4, ⟨vk_R.of (hts _ k_104) e0, vk_R.of (hts _ k_109) e1, vk_R.of (hts _ k_110) e2, vk_R.of (hts _ k_111) e3, vk_R.of (hts _ k_103) e4⟩, ⟨vk_R.of (hts _ k_171) (va_eqR z0 e0), vk_R.of (hts _ k_180) (va_eqR z1 e1), vk_R.of (hts _ k_181) (va_eqR z2 e2), vk_R.of (hts _ k_182) (va_eqR z3 e3)⟩, va_Nw.of rfl (hts _ k_21), ?_⟩
  intro k hk
  rcases (show k = 0 ∨ k = 1 ∨ k = 2 ∨ k = 3 ∨ k = 4 by omega) with rfl | rfl | rfl | rfl | rfl
  · exact ⟨va_Oof x0 e0 hA, vk_OFof e0 (va_eqt y0) hA⟩
  · exact ⟨va_Oof x1 e1 hA, vk_OFof e1 (va_eqt y1) hA⟩
  · exact ⟨va_Oof x2 e2 hA, vk_OFof e2 (va_eqt y2) hA⟩
  · exact ⟨va_Oof x3 e3 hA, vk_OFof e3 (va_eqt y3) hA⟩
  · exact ⟨va_Oof x4 e4 hA, vk_OFof e4 (va_eqt y4) hA⟩
set_option maxHeartbeats 4000000 in
/-- the law from its entry, at V -/
theorem law_start {E : Ev} {cB cI : ClassId} {ad : Nat → Nat} {b L : Nat} {xs : Nat → Int32} (h : Cx E code "RequestCutterLaw" room_1 cB cI ad) (hS : Scr E b L xs ∧ L ≤ 3072) (hE : LwE E b) : V E 0 0 [] 0 [some (.ref b), none, none, none] [] := by
  refine v_new (C := "RequestCutter") (T := F_X) (N := 8) (ci := 0) (fs := [.null, .int (nI 0), .null, .int (nI 0), .null, .null, .int (nI 0), .int (nI 0)]) (t0 := t_X) h i_X t_X_ok k_10 k_11 k_1 rfl (fun j hj => by rcases (show j = 0 ∨ j = 1 ∨ j = 2 ∨ j = 3 ∨ j = 4 ∨ j = 5 ∨ j = 6 ∨ j = 7 by omega) with rfl | rfl | rfl | rfl | rfl | rfl | rfl | rfl <;> first | rfl | exact congrArg Value.int nI_0.symm) (by decide) (by decide) d_L_law_0 (fun q0 => ?_)
  refine v_dup h d_L_law_3 rfl ?_
  refine v_callN (C := "") (wc := [(q0, .inr (0, [.null, .int (nI 0), .null, .int (nI 0), .null, .null, .int (nI 0), .int (nI 0)]))]) (wr := []) (As := []) (st := [.ref q0]) h (y := y_X_init) k_12 k_13 k_1 k_14 rfl (n0 := 0) (by decide +kernel) (fun l D => c_X_init l D q0) [0] [] rfl rfl (by decide) (by decide) (by decide) rfl rfl (by decide) rfl (Nat.le_of_ble_eq_true rfl) (by decide) (by decide) d_L_law_4 rfl (fun gx hgx => ?_)
  subst hgx
  refine v_ws (ws' := (wX cB cI gx (fun _ => 0) 0 (fun _ => 0) 0 (fun _ => 0) 0 0 (fun _ => 0) (fun _ => 0) 0 0 .null (nI 0))) rfl ?_
  refine v_astore_n (lv' := [_, _, _, _]) h d_L_law_7 (Nat.le_of_ble_eq_true rfl) rfl ?_
  refine v_new (C := "RequestCutterModel") (T := F_M) (N := 11) (ci := 2) (fs := [.null, .null, .null, .null, .null, .int (nI 0), .int (nI 0), .int (nI 0), .int (nI 0), .int (nI 0), .int (nI 0)]) (t0 := t_M) h i_M t_M_ok k_204 k_205 k_3 rfl (fun j hj => by rcases (show j = 0 ∨ j = 1 ∨ j = 2 ∨ j = 3 ∨ j = 4 ∨ j = 5 ∨ j = 6 ∨ j = 7 ∨ j = 8 ∨ j = 9 ∨ j = 10 by omega) with rfl | rfl | rfl | rfl | rfl | rfl | rfl | rfl | rfl | rfl | rfl <;> first | rfl | exact congrArg Value.int nI_0.symm) (by decide) (by decide) d_L_law_8 (fun q1 => ?_)
  refine v_dup h d_L_law_11 rfl ?_
  refine v_callN (C := "") (wc := [(q1, .inr (2, [.null, .null, .null, .null, .null, .int (nI 0), .int (nI 0), .int (nI 0), .int (nI 0), .int (nI 0), .int (nI 0)]))]) (wr := (wX cB cI gx (fun _ => 0) 0 (fun _ => 0) 0 (fun _ => 0) 0 0 (fun _ => 0) (fun _ => 0) 0 0 .null (nI 0))) (As := []) (st := [.ref q1]) h (y := y_M_init) k_206 k_207 k_3 k_208 rfl (n0 := 0) (by decide +kernel) (fun l D => c_M_init l D q1) [7] [0, 1, 2, 3, 4, 5, 6] rfl rfl (by decide) (by decide) (by decide) rfl rfl (by decide) rfl (Nat.le_of_ble_eq_true rfl) (by decide) (by decide) d_L_law_12 rfl (fun gm hgm => ?_)
  subst hgm
  refine v_ws (ws' := (wX cB cI gx (fun _ => 0) 0 (fun _ => 0) 0 (fun _ => 0) 0 0 (fun _ => 0) (fun _ => 0) 0 0 .null (nI 0)) ++ (wM cB cI gm (fun _ => 0) (fun _ => 0) (fun _ => 0) (fun _ => 0) (fun _ => 0) 0 0 0 0 0 0)) rfl ?_
  refine v_astore_n (lv' := [_, _, _, _]) h d_L_law_15 (Nat.le_of_ble_eq_true rfl) rfl ?_
  refine v_iconst (v := nI 0) h d_L_law_16 (by decide) ?_
  refine v_istore_n (lv' := [_, _, _, _]) h d_L_law_17 (Nat.le_of_ble_eq_true rfl) rfl ?_
  refine v_widen (k' := 600000) (n' := 7302249) (by decide) (by decide) ?_
  exact law_loop h hS hE (L + 1) 0 (by omega) (by omega) (fun _ => 0) 0 (fun _ => 0) 0 (fun _ => 0) 0 0 (fun _ => 0) (fun _ => 0) 0 0 .null (nI 0) (fun _ => 0) (fun _ => 0) (fun _ => 0) 0 0 (by decide) (by decide) B8.zero B8.zero (by decide) WR.zero
set_option maxHeartbeats 4000000 in
theorem whole_start {p : Program} {e : Env} {s : State} {m : MethodId} {below : List Frame} {meth : Method} {c : Code} (l : Launch) {b L : Nat} {xs : Nat → Int32} (hL : L ≤ 3072) (C0 : lw_At p s m meth c b L xs) : W p l e room_1 s m #[Value.ref b] below meth c s.heap [] 0 0 (lw_Z below #[Value.ref b] s) (entryFrame m ([Value.ref b] : List Value).toArray 4) := by
  obtain ⟨hx, hb, hr, hml, hown, hts, hX, hbl, hlocks, hgv⟩ := id C0
  have hgd : ∀ w ∈ gd_tbl, w.before #[Value.ref b] s = true := fun w hw => hts w (gd_sub w hw)
  obtain ⟨c0, iS0, hKn0⟩ := u_known (C := "RequestCutter") (T := F_X) (N := 8) (n := 8) hgd i_X (hgd _ k_11)
  obtain ⟨c1, iS1, hKn1⟩ := u_known (C := "RequestCutter$Cutter") (T := F_C) (N := 6) (n := 6) hgd i_C (hgd _ k_20)
  obtain ⟨c2, iS2, hKn2⟩ := u_known (C := "RequestCutterModel") (T := F_M) (N := 11) (n := 11) hgd i_M (hgd _ k_205)
  obtain ⟨dC, dI, hKc⟩ : ∃ (dC : Nat → ClassId) (dI : Nat → Nat → Nat), ∀ (k : Nat) (q : vw_C), kl[k]? = some q → u_Kn s q.1 q.2.1 q.2.2 (dC k) (dI k) := by
    refine ⟨fun k => if k = 0 then c0 else if k = 1 then c1 else c2, fun k => if k = 0 then iS0 else if k = 1 then iS1 else iS2, ?_⟩
    intro k q hq
    match k, hq with
    | 0, hq => cases hq; exact hKn0
    | 1, hq => cases hq; exact hKn1
    | 2, hq => cases hq; exact hKn2
    | k + 3, hq => simp [kl] at hq
  obtain ⟨cB, kB, compB, hf1, hk1, hd1⟩ := Cond.arrayClass_spec (hgd _ k_49)
  obtain ⟨cI, kI, compI, hf2, hk2, hd2⟩ := Cond.arrayClass_spec (hgd _ k_50)
  have hK : va_K (dC, dI) kl [(cB, .byte), (cI, .int)] s := by
    refine ⟨hKc, fun k q hq => ?_⟩
    match k, hq with
    | 0, hq => cases hq; exact ⟨fun n z => ⟨fun k h => (by cases h), kB, hk1, compB, hd1⟩, hf1⟩
    | 1, hq => cases hq; exact ⟨fun n z => ⟨fun k h => (by cases h), kI, hk2, compI, hd2⟩, hf2⟩
    | k + 2, hq => simp at hq
  obtain ⟨ad, hSX⟩ := sx_of (A := fun q : Nat => s.heap.size ≤ q) hts hgv (fun a ha => Nat.not_le.mpr ha)
  have key := law_start (E := (p, l, e, room_1, s, m, #[Value.ref b], below, meth, c, lw_Z below #[Value.ref b] s, (dC, dI), fun q : Nat => s.heap.size ≤ q, 4)) (b := b) (L := L) (xs := xs) (cB := cB) (cI := cI) (ad := ad) ⟨hx, hb, hml, hown, hgd, hK, hSX, fun _ h => h, rfl⟩ ⟨⟨hX, hbl, Nat.not_le.mpr hbl⟩, hL⟩ ⟨rfl, rfl, hr, hlocks, rfl, rfl⟩
  rw [lg_entry_eq]
  exact key s.heap [] _ (fun k q h => by simp at h) ⟨fun i j p q h => by simp at h, fun k q h => by simp at h⟩ va_S.rf (lh_entry (as := [Value.ref b]) (ml := 4) (cat_of rfl) (Nat.le_of_ble_eq_true rfl))
end
section
set_option maxHeartbeats 4000000 in
theorem lw_walk (l : Launch) (b : Addr) (xs : List Int32) : MetFree l x (headSpec (Jvm.Cond.code x code maxLocals ret :: tables_1) room_1) (lw_P b xs) (fun _ _ _ _ _ => True) lw_Q := by
  refine MetFree.of_bodyS (code := code) (maxLocals := maxLocals) (ret := ret) (by decide) ?_ ?_
  · intro args s m h hn
    obtain ⟨meth, c, h1, h2, h3, h4, h5, h6, -, -⟩ := Cond.code_spec hn (atoms_spec (ws := Jvm.Cond.code x code maxLocals ret :: tables_1) h _ List.mem_cons_self)
    exact ⟨meth, c, h1, h2, h3, h4, h5, h6⟩
  · intro p e s m args below meth c s₁ B hml0 hP _
    obtain ⟨rfl, hx, hbd, hgv⟩ := hP
    obtain ⟨scr, harrAt, hlist, hof, hsmall⟩ := hx
    obtain ⟨hcb, hkn, -, -⟩ := State.arrayAt?_spec harrAt
    have hown : s.vm.findClass R_law = some m.cls := findClass_of_methodNamed B.named
    have hts0 : ∀ c ∈ (Jvm.Cond.code x code maxLocals ret :: tables_1), c.before #[Value.ref b] s = true := atoms_spec (ws := Jvm.Cond.code x code maxLocals ret :: tables_1) B.pre
    have hts : ∀ w ∈ lw_tbl, w.before #[Value.ref b] s = true := k2_hts_sels lw_privs (fun w hw => hts0 w (List.mem_cons_of_mem _ hw)) lw_privs_ok
    have hml : c.maxLocals = 4 := B.maxLocals_eq (hts0 _ List.mem_cons_self)
    have X₀ : Stand p l e room_1 s m #[Value.ref b] below meth c s₁ [] 0 0 := Stand.of_body B
    have hh0 : s₁.heap = s.heap := by rw [B.state]; rfl
    have hsz : scr.slots.size = xs.length := by rw [← Array.length_toList, hlist, List.length_map]
    have hval : ∀ j : Nat, j < xs.length → scr.slots[j]? = some (.int (xs.getD j 0)) := fun j hj => by
      rw [← Array.getElem?_toList, hlist]
      simp [hj]
    have hbl : b < s.heap.size := (Array.getElem?_eq_some_iff.mp hcb).1
    have hX : va_X b xs.length (fun j => xs.getD j 0) s s.heap := ⟨scr, hcb, hof, hkn, hsz, hval⟩
    have K : W p l e room_1 s m #[Value.ref b] below meth c s₁.heap [] 0 0 (lw_Z below #[Value.ref b] s) (entryFrame m ([Value.ref b] : List Value).toArray 4) := by
      rw [hh0]
      exact whole_start l hbd ⟨B.exec, B.bytes, B.returns, hml, hown, hts, hX, hbl, B.notSynchronized, hgv⟩
    obtain ⟨t, a1, o, b1, b2, b3⟩ := K s₁ rfl X₀
    exact ⟨t, o, a1, b1, b2, b3⟩
theorem lw_pre_spec {args : Array Value} {s : State} (h : (Jvm.Cond.and given_1 narrow_1).before args s = true) (hr : rest_1_c.before args s = true) : ∃ (b : Addr) (xs : List Int32), lw_P b xs args s := by
  have hs := flat_of_before _ h
  have hq := flat_of_before _ hr
  have hc : (Cond.count 1).before args s = true := hs _ (by decide +kernel)
  have harr : (Cond.arrayOf (.arg 0) .int).before args s = true := hs _ (by decide +kernel)
  have hle : (Cond.le (.length (.arg 0)) (.int 3072)).before args s = true := hs _ (by decide +kernel)
  have hlen : (Cond.isInt (.length (.arg 0))).before args s = true := hq _ (by decide +kernel)
  have hall : (Cond.all (.arg 0) (.isInt (.elem (.arg 0) (.index 0)))).before args s = true := hq _ (by decide +kernel)
  obtain ⟨b, xs, hb, hx⟩ := State.ints_of_pre rfl harr hlen hall
  have hsm : xs.length < 2 ^ 31 := hx.choose_spec.2.2.2
  have hev : (Term.length (.arg 0)).eval args s none [] s = some (.int xs.length.toInt32) := hx.length_eval hb
  have hv := Cond.le_ints hev (show (Term.int 3072).eval args s none [] s = some (.int 3072) from rfl)
  have hd : xs.length.toInt32 ≤ 3072 := by
    simpa [Cond.before, Cond.holds, hv] using hle
  have hN : xs.length ≤ 3072 := (Int32.ofNat_le_ofNat hsm (by decide)).mp (show Int32.ofNat xs.length ≤ Int32.ofNat 3072 from hd)
  exact ⟨b, xs, Cond.one_arg hc (show args[0]? = some (.ref b) from hb), hx, hN, h⟩
theorem lw_comes (l : Launch) : Comes l x (Jvm.Cond.code x code maxLocals ret :: tables_1) room_1 (fun tb e args s => Calls_1 tb e args s ∧ rest_1 tb e args s ∧ Pre_1 tb e args s)
    (fun _ _ args s o t => lw_Q args s o t) := by
  intro p e ha hc hk s m args below hf hfit hheap happ hpre
  obtain ⟨b, xs, hP⟩ := lw_pre_spec hpre.2.2 hpre.2.1
  obtain ⟨k, o, h1, h2, h3, hQ⟩ := lw_walk l b xs p e ha hc hk s m args below hf ((Spec.applies_iff_loose hf).mp happ).1 hP trivial
  exact ⟨k, o, h1, h2, h3, hQ⟩
theorem lw_frame {s t : State} {o : Outcome} {args : Array Value} (h : Framed s o t [] 600000 7302249) :
    Framed s o t (fieldLocs frame_1_writes args s ++ arrayLocs frame_1_arrays args s ++ staticLocs frame_1_statics s) 600000 7302249 := h
theorem lw_limb (L : Cond) (hL : ∀ (args : Array Value) (s t : State), L.after args s (.returned (some (.int 1))) t = true) :
    ArmFor flags0 classFile x code maxLocals ret World_1 tables_1 room_1 Calls_1 rest_1 Pre_1
      (fun tb e a s o t => postC L tb e a s o t ∧ Framed s o t (fieldLocs frame_1_writes a s ++ arrayLocs frame_1_arrays a s ++ staticLocs frame_1_statics s) 600000 7302249) := by
  intro l _ _ _ p e ha hc hk s m args below hf hfit hheap happ hpre
  obtain ⟨k, o, h1, h2, h3, rfl, hF⟩ := lw_comes l p e ha hc hk s m args below hf hfit hheap happ hpre
  exact ⟨k, _, h1, h2, h3, hL args s _, lw_frame hF⟩
theorem i_vc : Claimed_1_1 ∧ Claimed_1_2 := ⟨lw_limb limb_1_1 (fun args s t => by simp [limb_1_1, Cond.after, Cond.holds, Cond.value]), lw_limb limb_1_2 (fun args s t => Cond.after_iff.mpr (by
  first | (rw [show limb_1_2 = Cond.eq .result (.int 1) from rfl, Cond.eq_ints (x := 1) (y := 1) rfl rfl]; simp; done) | (simp [limb_1_2, Cond.value, Term.eval]; done)))⟩
end
