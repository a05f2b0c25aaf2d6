section
-- ===== PART A: goes FIRST, ahead of the names: the tables' words, and 'selects' of the private methods out of them =====
/-- a private method of a class that the tables say can be made, by its rows of tables_1 -/
def lw_okq (q : MethodName × Nat) : Prop := (q.1.cls ≠ "java/lang/invoke/MethodHandle" ∧ q.1.cls ≠ "java/lang/invoke/VarHandle") ∧ Cond.instantiable q.1.cls q.2 ∈ tables_1 ∧ Cond.privateMethod q.1 ∈ tables_1 ∧ Cond.instanceMethod q.1 ∈ tables_1
theorem lw_p0 : lw_okq (⟨"BasicStrings", "badByte", "(I)Z"⟩, 9) := ⟨⟨by decide +kernel, by decide +kernel⟩, List.mem_of_getElem? (i := 4) (by decide +kernel), List.mem_of_getElem? (i := 46) (by decide +kernel), List.mem_of_getElem? (i := 47) (by decide +kernel)⟩
theorem lw_p1 : lw_okq (⟨"BasicStrings", "refuse", "(I)I"⟩, 9) := ⟨⟨by decide +kernel, by decide +kernel⟩, List.mem_of_getElem? (i := 4) (by decide +kernel), List.mem_of_getElem? (i := 58) (by decide +kernel), List.mem_of_getElem? (i := 59) (by decide +kernel)⟩
theorem lw_p2 : lw_okq (⟨"BasicStrings", "descriptors", "()I"⟩, 9) := ⟨⟨by decide +kernel, by decide +kernel⟩, List.mem_of_getElem? (i := 4) (by decide +kernel), List.mem_of_getElem? (i := 66) (by decide +kernel), List.mem_of_getElem? (i := 67) (by decide +kernel)⟩
theorem lw_p3 : lw_okq (⟨"BasicStrings", "take", "(I)I"⟩, 9) := ⟨⟨by decide +kernel, by decide +kernel⟩, List.mem_of_getElem? (i := 4) (by decide +kernel), List.mem_of_getElem? (i := 70) (by decide +kernel), List.mem_of_getElem? (i := 71) (by decide +kernel)⟩
theorem lw_p4 : lw_okq (⟨"BasicStrings", "collect", "()V"⟩, 9) := ⟨⟨by decide +kernel, by decide +kernel⟩, List.mem_of_getElem? (i := 4) (by decide +kernel), List.mem_of_getElem? (i := 74) (by decide +kernel), List.mem_of_getElem? (i := 75) (by decide +kernel)⟩
theorem lw_p5 : lw_okq (⟨"BasicStrings", "mark", "()V"⟩, 9) := ⟨⟨by decide +kernel, by decide +kernel⟩, List.mem_of_getElem? (i := 4) (by decide +kernel), List.mem_of_getElem? (i := 78) (by decide +kernel), List.mem_of_getElem? (i := 79) (by decide +kernel)⟩
theorem lw_p6 : lw_okq (⟨"BasicStrings", "pushBody", "(II)V"⟩, 9) := ⟨⟨by decide +kernel, by decide +kernel⟩, List.mem_of_getElem? (i := 4) (by decide +kernel), List.mem_of_getElem? (i := 82) (by decide +kernel), List.mem_of_getElem? (i := 83) (by decide +kernel)⟩
theorem lw_p7 : lw_okq (⟨"BasicStrings", "top", "()I"⟩, 9) := ⟨⟨by decide +kernel, by decide +kernel⟩, List.mem_of_getElem? (i := 4) (by decide +kernel), List.mem_of_getElem? (i := 86) (by decide +kernel), List.mem_of_getElem? (i := 87) (by decide +kernel)⟩
theorem lw_p8 : lw_okq (⟨"BasicStrings", "badVariable", "(I)Z"⟩, 9) := ⟨⟨by decide +kernel, by decide +kernel⟩, List.mem_of_getElem? (i := 4) (by decide +kernel), List.mem_of_getElem? (i := 94) (by decide +kernel), List.mem_of_getElem? (i := 95) (by decide +kernel)⟩
theorem lw_p9 : lw_okq (⟨"BasicStrings", "copy", "(III)V"⟩, 9) := ⟨⟨by decide +kernel, by decide +kernel⟩, List.mem_of_getElem? (i := 4) (by decide +kernel), List.mem_of_getElem? (i := 110) (by decide +kernel), List.mem_of_getElem? (i := 111) (by decide +kernel)⟩
theorem lw_p10 : lw_okq (⟨"BasicStrings", "cut", "(II)I"⟩, 9) := ⟨⟨by decide +kernel, by decide +kernel⟩, List.mem_of_getElem? (i := 4) (by decide +kernel), List.mem_of_getElem? (i := 118) (by decide +kernel), List.mem_of_getElem? (i := 119) (by decide +kernel)⟩
theorem lw_p11 : lw_okq (⟨"BasicStrings", "beginsAt", "(III)Z"⟩, 9) := ⟨⟨by decide +kernel, by decide +kernel⟩, List.mem_of_getElem? (i := 4) (by decide +kernel), List.mem_of_getElem? (i := 142) (by decide +kernel), List.mem_of_getElem? (i := 143) (by decide +kernel)⟩
theorem lw_p12 : lw_okq (⟨"BasicStrings", "shared", "(I)Z"⟩, 9) := ⟨⟨by decide +kernel, by decide +kernel⟩, List.mem_of_getElem? (i := 4) (by decide +kernel), List.mem_of_getElem? (i := 150) (by decide +kernel), List.mem_of_getElem? (i := 151) (by decide +kernel)⟩
theorem lw_p13 : lw_okq (⟨"BasicStringsModel", "isSmall", "(I)Z"⟩, 3) := ⟨⟨by decide +kernel, by decide +kernel⟩, List.mem_of_getElem? (i := 179) (by decide +kernel), List.mem_of_getElem? (i := 199) (by decide +kernel), List.mem_of_getElem? (i := 200) (by decide +kernel)⟩
theorem lw_p14 : lw_okq (⟨"BasicStringsModel", "pushCopy", "(I)I"⟩, 3) := ⟨⟨by decide +kernel, by decide +kernel⟩, List.mem_of_getElem? (i := 179) (by decide +kernel), List.mem_of_getElem? (i := 211) (by decide +kernel), List.mem_of_getElem? (i := 212) (by decide +kernel)⟩
theorem lw_p15 : lw_okq (⟨"BasicStringsModel", "copy", "(II)V"⟩, 3) := ⟨⟨by decide +kernel, by decide +kernel⟩, List.mem_of_getElem? (i := 179) (by decide +kernel), List.mem_of_getElem? (i := 219) (by decide +kernel), List.mem_of_getElem? (i := 220) (by decide +kernel)⟩
def lw_privs_1 : List (MethodName × Nat) := [(⟨"BasicStrings", "badByte", "(I)Z"⟩, 9), (⟨"BasicStrings", "refuse", "(I)I"⟩, 9), (⟨"BasicStrings", "descriptors", "()I"⟩, 9), (⟨"BasicStrings", "take", "(I)I"⟩, 9), (⟨"BasicStrings", "collect", "()V"⟩, 9), (⟨"BasicStrings", "mark", "()V"⟩, 9), (⟨"BasicStrings", "pushBody", "(II)V"⟩, 9), (⟨"BasicStrings", "top", "()I"⟩, 9), (⟨"BasicStrings", "badVariable", "(I)Z"⟩, 9), (⟨"BasicStrings", "copy", "(III)V"⟩, 9), (⟨"BasicStrings", "cut", "(II)I"⟩, 9), (⟨"BasicStrings", "beginsAt", "(III)Z"⟩, 9), (⟨"BasicStrings", "shared", "(I)Z"⟩, 9), (⟨"BasicStringsModel", "isSmall", "(I)Z"⟩, 3), (⟨"BasicStringsModel", "pushCopy", "(I)I"⟩, 3), (⟨"BasicStringsModel", "copy", "(II)V"⟩, 3)]
theorem lw_r1 : ∀ q ∈ lw_privs_1, lw_okq q := List.forall_mem_cons.mpr ⟨lw_p0, List.forall_mem_cons.mpr ⟨lw_p1, List.forall_mem_cons.mpr ⟨lw_p2, List.forall_mem_cons.mpr ⟨lw_p3, List.forall_mem_cons.mpr ⟨lw_p4, List.forall_mem_cons.mpr ⟨lw_p5, List.forall_mem_cons.mpr ⟨lw_p6, List.forall_mem_cons.mpr ⟨lw_p7, List.forall_mem_cons.mpr ⟨lw_p8, List.forall_mem_cons.mpr ⟨lw_p9, List.forall_mem_cons.mpr ⟨lw_p10, List.forall_mem_cons.mpr ⟨lw_p11, List.forall_mem_cons.mpr ⟨lw_p12, List.forall_mem_cons.mpr ⟨lw_p13, List.forall_mem_cons.mpr ⟨lw_p14, List.forall_mem_cons.mpr ⟨lw_p15, fun _ h => absurd h List.not_mem_nil⟩⟩⟩⟩⟩⟩⟩⟩⟩⟩⟩⟩⟩⟩⟩⟩
theorem lw_p16 : lw_okq (⟨"BasicStringsModel", "isVariable", "(I)Z"⟩, 3) := ⟨⟨by decide +kernel, by decide +kernel⟩, List.mem_of_getElem? (i := 179) (by decide +kernel), List.mem_of_getElem? (i := 227) (by decide +kernel), List.mem_of_getElem? (i := 228) (by decide +kernel)⟩
theorem lw_p17 : lw_okq (⟨"BasicStringsModel", "cut", "(II)I"⟩, 3) := ⟨⟨by decide +kernel, by decide +kernel⟩, List.mem_of_getElem? (i := 179) (by decide +kernel), List.mem_of_getElem? (i := 247) (by decide +kernel), List.mem_of_getElem? (i := 248) (by decide +kernel)⟩
theorem lw_p18 : lw_okq (⟨"BasicStringsModel", "order", "(II)I"⟩, 3) := ⟨⟨by decide +kernel, by decide +kernel⟩, List.mem_of_getElem? (i := 179) (by decide +kernel), List.mem_of_getElem? (i := 267) (by decide +kernel), List.mem_of_getElem? (i := 268) (by decide +kernel)⟩
theorem lw_p19 : lw_okq (⟨"BasicStringsModel", "begins", "(III)Z"⟩, 3) := ⟨⟨by decide +kernel, by decide +kernel⟩, List.mem_of_getElem? (i := 179) (by decide +kernel), List.mem_of_getElem? (i := 275) (by decide +kernel), List.mem_of_getElem? (i := 276) (by decide +kernel)⟩
def lw_privs_2 : List (MethodName × Nat) := [(⟨"BasicStringsModel", "isVariable", "(I)Z"⟩, 3), (⟨"BasicStringsModel", "cut", "(II)I"⟩, 3), (⟨"BasicStringsModel", "order", "(II)I"⟩, 3), (⟨"BasicStringsModel", "begins", "(III)Z"⟩, 3)]
theorem lw_r2 : ∀ q ∈ lw_privs_2, lw_okq q := List.forall_mem_cons.mpr ⟨lw_p16, List.forall_mem_cons.mpr ⟨lw_p17, List.forall_mem_cons.mpr ⟨lw_p18, List.forall_mem_cons.mpr ⟨lw_p19, fun _ h => absurd h List.not_mem_nil⟩⟩⟩⟩
def lw_privs : List (MethodName × Nat) := lw_privs_1 ++ (lw_privs_2)
def lw_tbl : List Cond := k2_sels lw_privs ++ tables_1
theorem lw_privs_ok : ∀ q ∈ lw_privs, lw_okq q := by
  show ∀ q ∈ lw_privs_1 ++ (lw_privs_2), lw_okq q
  exact List.forall_mem_append.mpr ⟨lw_r1, lw_r2⟩
def R_law : String := "BasicStringsLaw"
-- one list of words for every method: all of lw_tbl that stays true behind a call
def wT : List Cond := lw_tbl.filter goodWord
theorem wT_of {w : Cond} (h : w ∈ lw_tbl) (hg : goodWord w = true) : w ∈ wT := List.mem_filter.mpr ⟨h, hg⟩
theorem wT_good : GoodIn wT wT := fun w h => ⟨h, good_of_word (List.mem_filter.mp h).2⟩
theorem wT_tbl : GoodIn lw_tbl wT := fun w h => ⟨(List.mem_filter.mp h).1, good_of_word (List.mem_filter.mp h).2⟩
def wY (y : MethodName) (b : ByteArray) (n : Nat) (ret : Option FieldType) : List Cond := .code y b n ret :: wT
theorem wY_good {y : MethodName} {b : ByteArray} {n : Nat} {ret : Option FieldType} {big : List Cond} (h : Cond.code y b n ret ∈ wT) (hb : GoodIn big wT) : GoodIn big (wY y b n ret) := fun w hw => by
  rcases List.mem_cons.mp hw with rfl | h2
  · exact hb _ h
  · exact hb _ h2
-- names, fields in the order of declaration (declarer, name, descriptor, final), their types
def R_X : String := "BasicStrings"
def F_X : u_T := fun k => match k with
  | 0 => ("BasicStrings", "keyed", "I", false)
  | 1 => ("BasicStrings", "line", "[I", true)
  | 2 => ("BasicStrings", "piled", "I", false)
  | 3 => ("BasicStrings", "length", "[I", true)
  | 4 => ("BasicStrings", "body", "[I", true)
  | 5 => ("BasicStrings", "bottom", "I", false)
  | 6 => ("BasicStrings", "store", "[I", true)
  | 7 => ("BasicStrings", "wanted", "[Z", true)
  | _ => ("BasicStrings", "target", "[I", true)
def t_X : Nat → FieldType := fun k => match k with
  | 0 => .int
  | 1 => .array .int
  | 2 => .int
  | 3 => .array .int
  | 4 => .array .int
  | 5 => .int
  | 6 => .array .int
  | 7 => .array .boolean
  | _ => .array .int
def R_M : String := "BasicStringsModel"
def F_M : u_T := fun k => match k with
  | 0 => ("BasicStringsModel", "chars", "[I", true)
  | 1 => ("BasicStringsModel", "lengths", "[I", true)
  | _ => ("BasicStringsModel", "piled", "I", false)
def t_M : Nat → FieldType := fun k => match k with
  | 0 => .array .int
  | 1 => .array .int
  | _ => .int
theorem n_X : ∀ a, a < 9 → ∀ b, b < 9 → a ≠ b → (F_X a).2.1 ≠ (F_X b).2.1 := by decide +kernel
theorem t_X_ok : ∀ k, k < 9 → parseFieldDescriptor (F_X k).2.2.1 = some (t_X k) := by decide +kernel
theorem n_M : ∀ a, a < 3 → ∀ b, b < 3 → a ≠ b → (F_M a).2.1 ≠ (F_M b).2.1 := by decide +kernel
theorem t_M_ok : ∀ k, k < 3 → parseFieldDescriptor (F_M k).2.2.1 = some (t_M k) := by decide +kernel
theorem i_X : ∀ w ∈ u_ws R_X F_X 9, w ∈ lw_tbl := by decide +kernel
theorem i_M : ∀ w ∈ u_ws R_M F_M 3, w ∈ lw_tbl := by decide +kernel
theorem g_X : ∀ w ∈ u_ws R_X F_X 9, goodWord w = true := by decide +kernel
theorem g_M : ∀ w ∈ u_ws R_M F_M 3, goodWord w = true := by decide +kernel
theorem iT_X : ∀ w ∈ u_ws R_X F_X 9, w ∈ wT := fun w h => wT_of (i_X w h) (g_X w h)
theorem iT_M : ∀ w ∈ u_ws R_M F_M 3, w ∈ wT := fun w h => wT_of (i_M w h) (g_M w h)
abbrev classes : List vw_C := [(R_X, F_X, 9), (R_M, F_M, 3)]
end
section
/-- what a call needs of the method that it calls -/
def jY (C : String) (y : MethodName) (b : ByteArray) (n : Nat) (ret : Option FieldType) (np : Nat) : Prop := Cond.instanceMethod y ∈ wT ∧ Cond.selects C y y ∈ wT ∧ Cond.initialized C ∈ wT ∧ Cond.code y b n ret ∈ wT ∧ (y.cls = C ∧ y.cls ≠ "java/lang/invoke/MethodHandle" ∧ y.cls ≠ "java/lang/invoke/VarHandle" ∧ (parseMethodDescriptor y.desc).map (fun d => d.parameters.length) = some np) ∧ n ≤ 8
abbrev b_X_init : ByteArray := prog_1_method_1_code
def y_X_init : MethodName := ⟨R_X, "<init>", "()V"⟩
abbrev b_X_key : ByteArray := prog_1_method_11_code
def y_X_key : MethodName := ⟨R_X, "key", "(I)I"⟩
theorem v_X_key : jY R_X y_X_key b_X_key 2 (some .int) 1 := ⟨wT_of (List.mem_of_getElem? (i := 62) rfl) rfl, wT_of (List.mem_of_getElem? (i := 63) rfl) rfl, wT_of (List.mem_of_getElem? (i := 21) rfl) rfl, wT_of (List.mem_of_getElem? (i := 64) rfl) rfl, by decide +kernel, by decide⟩
abbrev b_X_badByte : ByteArray := prog_1_method_10_code
def y_X_badByte : MethodName := ⟨R_X, "badByte", "(I)Z"⟩
theorem v_X_badByte : jY R_X y_X_badByte b_X_badByte 2 (some .boolean) 1 := ⟨wT_of (List.mem_of_getElem? (i := 67) rfl) rfl, wT_of (List.mem_of_getElem? (i := 0) rfl) rfl, wT_of (List.mem_of_getElem? (i := 21) rfl) rfl, wT_of (List.mem_of_getElem? (i := 68) rfl) rfl, by decide +kernel, by decide⟩
abbrev b_X_newLine : ByteArray := prog_1_method_12_code
def y_X_newLine : MethodName := ⟨R_X, "newLine", "()V"⟩
theorem v_X_newLine : jY R_X y_X_newLine b_X_newLine 1 none 0 := ⟨wT_of (List.mem_of_getElem? (i := 70) rfl) rfl, wT_of (List.mem_of_getElem? (i := 71) rfl) rfl, wT_of (List.mem_of_getElem? (i := 21) rfl) rfl, wT_of (List.mem_of_getElem? (i := 72) rfl) rfl, by decide +kernel, by decide⟩
abbrev b_X_literal : ByteArray := prog_1_method_13_code
def y_X_literal : MethodName := ⟨R_X, "literal", "()I"⟩
theorem v_X_literal : jY R_X y_X_literal b_X_literal 4 (some .int) 0 := ⟨wT_of (List.mem_of_getElem? (i := 74) rfl) rfl, wT_of (List.mem_of_getElem? (i := 75) rfl) rfl, wT_of (List.mem_of_getElem? (i := 21) rfl) rfl, wT_of (List.mem_of_getElem? (i := 76) rfl) rfl, by decide +kernel, by decide⟩
abbrev b_X_refuse : ByteArray := prog_1_method_6_code
def y_X_refuse : MethodName := ⟨R_X, "refuse", "(I)I"⟩
theorem v_X_refuse : jY R_X y_X_refuse b_X_refuse 3 (some .int) 1 := ⟨wT_of (List.mem_of_getElem? (i := 79) rfl) rfl, wT_of (List.mem_of_getElem? (i := 1) rfl) rfl, wT_of (List.mem_of_getElem? (i := 21) rfl) rfl, wT_of (List.mem_of_getElem? (i := 80) rfl) rfl, by decide +kernel, by decide⟩
abbrev b_X_used : ByteArray := prog_1_method_35_code
def y_X_used : MethodName := ⟨R_X, "used", "()I"⟩
theorem v_X_used : jY R_X y_X_used b_X_used 3 (some .int) 0 := ⟨wT_of (List.mem_of_getElem? (i := 82) rfl) rfl, wT_of (List.mem_of_getElem? (i := 83) rfl) rfl, wT_of (List.mem_of_getElem? (i := 21) rfl) rfl, wT_of (List.mem_of_getElem? (i := 84) rfl) rfl, by decide +kernel, by decide⟩
abbrev b_X_descriptors : ByteArray := prog_1_method_2_code
def y_X_descriptors : MethodName := ⟨R_X, "descriptors", "()I"⟩
theorem v_X_descriptors : jY R_X y_X_descriptors b_X_descriptors 1 (some .int) 0 := ⟨wT_of (List.mem_of_getElem? (i := 87) rfl) rfl, wT_of (List.mem_of_getElem? (i := 2) rfl) rfl, wT_of (List.mem_of_getElem? (i := 21) rfl) rfl, wT_of (List.mem_of_getElem? (i := 88) rfl) rfl, by decide +kernel, by decide⟩
abbrev b_X_take : ByteArray := prog_1_method_5_code
def y_X_take : MethodName := ⟨R_X, "take", "(I)I"⟩
theorem v_X_take : jY R_X y_X_take b_X_take 2 (some .int) 1 := ⟨wT_of (List.mem_of_getElem? (i := 91) rfl) rfl, wT_of (List.mem_of_getElem? (i := 3) rfl) rfl, wT_of (List.mem_of_getElem? (i := 21) rfl) rfl, wT_of (List.mem_of_getElem? (i := 92) rfl) rfl, by decide +kernel, by decide⟩
abbrev b_X_collect : ByteArray := prog_1_method_4_code
def y_X_collect : MethodName := ⟨R_X, "collect", "()V"⟩
theorem v_X_collect : jY R_X y_X_collect b_X_collect 3 none 0 := ⟨wT_of (List.mem_of_getElem? (i := 95) rfl) rfl, wT_of (List.mem_of_getElem? (i := 4) rfl) rfl, wT_of (List.mem_of_getElem? (i := 21) rfl) rfl, wT_of (List.mem_of_getElem? (i := 96) rfl) rfl, by decide +kernel, by decide⟩
abbrev b_X_mark : ByteArray := prog_1_method_3_code
def y_X_mark : MethodName := ⟨R_X, "mark", "()V"⟩
theorem v_X_mark : jY R_X y_X_mark b_X_mark 3 none 0 := ⟨wT_of (List.mem_of_getElem? (i := 99) rfl) rfl, wT_of (List.mem_of_getElem? (i := 5) rfl) rfl, wT_of (List.mem_of_getElem? (i := 21) rfl) rfl, wT_of (List.mem_of_getElem? (i := 100) rfl) rfl, by decide +kernel, by decide⟩
abbrev b_X_pushBody : ByteArray := prog_1_method_8_code
def y_X_pushBody : MethodName := ⟨R_X, "pushBody", "(II)V"⟩
theorem v_X_pushBody : jY R_X y_X_pushBody b_X_pushBody 4 none 2 := ⟨wT_of (List.mem_of_getElem? (i := 103) rfl) rfl, wT_of (List.mem_of_getElem? (i := 6) rfl) rfl, wT_of (List.mem_of_getElem? (i := 21) rfl) rfl, wT_of (List.mem_of_getElem? (i := 104) rfl) rfl, by decide +kernel, by decide⟩
abbrev b_X_top : ByteArray := prog_1_method_7_code
def y_X_top : MethodName := ⟨R_X, "top", "()I"⟩
theorem v_X_top : jY R_X y_X_top b_X_top 1 (some .int) 0 := ⟨wT_of (List.mem_of_getElem? (i := 107) rfl) rfl, wT_of (List.mem_of_getElem? (i := 7) rfl) rfl, wT_of (List.mem_of_getElem? (i := 21) rfl) rfl, wT_of (List.mem_of_getElem? (i := 108) rfl) rfl, by decide +kernel, by decide⟩
abbrev b_X_push : ByteArray := prog_1_method_14_code
def y_X_push : MethodName := ⟨R_X, "push", "(I)I"⟩
theorem v_X_push : jY R_X y_X_push b_X_push 3 (some .int) 1 := ⟨wT_of (List.mem_of_getElem? (i := 110) rfl) rfl, wT_of (List.mem_of_getElem? (i := 111) rfl) rfl, wT_of (List.mem_of_getElem? (i := 21) rfl) rfl, wT_of (List.mem_of_getElem? (i := 112) rfl) rfl, by decide +kernel, by decide⟩
abbrev b_X_badVariable : ByteArray := prog_1_method_9_code
def y_X_badVariable : MethodName := ⟨R_X, "badVariable", "(I)Z"⟩
theorem v_X_badVariable : jY R_X y_X_badVariable b_X_badVariable 2 (some .boolean) 1 := ⟨wT_of (List.mem_of_getElem? (i := 115) rfl) rfl, wT_of (List.mem_of_getElem? (i := 8) rfl) rfl, wT_of (List.mem_of_getElem? (i := 21) rfl) rfl, wT_of (List.mem_of_getElem? (i := 116) rfl) rfl, by decide +kernel, by decide⟩
abbrev b_X_let : ByteArray := prog_1_method_15_code
def y_X_let : MethodName := ⟨R_X, "let", "(I)I"⟩
theorem v_X_let : jY R_X y_X_let b_X_let 3 (some .int) 1 := ⟨wT_of (List.mem_of_getElem? (i := 118) rfl) rfl, wT_of (List.mem_of_getElem? (i := 119) rfl) rfl, wT_of (List.mem_of_getElem? (i := 21) rfl) rfl, wT_of (List.mem_of_getElem? (i := 120) rfl) rfl, by decide +kernel, by decide⟩
abbrev b_X_drop : ByteArray := prog_1_method_16_code
def y_X_drop : MethodName := ⟨R_X, "drop", "()I"⟩
theorem v_X_drop : jY R_X y_X_drop b_X_drop 2 (some .int) 0 := ⟨wT_of (List.mem_of_getElem? (i := 122) rfl) rfl, wT_of (List.mem_of_getElem? (i := 123) rfl) rfl, wT_of (List.mem_of_getElem? (i := 21) rfl) rfl, wT_of (List.mem_of_getElem? (i := 124) rfl) rfl, by decide +kernel, by decide⟩
abbrev b_X_join : ByteArray := prog_1_method_17_code
def y_X_join : MethodName := ⟨R_X, "join", "()I"⟩
theorem v_X_join : jY R_X y_X_join b_X_join 5 (some .int) 0 := ⟨wT_of (List.mem_of_getElem? (i := 126) rfl) rfl, wT_of (List.mem_of_getElem? (i := 127) rfl) rfl, wT_of (List.mem_of_getElem? (i := 21) rfl) rfl, wT_of (List.mem_of_getElem? (i := 128) rfl) rfl, by decide +kernel, by decide⟩
abbrev b_X_copy : ByteArray := prog_1_method_18_code
def y_X_copy : MethodName := ⟨R_X, "copy", "(III)V"⟩
theorem v_X_copy : jY R_X y_X_copy b_X_copy 5 none 3 := ⟨wT_of (List.mem_of_getElem? (i := 131) rfl) rfl, wT_of (List.mem_of_getElem? (i := 9) rfl) rfl, wT_of (List.mem_of_getElem? (i := 21) rfl) rfl, wT_of (List.mem_of_getElem? (i := 132) rfl) rfl, by decide +kernel, by decide⟩
abbrev b_X_left : ByteArray := prog_1_method_20_code
def y_X_left : MethodName := ⟨R_X, "left", "(I)I"⟩
theorem v_X_left : jY R_X y_X_left b_X_left 2 (some .int) 1 := ⟨wT_of (List.mem_of_getElem? (i := 134) rfl) rfl, wT_of (List.mem_of_getElem? (i := 135) rfl) rfl, wT_of (List.mem_of_getElem? (i := 21) rfl) rfl, wT_of (List.mem_of_getElem? (i := 136) rfl) rfl, by decide +kernel, by decide⟩
abbrev b_X_cut : ByteArray := prog_1_method_19_code
def y_X_cut : MethodName := ⟨R_X, "cut", "(II)I"⟩
theorem v_X_cut : jY R_X y_X_cut b_X_cut 7 (some .int) 2 := ⟨wT_of (List.mem_of_getElem? (i := 139) rfl) rfl, wT_of (List.mem_of_getElem? (i := 10) rfl) rfl, wT_of (List.mem_of_getElem? (i := 21) rfl) rfl, wT_of (List.mem_of_getElem? (i := 140) rfl) rfl, by decide +kernel, by decide⟩
abbrev b_X_right : ByteArray := prog_1_method_21_code
def y_X_right : MethodName := ⟨R_X, "right", "(I)I"⟩
theorem v_X_right : jY R_X y_X_right b_X_right 3 (some .int) 1 := ⟨wT_of (List.mem_of_getElem? (i := 142) rfl) rfl, wT_of (List.mem_of_getElem? (i := 143) rfl) rfl, wT_of (List.mem_of_getElem? (i := 21) rfl) rfl, wT_of (List.mem_of_getElem? (i := 144) rfl) rfl, by decide +kernel, by decide⟩
abbrev b_X_mid : ByteArray := prog_1_method_22_code
def y_X_mid : MethodName := ⟨R_X, "mid", "(II)I"⟩
theorem v_X_mid : jY R_X y_X_mid b_X_mid 3 (some .int) 2 := ⟨wT_of (List.mem_of_getElem? (i := 146) rfl) rfl, wT_of (List.mem_of_getElem? (i := 147) rfl) rfl, wT_of (List.mem_of_getElem? (i := 21) rfl) rfl, wT_of (List.mem_of_getElem? (i := 148) rfl) rfl, by decide +kernel, by decide⟩
abbrev b_X_repeat : ByteArray := prog_1_method_23_code
def y_X_repeat : MethodName := ⟨R_X, "repeat", "(II)I"⟩
theorem v_X_repeat : jY R_X y_X_repeat b_X_repeat 6 (some .int) 2 := ⟨wT_of (List.mem_of_getElem? (i := 150) rfl) rfl, wT_of (List.mem_of_getElem? (i := 151) rfl) rfl, wT_of (List.mem_of_getElem? (i := 21) rfl) rfl, wT_of (List.mem_of_getElem? (i := 152) rfl) rfl, by decide +kernel, by decide⟩
abbrev b_X_compare : ByteArray := prog_1_method_24_code
def y_X_compare : MethodName := ⟨R_X, "compare", "()I"⟩
theorem v_X_compare : jY R_X y_X_compare b_X_compare 7 (some .int) 0 := ⟨wT_of (List.mem_of_getElem? (i := 154) rfl) rfl, wT_of (List.mem_of_getElem? (i := 155) rfl) rfl, wT_of (List.mem_of_getElem? (i := 21) rfl) rfl, wT_of (List.mem_of_getElem? (i := 156) rfl) rfl, by decide +kernel, by decide⟩
abbrev b_X_find : ByteArray := prog_1_method_26_code
def y_X_find : MethodName := ⟨R_X, "find", "(II)I"⟩
theorem v_X_find : jY R_X y_X_find b_X_find 5 (some .int) 2 := ⟨wT_of (List.mem_of_getElem? (i := 158) rfl) rfl, wT_of (List.mem_of_getElem? (i := 159) rfl) rfl, wT_of (List.mem_of_getElem? (i := 21) rfl) rfl, wT_of (List.mem_of_getElem? (i := 160) rfl) rfl, by decide +kernel, by decide⟩
abbrev b_X_beginsAt : ByteArray := prog_1_method_25_code
def y_X_beginsAt : MethodName := ⟨R_X, "beginsAt", "(III)Z"⟩
theorem v_X_beginsAt : jY R_X y_X_beginsAt b_X_beginsAt 5 (some .boolean) 3 := ⟨wT_of (List.mem_of_getElem? (i := 163) rfl) rfl, wT_of (List.mem_of_getElem? (i := 11) rfl) rfl, wT_of (List.mem_of_getElem? (i := 21) rfl) rfl, wT_of (List.mem_of_getElem? (i := 164) rfl) rfl, by decide +kernel, by decide⟩
abbrev b_X_setMid : ByteArray := prog_1_method_28_code
def y_X_setMid : MethodName := ⟨R_X, "setMid", "(II)I"⟩
theorem v_X_setMid : jY R_X y_X_setMid b_X_setMid 8 (some .int) 2 := ⟨wT_of (List.mem_of_getElem? (i := 166) rfl) rfl, wT_of (List.mem_of_getElem? (i := 167) rfl) rfl, wT_of (List.mem_of_getElem? (i := 21) rfl) rfl, wT_of (List.mem_of_getElem? (i := 168) rfl) rfl, by decide +kernel, by decide⟩
abbrev b_X_shared : ByteArray := prog_1_method_27_code
def y_X_shared : MethodName := ⟨R_X, "shared", "(I)Z"⟩
theorem v_X_shared : jY R_X y_X_shared b_X_shared 5 (some .boolean) 1 := ⟨wT_of (List.mem_of_getElem? (i := 171) rfl) rfl, wT_of (List.mem_of_getElem? (i := 12) rfl) rfl, wT_of (List.mem_of_getElem? (i := 21) rfl) rfl, wT_of (List.mem_of_getElem? (i := 172) rfl) rfl, by decide +kernel, by decide⟩
abbrev b_X_swap : ByteArray := prog_1_method_29_code
def y_X_swap : MethodName := ⟨R_X, "swap", "(II)I"⟩
theorem v_X_swap : jY R_X y_X_swap b_X_swap 5 (some .int) 2 := ⟨wT_of (List.mem_of_getElem? (i := 174) rfl) rfl, wT_of (List.mem_of_getElem? (i := 175) rfl) rfl, wT_of (List.mem_of_getElem? (i := 21) rfl) rfl, wT_of (List.mem_of_getElem? (i := 176) rfl) rfl, by decide +kernel, by decide⟩
abbrev b_X_length : ByteArray := prog_1_method_30_code
def y_X_length : MethodName := ⟨R_X, "length", "(I)I"⟩
theorem v_X_length : jY R_X y_X_length b_X_length 2 (some .int) 1 := ⟨wT_of (List.mem_of_getElem? (i := 178) rfl) rfl, wT_of (List.mem_of_getElem? (i := 179) rfl) rfl, wT_of (List.mem_of_getElem? (i := 21) rfl) rfl, wT_of (List.mem_of_getElem? (i := 180) rfl) rfl, by decide +kernel, by decide⟩
abbrev b_X_at : ByteArray := prog_1_method_31_code
def y_X_at : MethodName := ⟨R_X, "at", "(II)I"⟩
theorem v_X_at : jY R_X y_X_at b_X_at 3 (some .int) 2 := ⟨wT_of (List.mem_of_getElem? (i := 182) rfl) rfl, wT_of (List.mem_of_getElem? (i := 183) rfl) rfl, wT_of (List.mem_of_getElem? (i := 21) rfl) rfl, wT_of (List.mem_of_getElem? (i := 184) rfl) rfl, by decide +kernel, by decide⟩
abbrev b_X_pile : ByteArray := prog_1_method_32_code
def y_X_pile : MethodName := ⟨R_X, "pile", "()I"⟩
theorem v_X_pile : jY R_X y_X_pile b_X_pile 1 (some .int) 0 := ⟨wT_of (List.mem_of_getElem? (i := 186) rfl) rfl, wT_of (List.mem_of_getElem? (i := 187) rfl) rfl, wT_of (List.mem_of_getElem? (i := 21) rfl) rfl, wT_of (List.mem_of_getElem? (i := 188) rfl) rfl, by decide +kernel, by decide⟩
abbrev b_X_topLength : ByteArray := prog_1_method_33_code
def y_X_topLength : MethodName := ⟨R_X, "topLength", "()I"⟩
theorem v_X_topLength : jY R_X y_X_topLength b_X_topLength 1 (some .int) 0 := ⟨wT_of (List.mem_of_getElem? (i := 190) rfl) rfl, wT_of (List.mem_of_getElem? (i := 191) rfl) rfl, wT_of (List.mem_of_getElem? (i := 21) rfl) rfl, wT_of (List.mem_of_getElem? (i := 192) rfl) rfl, by decide +kernel, by decide⟩
abbrev b_X_topAt : ByteArray := prog_1_method_34_code
def y_X_topAt : MethodName := ⟨R_X, "topAt", "(I)I"⟩
theorem v_X_topAt : jY R_X y_X_topAt b_X_topAt 3 (some .int) 1 := ⟨wT_of (List.mem_of_getElem? (i := 194) rfl) rfl, wT_of (List.mem_of_getElem? (i := 195) rfl) rfl, wT_of (List.mem_of_getElem? (i := 21) rfl) rfl, wT_of (List.mem_of_getElem? (i := 196) rfl) rfl, by decide +kernel, by decide⟩
abbrev b_M_init : ByteArray := prog_3_method_1_code
def y_M_init : MethodName := ⟨R_M, "<init>", "()V"⟩
abbrev b_M_key : ByteArray := prog_3_method_5_code
def y_M_key : MethodName := ⟨R_M, "key", "(I)I"⟩
theorem v_M_key : jY R_M y_M_key b_M_key 2 (some .int) 1 := ⟨wT_of (List.mem_of_getElem? (i := 215) rfl) rfl, wT_of (List.mem_of_getElem? (i := 216) rfl) rfl, wT_of (List.mem_of_getElem? (i := 22) rfl) rfl, wT_of (List.mem_of_getElem? (i := 217) rfl) rfl, by decide +kernel, by decide⟩
abbrev b_M_isSmall : ByteArray := prog_3_method_3_code
def y_M_isSmall : MethodName := ⟨R_M, "isSmall", "(I)Z"⟩
theorem v_M_isSmall : jY R_M y_M_isSmall b_M_isSmall 2 (some .boolean) 1 := ⟨wT_of (List.mem_of_getElem? (i := 220) rfl) rfl, wT_of (List.mem_of_getElem? (i := 13) rfl) rfl, wT_of (List.mem_of_getElem? (i := 22) rfl) rfl, wT_of (List.mem_of_getElem? (i := 221) rfl) rfl, by decide +kernel, by decide⟩
abbrev b_M_newLine : ByteArray := prog_3_method_6_code
def y_M_newLine : MethodName := ⟨R_M, "newLine", "()V"⟩
theorem v_M_newLine : jY R_M y_M_newLine b_M_newLine 1 none 0 := ⟨wT_of (List.mem_of_getElem? (i := 223) rfl) rfl, wT_of (List.mem_of_getElem? (i := 224) rfl) rfl, wT_of (List.mem_of_getElem? (i := 22) rfl) rfl, wT_of (List.mem_of_getElem? (i := 225) rfl) rfl, by decide +kernel, by decide⟩
abbrev b_M_literal : ByteArray := prog_3_method_8_code
def y_M_literal : MethodName := ⟨R_M, "literal", "()I"⟩
theorem v_M_literal : jY R_M y_M_literal b_M_literal 1 (some .int) 0 := ⟨wT_of (List.mem_of_getElem? (i := 227) rfl) rfl, wT_of (List.mem_of_getElem? (i := 228) rfl) rfl, wT_of (List.mem_of_getElem? (i := 22) rfl) rfl, wT_of (List.mem_of_getElem? (i := 229) rfl) rfl, by decide +kernel, by decide⟩
abbrev b_M_pushCopy : ByteArray := prog_3_method_7_code
def y_M_pushCopy : MethodName := ⟨R_M, "pushCopy", "(I)I"⟩
theorem v_M_pushCopy : jY R_M y_M_pushCopy b_M_pushCopy 2 (some .int) 1 := ⟨wT_of (List.mem_of_getElem? (i := 232) rfl) rfl, wT_of (List.mem_of_getElem? (i := 14) rfl) rfl, wT_of (List.mem_of_getElem? (i := 22) rfl) rfl, wT_of (List.mem_of_getElem? (i := 233) rfl) rfl, by decide +kernel, by decide⟩
abbrev b_M_used : ByteArray := prog_3_method_29_code
def y_M_used : MethodName := ⟨R_M, "used", "()I"⟩
theorem v_M_used : jY R_M y_M_used b_M_used 3 (some .int) 0 := ⟨wT_of (List.mem_of_getElem? (i := 235) rfl) rfl, wT_of (List.mem_of_getElem? (i := 236) rfl) rfl, wT_of (List.mem_of_getElem? (i := 22) rfl) rfl, wT_of (List.mem_of_getElem? (i := 237) rfl) rfl, by decide +kernel, by decide⟩
abbrev b_M_copy : ByteArray := prog_3_method_4_code
def y_M_copy : MethodName := ⟨R_M, "copy", "(II)V"⟩
theorem v_M_copy : jY R_M y_M_copy b_M_copy 4 none 2 := ⟨wT_of (List.mem_of_getElem? (i := 240) rfl) rfl, wT_of (List.mem_of_getElem? (i := 15) rfl) rfl, wT_of (List.mem_of_getElem? (i := 22) rfl) rfl, wT_of (List.mem_of_getElem? (i := 241) rfl) rfl, by decide +kernel, by decide⟩
abbrev b_M_push : ByteArray := prog_3_method_9_code
def y_M_push : MethodName := ⟨R_M, "push", "(I)I"⟩
theorem v_M_push : jY R_M y_M_push b_M_push 2 (some .int) 1 := ⟨wT_of (List.mem_of_getElem? (i := 243) rfl) rfl, wT_of (List.mem_of_getElem? (i := 244) rfl) rfl, wT_of (List.mem_of_getElem? (i := 22) rfl) rfl, wT_of (List.mem_of_getElem? (i := 245) rfl) rfl, by decide +kernel, by decide⟩
abbrev b_M_isVariable : ByteArray := prog_3_method_2_code
def y_M_isVariable : MethodName := ⟨R_M, "isVariable", "(I)Z"⟩
theorem v_M_isVariable : jY R_M y_M_isVariable b_M_isVariable 2 (some .boolean) 1 := ⟨wT_of (List.mem_of_getElem? (i := 248) rfl) rfl, wT_of (List.mem_of_getElem? (i := 16) rfl) rfl, wT_of (List.mem_of_getElem? (i := 22) rfl) rfl, wT_of (List.mem_of_getElem? (i := 249) rfl) rfl, by decide +kernel, by decide⟩
abbrev b_M_let : ByteArray := prog_3_method_10_code
def y_M_let : MethodName := ⟨R_M, "let", "(I)I"⟩
theorem v_M_let : jY R_M y_M_let b_M_let 2 (some .int) 1 := ⟨wT_of (List.mem_of_getElem? (i := 251) rfl) rfl, wT_of (List.mem_of_getElem? (i := 252) rfl) rfl, wT_of (List.mem_of_getElem? (i := 22) rfl) rfl, wT_of (List.mem_of_getElem? (i := 253) rfl) rfl, by decide +kernel, by decide⟩
abbrev b_M_drop : ByteArray := prog_3_method_11_code
def y_M_drop : MethodName := ⟨R_M, "drop", "()I"⟩
theorem v_M_drop : jY R_M y_M_drop b_M_drop 1 (some .int) 0 := ⟨wT_of (List.mem_of_getElem? (i := 255) rfl) rfl, wT_of (List.mem_of_getElem? (i := 256) rfl) rfl, wT_of (List.mem_of_getElem? (i := 22) rfl) rfl, wT_of (List.mem_of_getElem? (i := 257) rfl) rfl, by decide +kernel, by decide⟩
abbrev b_M_join : ByteArray := prog_3_method_12_code
def y_M_join : MethodName := ⟨R_M, "join", "()I"⟩
theorem v_M_join : jY R_M y_M_join b_M_join 5 (some .int) 0 := ⟨wT_of (List.mem_of_getElem? (i := 259) rfl) rfl, wT_of (List.mem_of_getElem? (i := 260) rfl) rfl, wT_of (List.mem_of_getElem? (i := 22) rfl) rfl, wT_of (List.mem_of_getElem? (i := 261) rfl) rfl, by decide +kernel, by decide⟩
abbrev b_M_left : ByteArray := prog_3_method_14_code
def y_M_left : MethodName := ⟨R_M, "left", "(I)I"⟩
theorem v_M_left : jY R_M y_M_left b_M_left 2 (some .int) 1 := ⟨wT_of (List.mem_of_getElem? (i := 263) rfl) rfl, wT_of (List.mem_of_getElem? (i := 264) rfl) rfl, wT_of (List.mem_of_getElem? (i := 22) rfl) rfl, wT_of (List.mem_of_getElem? (i := 265) rfl) rfl, by decide +kernel, by decide⟩
abbrev b_M_cut : ByteArray := prog_3_method_13_code
def y_M_cut : MethodName := ⟨R_M, "cut", "(II)I"⟩
theorem v_M_cut : jY R_M y_M_cut b_M_cut 7 (some .int) 2 := ⟨wT_of (List.mem_of_getElem? (i := 268) rfl) rfl, wT_of (List.mem_of_getElem? (i := 17) rfl) rfl, wT_of (List.mem_of_getElem? (i := 22) rfl) rfl, wT_of (List.mem_of_getElem? (i := 269) rfl) rfl, by decide +kernel, by decide⟩
abbrev b_M_right : ByteArray := prog_3_method_15_code
def y_M_right : MethodName := ⟨R_M, "right", "(I)I"⟩
theorem v_M_right : jY R_M y_M_right b_M_right 3 (some .int) 1 := ⟨wT_of (List.mem_of_getElem? (i := 271) rfl) rfl, wT_of (List.mem_of_getElem? (i := 272) rfl) rfl, wT_of (List.mem_of_getElem? (i := 22) rfl) rfl, wT_of (List.mem_of_getElem? (i := 273) rfl) rfl, by decide +kernel, by decide⟩
abbrev b_M_mid : ByteArray := prog_3_method_16_code
def y_M_mid : MethodName := ⟨R_M, "mid", "(II)I"⟩
theorem v_M_mid : jY R_M y_M_mid b_M_mid 3 (some .int) 2 := ⟨wT_of (List.mem_of_getElem? (i := 275) rfl) rfl, wT_of (List.mem_of_getElem? (i := 276) rfl) rfl, wT_of (List.mem_of_getElem? (i := 22) rfl) rfl, wT_of (List.mem_of_getElem? (i := 277) rfl) rfl, by decide +kernel, by decide⟩
abbrev b_M_repeat : ByteArray := prog_3_method_17_code
def y_M_repeat : MethodName := ⟨R_M, "repeat", "(II)I"⟩
theorem v_M_repeat : jY R_M y_M_repeat b_M_repeat 5 (some .int) 2 := ⟨wT_of (List.mem_of_getElem? (i := 279) rfl) rfl, wT_of (List.mem_of_getElem? (i := 280) rfl) rfl, wT_of (List.mem_of_getElem? (i := 22) rfl) rfl, wT_of (List.mem_of_getElem? (i := 281) rfl) rfl, by decide +kernel, by decide⟩
abbrev b_M_compare : ByteArray := prog_3_method_19_code
def y_M_compare : MethodName := ⟨R_M, "compare", "()I"⟩
theorem v_M_compare : jY R_M y_M_compare b_M_compare 1 (some .int) 0 := ⟨wT_of (List.mem_of_getElem? (i := 283) rfl) rfl, wT_of (List.mem_of_getElem? (i := 284) rfl) rfl, wT_of (List.mem_of_getElem? (i := 22) rfl) rfl, wT_of (List.mem_of_getElem? (i := 285) rfl) rfl, by decide +kernel, by decide⟩
abbrev b_M_order : ByteArray := prog_3_method_18_code
def y_M_order : MethodName := ⟨R_M, "order", "(II)I"⟩
theorem v_M_order : jY R_M y_M_order b_M_order 4 (some .int) 2 := ⟨wT_of (List.mem_of_getElem? (i := 288) rfl) rfl, wT_of (List.mem_of_getElem? (i := 18) rfl) rfl, wT_of (List.mem_of_getElem? (i := 22) rfl) rfl, wT_of (List.mem_of_getElem? (i := 289) rfl) rfl, by decide +kernel, by decide⟩
abbrev b_M_find : ByteArray := prog_3_method_21_code
def y_M_find : MethodName := ⟨R_M, "find", "(II)I"⟩
theorem v_M_find : jY R_M y_M_find b_M_find 4 (some .int) 2 := ⟨wT_of (List.mem_of_getElem? (i := 291) rfl) rfl, wT_of (List.mem_of_getElem? (i := 292) rfl) rfl, wT_of (List.mem_of_getElem? (i := 22) rfl) rfl, wT_of (List.mem_of_getElem? (i := 293) rfl) rfl, by decide +kernel, by decide⟩
abbrev b_M_begins : ByteArray := prog_3_method_20_code
def y_M_begins : MethodName := ⟨R_M, "begins", "(III)Z"⟩
theorem v_M_begins : jY R_M y_M_begins b_M_begins 5 (some .boolean) 3 := ⟨wT_of (List.mem_of_getElem? (i := 296) rfl) rfl, wT_of (List.mem_of_getElem? (i := 19) rfl) rfl, wT_of (List.mem_of_getElem? (i := 22) rfl) rfl, wT_of (List.mem_of_getElem? (i := 297) rfl) rfl, by decide +kernel, by decide⟩
abbrev b_M_setMid : ByteArray := prog_3_method_22_code
def y_M_setMid : MethodName := ⟨R_M, "setMid", "(II)I"⟩
theorem v_M_setMid : jY R_M y_M_setMid b_M_setMid 6 (some .int) 2 := ⟨wT_of (List.mem_of_getElem? (i := 299) rfl) rfl, wT_of (List.mem_of_getElem? (i := 300) rfl) rfl, wT_of (List.mem_of_getElem? (i := 22) rfl) rfl, wT_of (List.mem_of_getElem? (i := 301) rfl) rfl, by decide +kernel, by decide⟩
abbrev b_M_swap : ByteArray := prog_3_method_23_code
def y_M_swap : MethodName := ⟨R_M, "swap", "(II)I"⟩
theorem v_M_swap : jY R_M y_M_swap b_M_swap 6 (some .int) 2 := ⟨wT_of (List.mem_of_getElem? (i := 303) rfl) rfl, wT_of (List.mem_of_getElem? (i := 304) rfl) rfl, wT_of (List.mem_of_getElem? (i := 22) rfl) rfl, wT_of (List.mem_of_getElem? (i := 305) rfl) rfl, by decide +kernel, by decide⟩
abbrev b_M_length : ByteArray := prog_3_method_24_code
def y_M_length : MethodName := ⟨R_M, "length", "(I)I"⟩
theorem v_M_length : jY R_M y_M_length b_M_length 2 (some .int) 1 := ⟨wT_of (List.mem_of_getElem? (i := 307) rfl) rfl, wT_of (List.mem_of_getElem? (i := 308) rfl) rfl, wT_of (List.mem_of_getElem? (i := 22) rfl) rfl, wT_of (List.mem_of_getElem? (i := 309) rfl) rfl, by decide +kernel, by decide⟩
abbrev b_M_at : ByteArray := prog_3_method_25_code
def y_M_at : MethodName := ⟨R_M, "at", "(II)I"⟩
theorem v_M_at : jY R_M y_M_at b_M_at 3 (some .int) 2 := ⟨wT_of (List.mem_of_getElem? (i := 311) rfl) rfl, wT_of (List.mem_of_getElem? (i := 312) rfl) rfl, wT_of (List.mem_of_getElem? (i := 22) rfl) rfl, wT_of (List.mem_of_getElem? (i := 313) rfl) rfl, by decide +kernel, by decide⟩
abbrev b_M_pile : ByteArray := prog_3_method_26_code
def y_M_pile : MethodName := ⟨R_M, "pile", "()I"⟩
theorem v_M_pile : jY R_M y_M_pile b_M_pile 1 (some .int) 0 := ⟨wT_of (List.mem_of_getElem? (i := 315) rfl) rfl, wT_of (List.mem_of_getElem? (i := 316) rfl) rfl, wT_of (List.mem_of_getElem? (i := 22) rfl) rfl, wT_of (List.mem_of_getElem? (i := 317) rfl) rfl, by decide +kernel, by decide⟩
abbrev b_M_topLength : ByteArray := prog_3_method_27_code
def y_M_topLength : MethodName := ⟨R_M, "topLength", "()I"⟩
theorem v_M_topLength : jY R_M y_M_topLength b_M_topLength 1 (some .int) 0 := ⟨wT_of (List.mem_of_getElem? (i := 319) rfl) rfl, wT_of (List.mem_of_getElem? (i := 320) rfl) rfl, wT_of (List.mem_of_getElem? (i := 22) rfl) rfl, wT_of (List.mem_of_getElem? (i := 321) rfl) rfl, by decide +kernel, by decide⟩
abbrev b_M_topAt : ByteArray := prog_3_method_28_code
def y_M_topAt : MethodName := ⟨R_M, "topAt", "(I)I"⟩
theorem v_M_topAt : jY R_M y_M_topAt b_M_topAt 2 (some .int) 1 := ⟨wT_of (List.mem_of_getElem? (i := 323) rfl) rfl, wT_of (List.mem_of_getElem? (i := 324) rfl) rfl, wT_of (List.mem_of_getElem? (i := 22) rfl) rfl, wT_of (List.mem_of_getElem? (i := 325) rfl) rfl, by decide +kernel, by decide⟩
theorem k_law_9 : Cond.methodLink R_law 9 y_X_init ∈ wT := wT_of (List.mem_of_getElem? (i := 25) rfl) rfl
theorem k_law_13 : Cond.methodLink R_law 13 y_X_key ∈ wT := wT_of (List.mem_of_getElem? (i := 61) rfl) rfl
theorem k_X_49 : Cond.methodLink R_X 49 y_X_badByte ∈ wT := wT_of (List.mem_of_getElem? (i := 65) rfl) rfl
theorem k_law_18 : Cond.methodLink R_law 18 y_X_newLine ∈ wT := wT_of (List.mem_of_getElem? (i := 69) rfl) rfl
theorem k_law_22 : Cond.methodLink R_law 22 y_X_literal ∈ wT := wT_of (List.mem_of_getElem? (i := 73) rfl) rfl
theorem k_X_56 : Cond.methodLink R_X 56 y_X_refuse ∈ wT := wT_of (List.mem_of_getElem? (i := 77) rfl) rfl
theorem k_X_42 : Cond.methodLink R_X 42 y_X_used ∈ wT := wT_of (List.mem_of_getElem? (i := 81) rfl) rfl
theorem k_X_85 : Cond.methodLink R_X 85 y_X_descriptors ∈ wT := wT_of (List.mem_of_getElem? (i := 85) rfl) rfl
theorem k_X_60 : Cond.methodLink R_X 60 y_X_take ∈ wT := wT_of (List.mem_of_getElem? (i := 89) rfl) rfl
theorem k_X_39 : Cond.methodLink R_X 39 y_X_collect ∈ wT := wT_of (List.mem_of_getElem? (i := 93) rfl) rfl
theorem k_X_36 : Cond.methodLink R_X 36 y_X_mark ∈ wT := wT_of (List.mem_of_getElem? (i := 97) rfl) rfl
theorem k_X_63 : Cond.methodLink R_X 63 y_X_pushBody ∈ wT := wT_of (List.mem_of_getElem? (i := 101) rfl) rfl
theorem k_X_46 : Cond.methodLink R_X 46 y_X_top ∈ wT := wT_of (List.mem_of_getElem? (i := 105) rfl) rfl
theorem k_law_27 : Cond.methodLink R_law 27 y_X_push ∈ wT := wT_of (List.mem_of_getElem? (i := 109) rfl) rfl
theorem k_X_67 : Cond.methodLink R_X 67 y_X_badVariable ∈ wT := wT_of (List.mem_of_getElem? (i := 113) rfl) rfl
theorem k_law_31 : Cond.methodLink R_law 31 y_X_let ∈ wT := wT_of (List.mem_of_getElem? (i := 117) rfl) rfl
theorem k_law_35 : Cond.methodLink R_law 35 y_X_drop ∈ wT := wT_of (List.mem_of_getElem? (i := 121) rfl) rfl
theorem k_law_39 : Cond.methodLink R_law 39 y_X_join ∈ wT := wT_of (List.mem_of_getElem? (i := 125) rfl) rfl
theorem k_X_70 : Cond.methodLink R_X 70 y_X_copy ∈ wT := wT_of (List.mem_of_getElem? (i := 129) rfl) rfl
theorem k_law_43 : Cond.methodLink R_law 43 y_X_left ∈ wT := wT_of (List.mem_of_getElem? (i := 133) rfl) rfl
theorem k_X_74 : Cond.methodLink R_X 74 y_X_cut ∈ wT := wT_of (List.mem_of_getElem? (i := 137) rfl) rfl
theorem k_law_47 : Cond.methodLink R_law 47 y_X_right ∈ wT := wT_of (List.mem_of_getElem? (i := 141) rfl) rfl
theorem k_law_51 : Cond.methodLink R_law 51 y_X_mid ∈ wT := wT_of (List.mem_of_getElem? (i := 145) rfl) rfl
theorem k_law_56 : Cond.methodLink R_law 56 y_X_repeat ∈ wT := wT_of (List.mem_of_getElem? (i := 149) rfl) rfl
theorem k_law_60 : Cond.methodLink R_law 60 y_X_compare ∈ wT := wT_of (List.mem_of_getElem? (i := 153) rfl) rfl
theorem k_law_64 : Cond.methodLink R_law 64 y_X_find ∈ wT := wT_of (List.mem_of_getElem? (i := 157) rfl) rfl
theorem k_X_78 : Cond.methodLink R_X 78 y_X_beginsAt ∈ wT := wT_of (List.mem_of_getElem? (i := 161) rfl) rfl
theorem k_law_68 : Cond.methodLink R_law 68 y_X_setMid ∈ wT := wT_of (List.mem_of_getElem? (i := 165) rfl) rfl
theorem k_X_82 : Cond.methodLink R_X 82 y_X_shared ∈ wT := wT_of (List.mem_of_getElem? (i := 169) rfl) rfl
theorem k_law_72 : Cond.methodLink R_law 72 y_X_swap ∈ wT := wT_of (List.mem_of_getElem? (i := 173) rfl) rfl
theorem k_law_76 : Cond.methodLink R_law 76 y_X_length ∈ wT := wT_of (List.mem_of_getElem? (i := 177) rfl) rfl
theorem k_law_80 : Cond.methodLink R_law 80 y_X_at ∈ wT := wT_of (List.mem_of_getElem? (i := 181) rfl) rfl
theorem k_law_84 : Cond.methodLink R_law 84 y_X_pile ∈ wT := wT_of (List.mem_of_getElem? (i := 185) rfl) rfl
theorem k_law_88 : Cond.methodLink R_law 88 y_X_topLength ∈ wT := wT_of (List.mem_of_getElem? (i := 189) rfl) rfl
theorem k_law_92 : Cond.methodLink R_law 92 y_X_topAt ∈ wT := wT_of (List.mem_of_getElem? (i := 193) rfl) rfl
theorem k_law_96 : Cond.methodLink R_law 96 y_X_used ∈ wT := wT_of (List.mem_of_getElem? (i := 197) rfl) rfl
theorem k_law_12 : Cond.methodLink R_law 12 y_M_init ∈ wT := wT_of (List.mem_of_getElem? (i := 200) rfl) rfl
theorem k_law_17 : Cond.methodLink R_law 17 y_M_key ∈ wT := wT_of (List.mem_of_getElem? (i := 214) rfl) rfl
theorem k_M_16 : Cond.methodLink R_M 16 y_M_isSmall ∈ wT := wT_of (List.mem_of_getElem? (i := 218) rfl) rfl
theorem k_law_21 : Cond.methodLink R_law 21 y_M_newLine ∈ wT := wT_of (List.mem_of_getElem? (i := 222) rfl) rfl
theorem k_law_26 : Cond.methodLink R_law 26 y_M_literal ∈ wT := wT_of (List.mem_of_getElem? (i := 226) rfl) rfl
theorem k_M_32 : Cond.methodLink R_M 32 y_M_pushCopy ∈ wT := wT_of (List.mem_of_getElem? (i := 230) rfl) rfl
theorem k_M_24 : Cond.methodLink R_M 24 y_M_used ∈ wT := wT_of (List.mem_of_getElem? (i := 234) rfl) rfl
theorem k_M_28 : Cond.methodLink R_M 28 y_M_copy ∈ wT := wT_of (List.mem_of_getElem? (i := 238) rfl) rfl
theorem k_law_30 : Cond.methodLink R_law 30 y_M_push ∈ wT := wT_of (List.mem_of_getElem? (i := 242) rfl) rfl
theorem k_M_36 : Cond.methodLink R_M 36 y_M_isVariable ∈ wT := wT_of (List.mem_of_getElem? (i := 246) rfl) rfl
theorem k_law_34 : Cond.methodLink R_law 34 y_M_let ∈ wT := wT_of (List.mem_of_getElem? (i := 250) rfl) rfl
theorem k_law_38 : Cond.methodLink R_law 38 y_M_drop ∈ wT := wT_of (List.mem_of_getElem? (i := 254) rfl) rfl
theorem k_law_42 : Cond.methodLink R_law 42 y_M_join ∈ wT := wT_of (List.mem_of_getElem? (i := 258) rfl) rfl
theorem k_law_46 : Cond.methodLink R_law 46 y_M_left ∈ wT := wT_of (List.mem_of_getElem? (i := 262) rfl) rfl
theorem k_M_39 : Cond.methodLink R_M 39 y_M_cut ∈ wT := wT_of (List.mem_of_getElem? (i := 266) rfl) rfl
theorem k_law_50 : Cond.methodLink R_law 50 y_M_right ∈ wT := wT_of (List.mem_of_getElem? (i := 270) rfl) rfl
theorem k_law_55 : Cond.methodLink R_law 55 y_M_mid ∈ wT := wT_of (List.mem_of_getElem? (i := 274) rfl) rfl
theorem k_law_59 : Cond.methodLink R_law 59 y_M_repeat ∈ wT := wT_of (List.mem_of_getElem? (i := 278) rfl) rfl
theorem k_law_63 : Cond.methodLink R_law 63 y_M_compare ∈ wT := wT_of (List.mem_of_getElem? (i := 282) rfl) rfl
theorem k_M_43 : Cond.methodLink R_M 43 y_M_order ∈ wT := wT_of (List.mem_of_getElem? (i := 286) rfl) rfl
theorem k_law_67 : Cond.methodLink R_law 67 y_M_find ∈ wT := wT_of (List.mem_of_getElem? (i := 290) rfl) rfl
theorem k_M_46 : Cond.methodLink R_M 46 y_M_begins ∈ wT := wT_of (List.mem_of_getElem? (i := 294) rfl) rfl
theorem k_law_71 : Cond.methodLink R_law 71 y_M_setMid ∈ wT := wT_of (List.mem_of_getElem? (i := 298) rfl) rfl
theorem k_law_75 : Cond.methodLink R_law 75 y_M_swap ∈ wT := wT_of (List.mem_of_getElem? (i := 302) rfl) rfl
theorem k_law_79 : Cond.methodLink R_law 79 y_M_length ∈ wT := wT_of (List.mem_of_getElem? (i := 306) rfl) rfl
theorem k_law_83 : Cond.methodLink R_law 83 y_M_at ∈ wT := wT_of (List.mem_of_getElem? (i := 310) rfl) rfl
theorem k_law_87 : Cond.methodLink R_law 87 y_M_pile ∈ wT := wT_of (List.mem_of_getElem? (i := 314) rfl) rfl
theorem k_law_91 : Cond.methodLink R_law 91 y_M_topLength ∈ wT := wT_of (List.mem_of_getElem? (i := 318) rfl) rfl
theorem k_law_95 : Cond.methodLink R_law 95 y_M_topAt ∈ wT := wT_of (List.mem_of_getElem? (i := 322) rfl) rfl
theorem k_law_99 : Cond.methodLink R_law 99 y_M_used ∈ wT := wT_of (List.mem_of_getElem? (i := 326) rfl) rfl
theorem f_X_53 : Cond.fieldLink R_X 53 "BasicStrings" "keyed" "I" ∈ wT := wT_of (List.mem_of_getElem? (i := 31) rfl) rfl
theorem f_X_7 : Cond.fieldLink R_X 7 "BasicStrings" "line" "[I" ∈ wT := wT_of (List.mem_of_getElem? (i := 32) rfl) rfl
theorem f_X_33 : Cond.fieldLink R_X 33 "BasicStrings" "piled" "I" ∈ wT := wT_of (List.mem_of_getElem? (i := 33) rfl) rfl
theorem f_X_13 : Cond.fieldLink R_X 13 "BasicStrings" "length" "[I" ∈ wT := wT_of (List.mem_of_getElem? (i := 34) rfl) rfl
theorem f_X_16 : Cond.fieldLink R_X 16 "BasicStrings" "body" "[I" ∈ wT := wT_of (List.mem_of_getElem? (i := 35) rfl) rfl
theorem f_X_29 : Cond.fieldLink R_X 29 "BasicStrings" "bottom" "I" ∈ wT := wT_of (List.mem_of_getElem? (i := 36) rfl) rfl
theorem f_X_19 : Cond.fieldLink R_X 19 "BasicStrings" "store" "[I" ∈ wT := wT_of (List.mem_of_getElem? (i := 37) rfl) rfl
theorem f_X_22 : Cond.fieldLink R_X 22 "BasicStrings" "wanted" "[Z" ∈ wT := wT_of (List.mem_of_getElem? (i := 38) rfl) rfl
theorem f_X_26 : Cond.fieldLink R_X 26 "BasicStrings" "target" "[I" ∈ wT := wT_of (List.mem_of_getElem? (i := 39) rfl) rfl
theorem f_M_7 : Cond.fieldLink R_M 7 "BasicStringsModel" "chars" "[I" ∈ wT := wT_of (List.mem_of_getElem? (i := 204) rfl) rfl
theorem f_M_13 : Cond.fieldLink R_M 13 "BasicStringsModel" "lengths" "[I" ∈ wT := wT_of (List.mem_of_getElem? (i := 205) rfl) rfl
theorem f_M_20 : Cond.fieldLink R_M 20 "BasicStringsModel" "piled" "I" ∈ wT := wT_of (List.mem_of_getElem? (i := 206) rfl) rfl
end
section
theorem d_X_init_0 : decode b_X_init 0 = .ok (.aload_n 0, 1) := by decide +kernel
theorem d_X_init_1 : decode b_X_init 1 = .ok (.invokespecial 1, 3) := by decide +kernel
theorem d_X_init_4 : decode b_X_init 4 = .ok (.aload_n 0, 1) := by decide +kernel
theorem d_X_init_5 : decode b_X_init 5 = .ok (.bipush 40, 2) := by decide +kernel
theorem d_X_init_7 : decode b_X_init 7 = .ok (.newarray .int, 2) := by decide +kernel
theorem d_X_init_9 : decode b_X_init 9 = .ok (.putfield 7, 3) := by decide +kernel
theorem d_X_init_12 : decode b_X_init 12 = .ok (.aload_n 0, 1) := by decide +kernel
theorem d_X_init_13 : decode b_X_init 13 = .ok (.bipush 10, 2) := by decide +kernel
theorem d_X_init_15 : decode b_X_init 15 = .ok (.newarray .int, 2) := by decide +kernel
theorem d_X_init_17 : decode b_X_init 17 = .ok (.putfield 13, 3) := by decide +kernel
theorem d_X_init_20 : decode b_X_init 20 = .ok (.aload_n 0, 1) := by decide +kernel
theorem d_X_init_21 : decode b_X_init 21 = .ok (.bipush 10, 2) := by decide +kernel
theorem d_X_init_23 : decode b_X_init 23 = .ok (.newarray .int, 2) := by decide +kernel
theorem d_X_init_25 : decode b_X_init 25 = .ok (.putfield 16, 3) := by decide +kernel
theorem d_X_init_28 : decode b_X_init 28 = .ok (.aload_n 0, 1) := by decide +kernel
theorem d_X_init_29 : decode b_X_init 29 = .ok (.sipush 144, 3) := by decide +kernel
theorem d_X_init_32 : decode b_X_init 32 = .ok (.newarray .int, 2) := by decide +kernel
theorem d_X_init_34 : decode b_X_init 34 = .ok (.putfield 19, 3) := by decide +kernel
theorem d_X_init_37 : decode b_X_init 37 = .ok (.aload_n 0, 1) := by decide +kernel
theorem d_X_init_38 : decode b_X_init 38 = .ok (.sipush 144, 3) := by decide +kernel
theorem d_X_init_41 : decode b_X_init 41 = .ok (.newarray .boolean, 2) := by decide +kernel
theorem d_X_init_43 : decode b_X_init 43 = .ok (.putfield 22, 3) := by decide +kernel
theorem d_X_init_46 : decode b_X_init 46 = .ok (.aload_n 0, 1) := by decide +kernel
theorem d_X_init_47 : decode b_X_init 47 = .ok (.sipush 144, 3) := by decide +kernel
theorem d_X_init_50 : decode b_X_init 50 = .ok (.newarray .int, 2) := by decide +kernel
theorem d_X_init_52 : decode b_X_init 52 = .ok (.putfield 26, 3) := by decide +kernel
theorem d_X_init_55 : decode b_X_init 55 = .ok (.aload_n 0, 1) := by decide +kernel
theorem d_X_init_56 : decode b_X_init 56 = .ok (.sipush 144, 3) := by decide +kernel
theorem d_X_init_59 : decode b_X_init 59 = .ok (.putfield 29, 3) := by decide +kernel
theorem d_X_init_62 : decode b_X_init 62 = .ok (.return_, 1) := by decide +kernel
theorem d_X_descriptors_0 : decode b_X_descriptors 0 = .ok (.bipush 6, 2) := by decide +kernel
theorem d_X_descriptors_2 : decode b_X_descriptors 2 = .ok (.aload_n 0, 1) := by decide +kernel
theorem d_X_descriptors_3 : decode b_X_descriptors 3 = .ok (.getfield 33, 3) := by decide +kernel
theorem d_X_descriptors_6 : decode b_X_descriptors 6 = .ok (.iadd, 1) := by decide +kernel
theorem d_X_descriptors_7 : decode b_X_descriptors 7 = .ok (.ireturn, 1) := by decide +kernel
theorem d_X_mark_0 : decode b_X_mark 0 = .ok (.iconst 0, 1) := by decide +kernel
theorem d_X_mark_1 : decode b_X_mark 1 = .ok (.istore_n 1, 1) := by decide +kernel
theorem d_X_mark_2 : decode b_X_mark 2 = .ok (.iload_n 1, 1) := by decide +kernel
theorem d_X_mark_3 : decode b_X_mark 3 = .ok (.sipush 144, 3) := by decide +kernel
theorem d_X_mark_6 : decode b_X_mark 6 = .ok (.if_icmp .ge 16, 3) := by decide +kernel
theorem d_X_mark_9 : decode b_X_mark 9 = .ok (.aload_n 0, 1) := by decide +kernel
theorem d_X_mark_10 : decode b_X_mark 10 = .ok (.getfield 22, 3) := by decide +kernel
theorem d_X_mark_13 : decode b_X_mark 13 = .ok (.iload_n 1, 1) := by decide +kernel
theorem d_X_mark_14 : decode b_X_mark 14 = .ok (.iconst 0, 1) := by decide +kernel
theorem d_X_mark_15 : decode b_X_mark 15 = .ok (.bastore, 1) := by decide +kernel
theorem d_X_mark_16 : decode b_X_mark 16 = .ok (.iinc 1 1, 3) := by decide +kernel
theorem d_X_mark_19 : decode b_X_mark 19 = .ok (.goto (-17), 3) := by decide +kernel
theorem d_X_mark_22 : decode b_X_mark 22 = .ok (.iconst 0, 1) := by decide +kernel
theorem d_X_mark_23 : decode b_X_mark 23 = .ok (.istore_n 1, 1) := by decide +kernel
theorem d_X_mark_24 : decode b_X_mark 24 = .ok (.iload_n 1, 1) := by decide +kernel
theorem d_X_mark_25 : decode b_X_mark 25 = .ok (.bipush 10, 2) := by decide +kernel
theorem d_X_mark_27 : decode b_X_mark 27 = .ok (.if_icmp .ge 57, 3) := by decide +kernel
theorem d_X_mark_30 : decode b_X_mark 30 = .ok (.iload_n 1, 1) := by decide +kernel
theorem d_X_mark_31 : decode b_X_mark 31 = .ok (.bipush 6, 2) := by decide +kernel
theorem d_X_mark_33 : decode b_X_mark 33 = .ok (.aload_n 0, 1) := by decide +kernel
theorem d_X_mark_34 : decode b_X_mark 34 = .ok (.getfield 33, 3) := by decide +kernel
theorem d_X_mark_37 : decode b_X_mark 37 = .ok (.iadd, 1) := by decide +kernel
theorem d_X_mark_38 : decode b_X_mark 38 = .ok (.if_icmp .ge 40, 3) := by decide +kernel
theorem d_X_mark_41 : decode b_X_mark 41 = .ok (.aload_n 0, 1) := by decide +kernel
theorem d_X_mark_42 : decode b_X_mark 42 = .ok (.getfield 16, 3) := by decide +kernel
theorem d_X_mark_45 : decode b_X_mark 45 = .ok (.iload_n 1, 1) := by decide +kernel
theorem d_X_mark_46 : decode b_X_mark 46 = .ok (.iaload, 1) := by decide +kernel
theorem d_X_mark_47 : decode b_X_mark 47 = .ok (.istore_n 2, 1) := by decide +kernel
theorem d_X_mark_48 : decode b_X_mark 48 = .ok (.iload_n 2, 1) := by decide +kernel
theorem d_X_mark_49 : decode b_X_mark 49 = .ok (.aload_n 0, 1) := by decide +kernel
theorem d_X_mark_50 : decode b_X_mark 50 = .ok (.getfield 16, 3) := by decide +kernel
theorem d_X_mark_53 : decode b_X_mark 53 = .ok (.iload_n 1, 1) := by decide +kernel
theorem d_X_mark_54 : decode b_X_mark 54 = .ok (.iaload, 1) := by decide +kernel
theorem d_X_mark_55 : decode b_X_mark 55 = .ok (.aload_n 0, 1) := by decide +kernel
theorem d_X_mark_56 : decode b_X_mark 56 = .ok (.getfield 13, 3) := by decide +kernel
theorem d_X_mark_59 : decode b_X_mark 59 = .ok (.iload_n 1, 1) := by decide +kernel
theorem d_X_mark_60 : decode b_X_mark 60 = .ok (.iaload, 1) := by decide +kernel
theorem d_X_mark_61 : decode b_X_mark 61 = .ok (.iadd, 1) := by decide +kernel
theorem d_X_mark_62 : decode b_X_mark 62 = .ok (.if_icmp .ge 16, 3) := by decide +kernel
theorem d_X_mark_65 : decode b_X_mark 65 = .ok (.aload_n 0, 1) := by decide +kernel
theorem d_X_mark_66 : decode b_X_mark 66 = .ok (.getfield 22, 3) := by decide +kernel
theorem d_X_mark_69 : decode b_X_mark 69 = .ok (.iload_n 2, 1) := by decide +kernel
theorem d_X_mark_70 : decode b_X_mark 70 = .ok (.iconst 1, 1) := by decide +kernel
theorem d_X_mark_71 : decode b_X_mark 71 = .ok (.bastore, 1) := by decide +kernel
theorem d_X_mark_72 : decode b_X_mark 72 = .ok (.iinc 2 1, 3) := by decide +kernel
theorem d_X_mark_75 : decode b_X_mark 75 = .ok (.goto (-27), 3) := by decide +kernel
theorem d_X_mark_78 : decode b_X_mark 78 = .ok (.iinc 1 1, 3) := by decide +kernel
theorem d_X_mark_81 : decode b_X_mark 81 = .ok (.goto (-57), 3) := by decide +kernel
theorem d_X_mark_84 : decode b_X_mark 84 = .ok (.return_, 1) := by decide +kernel
theorem d_X_collect_0 : decode b_X_collect 0 = .ok (.aload_n 0, 1) := by decide +kernel
theorem d_X_collect_1 : decode b_X_collect 1 = .ok (.invokevirtual 36, 3) := by decide +kernel
theorem d_X_collect_4 : decode b_X_collect 4 = .ok (.sipush 144, 3) := by decide +kernel
theorem d_X_collect_7 : decode b_X_collect 7 = .ok (.istore_n 1, 1) := by decide +kernel
theorem d_X_collect_8 : decode b_X_collect 8 = .ok (.sipush 143, 3) := by decide +kernel
theorem d_X_collect_11 : decode b_X_collect 11 = .ok (.istore_n 2, 1) := by decide +kernel
theorem d_X_collect_12 : decode b_X_collect 12 = .ok (.iload_n 2, 1) := by decide +kernel
theorem d_X_collect_13 : decode b_X_collect 13 = .ok (.ifCond .lt 40, 3) := by decide +kernel
theorem d_X_collect_16 : decode b_X_collect 16 = .ok (.aload_n 0, 1) := by decide +kernel
theorem d_X_collect_17 : decode b_X_collect 17 = .ok (.getfield 22, 3) := by decide +kernel
theorem d_X_collect_20 : decode b_X_collect 20 = .ok (.iload_n 2, 1) := by decide +kernel
theorem d_X_collect_21 : decode b_X_collect 21 = .ok (.baload, 1) := by decide +kernel
theorem d_X_collect_22 : decode b_X_collect 22 = .ok (.ifCond .eq 25, 3) := by decide +kernel
theorem d_X_collect_25 : decode b_X_collect 25 = .ok (.iinc 1 (-1), 3) := by decide +kernel
theorem d_X_collect_28 : decode b_X_collect 28 = .ok (.aload_n 0, 1) := by decide +kernel
theorem d_X_collect_29 : decode b_X_collect 29 = .ok (.getfield 19, 3) := by decide +kernel
theorem d_X_collect_32 : decode b_X_collect 32 = .ok (.iload_n 1, 1) := by decide +kernel
theorem d_X_collect_33 : decode b_X_collect 33 = .ok (.aload_n 0, 1) := by decide +kernel
theorem d_X_collect_34 : decode b_X_collect 34 = .ok (.getfield 19, 3) := by decide +kernel
theorem d_X_collect_37 : decode b_X_collect 37 = .ok (.iload_n 2, 1) := by decide +kernel
theorem d_X_collect_38 : decode b_X_collect 38 = .ok (.iaload, 1) := by decide +kernel
theorem d_X_collect_39 : decode b_X_collect 39 = .ok (.iastore, 1) := by decide +kernel
theorem d_X_collect_40 : decode b_X_collect 40 = .ok (.aload_n 0, 1) := by decide +kernel
theorem d_X_collect_41 : decode b_X_collect 41 = .ok (.getfield 26, 3) := by decide +kernel
theorem d_X_collect_44 : decode b_X_collect 44 = .ok (.iload_n 2, 1) := by decide +kernel
theorem d_X_collect_45 : decode b_X_collect 45 = .ok (.iload_n 1, 1) := by decide +kernel
theorem d_X_collect_46 : decode b_X_collect 46 = .ok (.iastore, 1) := by decide +kernel
theorem d_X_collect_47 : decode b_X_collect 47 = .ok (.iinc 2 (-1), 3) := by decide +kernel
theorem d_X_collect_50 : decode b_X_collect 50 = .ok (.goto (-38), 3) := by decide +kernel
theorem d_X_collect_53 : decode b_X_collect 53 = .ok (.aload_n 0, 1) := by decide +kernel
theorem d_X_collect_54 : decode b_X_collect 54 = .ok (.iload_n 1, 1) := by decide +kernel
theorem d_X_collect_55 : decode b_X_collect 55 = .ok (.putfield 29, 3) := by decide +kernel
theorem d_X_collect_58 : decode b_X_collect 58 = .ok (.iconst 0, 1) := by decide +kernel
theorem d_X_collect_59 : decode b_X_collect 59 = .ok (.istore_n 2, 1) := by decide +kernel
theorem d_X_collect_60 : decode b_X_collect 60 = .ok (.iload_n 2, 1) := by decide +kernel
theorem d_X_collect_61 : decode b_X_collect 61 = .ok (.bipush 10, 2) := by decide +kernel
theorem d_X_collect_63 : decode b_X_collect 63 = .ok (.if_icmp .ge 46, 3) := by decide +kernel
theorem d_X_collect_66 : decode b_X_collect 66 = .ok (.iload_n 2, 1) := by decide +kernel
theorem d_X_collect_67 : decode b_X_collect 67 = .ok (.bipush 6, 2) := by decide +kernel
theorem d_X_collect_69 : decode b_X_collect 69 = .ok (.aload_n 0, 1) := by decide +kernel
theorem d_X_collect_70 : decode b_X_collect 70 = .ok (.getfield 33, 3) := by decide +kernel
theorem d_X_collect_73 : decode b_X_collect 73 = .ok (.iadd, 1) := by decide +kernel
theorem d_X_collect_74 : decode b_X_collect 74 = .ok (.if_icmp .ge 29, 3) := by decide +kernel
theorem d_X_collect_77 : decode b_X_collect 77 = .ok (.aload_n 0, 1) := by decide +kernel
theorem d_X_collect_78 : decode b_X_collect 78 = .ok (.getfield 13, 3) := by decide +kernel
theorem d_X_collect_81 : decode b_X_collect 81 = .ok (.iload_n 2, 1) := by decide +kernel
theorem d_X_collect_82 : decode b_X_collect 82 = .ok (.iaload, 1) := by decide +kernel
theorem d_X_collect_83 : decode b_X_collect 83 = .ok (.ifCond .le 20, 3) := by decide +kernel
theorem d_X_collect_86 : decode b_X_collect 86 = .ok (.aload_n 0, 1) := by decide +kernel
theorem d_X_collect_87 : decode b_X_collect 87 = .ok (.getfield 16, 3) := by decide +kernel
theorem d_X_collect_90 : decode b_X_collect 90 = .ok (.iload_n 2, 1) := by decide +kernel
theorem d_X_collect_91 : decode b_X_collect 91 = .ok (.aload_n 0, 1) := by decide +kernel
theorem d_X_collect_92 : decode b_X_collect 92 = .ok (.getfield 26, 3) := by decide +kernel
theorem d_X_collect_95 : decode b_X_collect 95 = .ok (.aload_n 0, 1) := by decide +kernel
theorem d_X_collect_96 : decode b_X_collect 96 = .ok (.getfield 16, 3) := by decide +kernel
theorem d_X_collect_99 : decode b_X_collect 99 = .ok (.iload_n 2, 1) := by decide +kernel
theorem d_X_collect_100 : decode b_X_collect 100 = .ok (.iaload, 1) := by decide +kernel
theorem d_X_collect_101 : decode b_X_collect 101 = .ok (.iaload, 1) := by decide +kernel
theorem d_X_collect_102 : decode b_X_collect 102 = .ok (.iastore, 1) := by decide +kernel
theorem d_X_collect_103 : decode b_X_collect 103 = .ok (.iinc 2 1, 3) := by decide +kernel
theorem d_X_collect_106 : decode b_X_collect 106 = .ok (.goto (-46), 3) := by decide +kernel
theorem d_X_collect_109 : decode b_X_collect 109 = .ok (.return_, 1) := by decide +kernel
theorem d_X_take_0 : decode b_X_take 0 = .ok (.aload_n 0, 1) := by decide +kernel
theorem d_X_take_1 : decode b_X_take 1 = .ok (.getfield 29, 3) := by decide +kernel
theorem d_X_take_4 : decode b_X_take 4 = .ok (.iload_n 1, 1) := by decide +kernel
theorem d_X_take_5 : decode b_X_take 5 = .ok (.if_icmp .ge 7, 3) := by decide +kernel
theorem d_X_take_8 : decode b_X_take 8 = .ok (.aload_n 0, 1) := by decide +kernel
theorem d_X_take_9 : decode b_X_take 9 = .ok (.invokevirtual 39, 3) := by decide +kernel
theorem d_X_take_12 : decode b_X_take 12 = .ok (.aload_n 0, 1) := by decide +kernel
theorem d_X_take_13 : decode b_X_take 13 = .ok (.aload_n 0, 1) := by decide +kernel
theorem d_X_take_14 : decode b_X_take 14 = .ok (.getfield 29, 3) := by decide +kernel
theorem d_X_take_17 : decode b_X_take 17 = .ok (.iload_n 1, 1) := by decide +kernel
theorem d_X_take_18 : decode b_X_take 18 = .ok (.isub, 1) := by decide +kernel
theorem d_X_take_19 : decode b_X_take 19 = .ok (.putfield 29, 3) := by decide +kernel
theorem d_X_take_22 : decode b_X_take 22 = .ok (.aload_n 0, 1) := by decide +kernel
theorem d_X_take_23 : decode b_X_take 23 = .ok (.getfield 29, 3) := by decide +kernel
theorem d_X_take_26 : decode b_X_take 26 = .ok (.ireturn, 1) := by decide +kernel
theorem d_X_refuse_0 : decode b_X_refuse 0 = .ok (.aload_n 0, 1) := by decide +kernel
theorem d_X_refuse_1 : decode b_X_refuse 1 = .ok (.getfield 33, 3) := by decide +kernel
theorem d_X_refuse_4 : decode b_X_refuse 4 = .ok (.iconst 4, 1) := by decide +kernel
theorem d_X_refuse_5 : decode b_X_refuse 5 = .ok (.if_icmp .ne 6, 3) := by decide +kernel
theorem d_X_refuse_8 : decode b_X_refuse 8 = .ok (.bipush (-2), 2) := by decide +kernel
theorem d_X_refuse_10 : decode b_X_refuse 10 = .ok (.ireturn, 1) := by decide +kernel
theorem d_X_refuse_11 : decode b_X_refuse 11 = .ok (.iload_n 1, 1) := by decide +kernel
theorem d_X_refuse_12 : decode b_X_refuse 12 = .ok (.bipush 40, 2) := by decide +kernel
theorem d_X_refuse_14 : decode b_X_refuse 14 = .ok (.if_icmp .le 6, 3) := by decide +kernel
theorem d_X_refuse_17 : decode b_X_refuse 17 = .ok (.bipush (-5), 2) := by decide +kernel
theorem d_X_refuse_19 : decode b_X_refuse 19 = .ok (.ireturn, 1) := by decide +kernel
theorem d_X_refuse_20 : decode b_X_refuse 20 = .ok (.aload_n 0, 1) := by decide +kernel
theorem d_X_refuse_21 : decode b_X_refuse 21 = .ok (.invokevirtual 42, 3) := by decide +kernel
theorem d_X_refuse_24 : decode b_X_refuse 24 = .ok (.istore_n 2, 1) := by decide +kernel
theorem d_X_refuse_25 : decode b_X_refuse 25 = .ok (.iload_n 2, 1) := by decide +kernel
theorem d_X_refuse_26 : decode b_X_refuse 26 = .ok (.iload_n 1, 1) := by decide +kernel
theorem d_X_refuse_27 : decode b_X_refuse 27 = .ok (.iadd, 1) := by decide +kernel
theorem d_X_refuse_28 : decode b_X_refuse 28 = .ok (.bipush 100, 2) := by decide +kernel
theorem d_X_refuse_30 : decode b_X_refuse 30 = .ok (.if_icmp .le 8, 3) := by decide +kernel
theorem d_X_refuse_33 : decode b_X_refuse 33 = .ok (.bipush (-2), 2) := by decide +kernel
theorem d_X_refuse_35 : decode b_X_refuse 35 = .ok (.goto 4, 3) := by decide +kernel
theorem d_X_refuse_38 : decode b_X_refuse 38 = .ok (.iconst 0, 1) := by decide +kernel
theorem d_X_refuse_39 : decode b_X_refuse 39 = .ok (.ireturn, 1) := by decide +kernel
theorem d_X_top_0 : decode b_X_top 0 = .ok (.bipush 6, 2) := by decide +kernel
theorem d_X_top_2 : decode b_X_top 2 = .ok (.aload_n 0, 1) := by decide +kernel
theorem d_X_top_3 : decode b_X_top 3 = .ok (.getfield 33, 3) := by decide +kernel
theorem d_X_top_6 : decode b_X_top 6 = .ok (.iadd, 1) := by decide +kernel
theorem d_X_top_7 : decode b_X_top 7 = .ok (.iconst 1, 1) := by decide +kernel
theorem d_X_top_8 : decode b_X_top 8 = .ok (.isub, 1) := by decide +kernel
theorem d_X_top_9 : decode b_X_top 9 = .ok (.ireturn, 1) := by decide +kernel
theorem d_X_pushBody_0 : decode b_X_pushBody 0 = .ok (.aload_n 0, 1) := by decide +kernel
theorem d_X_pushBody_1 : decode b_X_pushBody 1 = .ok (.dup, 1) := by decide +kernel
theorem d_X_pushBody_2 : decode b_X_pushBody 2 = .ok (.getfield 33, 3) := by decide +kernel
theorem d_X_pushBody_5 : decode b_X_pushBody 5 = .ok (.iconst 1, 1) := by decide +kernel
theorem d_X_pushBody_6 : decode b_X_pushBody 6 = .ok (.iadd, 1) := by decide +kernel
theorem d_X_pushBody_7 : decode b_X_pushBody 7 = .ok (.putfield 33, 3) := by decide +kernel
theorem d_X_pushBody_10 : decode b_X_pushBody 10 = .ok (.aload_n 0, 1) := by decide +kernel
theorem d_X_pushBody_11 : decode b_X_pushBody 11 = .ok (.invokevirtual 46, 3) := by decide +kernel
theorem d_X_pushBody_14 : decode b_X_pushBody 14 = .ok (.istore_n 3, 1) := by decide +kernel
theorem d_X_pushBody_15 : decode b_X_pushBody 15 = .ok (.aload_n 0, 1) := by decide +kernel
theorem d_X_pushBody_16 : decode b_X_pushBody 16 = .ok (.getfield 16, 3) := by decide +kernel
theorem d_X_pushBody_19 : decode b_X_pushBody 19 = .ok (.iload_n 3, 1) := by decide +kernel
theorem d_X_pushBody_20 : decode b_X_pushBody 20 = .ok (.iload_n 2, 1) := by decide +kernel
theorem d_X_pushBody_21 : decode b_X_pushBody 21 = .ok (.ifCond .ne 7, 3) := by decide +kernel
theorem d_X_pushBody_24 : decode b_X_pushBody 24 = .ok (.iconst 0, 1) := by decide +kernel
theorem d_X_pushBody_25 : decode b_X_pushBody 25 = .ok (.goto 4, 3) := by decide +kernel
theorem d_X_pushBody_28 : decode b_X_pushBody 28 = .ok (.iload_n 1, 1) := by decide +kernel
theorem d_X_pushBody_29 : decode b_X_pushBody 29 = .ok (.iastore, 1) := by decide +kernel
theorem d_X_pushBody_30 : decode b_X_pushBody 30 = .ok (.aload_n 0, 1) := by decide +kernel
theorem d_X_pushBody_31 : decode b_X_pushBody 31 = .ok (.getfield 13, 3) := by decide +kernel
theorem d_X_pushBody_34 : decode b_X_pushBody 34 = .ok (.iload_n 3, 1) := by decide +kernel
theorem d_X_pushBody_35 : decode b_X_pushBody 35 = .ok (.iload_n 2, 1) := by decide +kernel
theorem d_X_pushBody_36 : decode b_X_pushBody 36 = .ok (.iastore, 1) := by decide +kernel
theorem d_X_pushBody_37 : decode b_X_pushBody 37 = .ok (.return_, 1) := by decide +kernel
theorem d_X_badVariable_0 : decode b_X_badVariable 0 = .ok (.iload_n 1, 1) := by decide +kernel
theorem d_X_badVariable_1 : decode b_X_badVariable 1 = .ok (.ifCond .lt 9, 3) := by decide +kernel
theorem d_X_badVariable_4 : decode b_X_badVariable 4 = .ok (.iload_n 1, 1) := by decide +kernel
theorem d_X_badVariable_5 : decode b_X_badVariable 5 = .ok (.bipush 6, 2) := by decide +kernel
theorem d_X_badVariable_7 : decode b_X_badVariable 7 = .ok (.if_icmp .lt 7, 3) := by decide +kernel
theorem d_X_badVariable_10 : decode b_X_badVariable 10 = .ok (.iconst 1, 1) := by decide +kernel
theorem d_X_badVariable_11 : decode b_X_badVariable 11 = .ok (.goto 4, 3) := by decide +kernel
theorem d_X_badVariable_14 : decode b_X_badVariable 14 = .ok (.iconst 0, 1) := by decide +kernel
theorem d_X_badVariable_15 : decode b_X_badVariable 15 = .ok (.ireturn, 1) := by decide +kernel
theorem d_X_badByte_0 : decode b_X_badByte 0 = .ok (.iload_n 1, 1) := by decide +kernel
theorem d_X_badByte_1 : decode b_X_badByte 1 = .ok (.ifCond .lt 10, 3) := by decide +kernel
theorem d_X_badByte_4 : decode b_X_badByte 4 = .ok (.iload_n 1, 1) := by decide +kernel
theorem d_X_badByte_5 : decode b_X_badByte 5 = .ok (.sipush 255, 3) := by decide +kernel
theorem d_X_badByte_8 : decode b_X_badByte 8 = .ok (.if_icmp .le 7, 3) := by decide +kernel
theorem d_X_badByte_11 : decode b_X_badByte 11 = .ok (.iconst 1, 1) := by decide +kernel
theorem d_X_badByte_12 : decode b_X_badByte 12 = .ok (.goto 4, 3) := by decide +kernel
theorem d_X_badByte_15 : decode b_X_badByte 15 = .ok (.iconst 0, 1) := by decide +kernel
theorem d_X_badByte_16 : decode b_X_badByte 16 = .ok (.ireturn, 1) := by decide +kernel
theorem d_X_key_0 : decode b_X_key 0 = .ok (.aload_n 0, 1) := by decide +kernel
theorem d_X_key_1 : decode b_X_key 1 = .ok (.iload_n 1, 1) := by decide +kernel
theorem d_X_key_2 : decode b_X_key 2 = .ok (.invokevirtual 49, 3) := by decide +kernel
theorem d_X_key_5 : decode b_X_key 5 = .ok (.ifCond .eq 5, 3) := by decide +kernel
theorem d_X_key_8 : decode b_X_key 8 = .ok (.iconst (-1), 1) := by decide +kernel
theorem d_X_key_9 : decode b_X_key 9 = .ok (.ireturn, 1) := by decide +kernel
theorem d_X_key_10 : decode b_X_key 10 = .ok (.aload_n 0, 1) := by decide +kernel
theorem d_X_key_11 : decode b_X_key 11 = .ok (.getfield 53, 3) := by decide +kernel
theorem d_X_key_14 : decode b_X_key 14 = .ok (.bipush 40, 2) := by decide +kernel
theorem d_X_key_16 : decode b_X_key 16 = .ok (.if_icmp .ne 6, 3) := by decide +kernel
theorem d_X_key_19 : decode b_X_key 19 = .ok (.bipush (-5), 2) := by decide +kernel
theorem d_X_key_21 : decode b_X_key 21 = .ok (.ireturn, 1) := by decide +kernel
theorem d_X_key_22 : decode b_X_key 22 = .ok (.aload_n 0, 1) := by decide +kernel
theorem d_X_key_23 : decode b_X_key 23 = .ok (.getfield 7, 3) := by decide +kernel
theorem d_X_key_26 : decode b_X_key 26 = .ok (.aload_n 0, 1) := by decide +kernel
theorem d_X_key_27 : decode b_X_key 27 = .ok (.getfield 53, 3) := by decide +kernel
theorem d_X_key_30 : decode b_X_key 30 = .ok (.iload_n 1, 1) := by decide +kernel
theorem d_X_key_31 : decode b_X_key 31 = .ok (.iastore, 1) := by decide +kernel
theorem d_X_key_32 : decode b_X_key 32 = .ok (.aload_n 0, 1) := by decide +kernel
theorem d_X_key_33 : decode b_X_key 33 = .ok (.dup, 1) := by decide +kernel
theorem d_X_key_34 : decode b_X_key 34 = .ok (.getfield 53, 3) := by decide +kernel
theorem d_X_key_37 : decode b_X_key 37 = .ok (.iconst 1, 1) := by decide +kernel
theorem d_X_key_38 : decode b_X_key 38 = .ok (.iadd, 1) := by decide +kernel
theorem d_X_key_39 : decode b_X_key 39 = .ok (.putfield 53, 3) := by decide +kernel
theorem d_X_key_42 : decode b_X_key 42 = .ok (.aload_n 0, 1) := by decide +kernel
theorem d_X_key_43 : decode b_X_key 43 = .ok (.getfield 53, 3) := by decide +kernel
theorem d_X_key_46 : decode b_X_key 46 = .ok (.ireturn, 1) := by decide +kernel
theorem d_X_newLine_0 : decode b_X_newLine 0 = .ok (.aload_n 0, 1) := by decide +kernel
theorem d_X_newLine_1 : decode b_X_newLine 1 = .ok (.iconst 0, 1) := by decide +kernel
theorem d_X_newLine_2 : decode b_X_newLine 2 = .ok (.putfield 53, 3) := by decide +kernel
theorem d_X_newLine_5 : decode b_X_newLine 5 = .ok (.return_, 1) := by decide +kernel
theorem d_X_literal_0 : decode b_X_literal 0 = .ok (.aload_n 0, 1) := by decide +kernel
theorem d_X_literal_1 : decode b_X_literal 1 = .ok (.aload_n 0, 1) := by decide +kernel
theorem d_X_literal_2 : decode b_X_literal 2 = .ok (.getfield 53, 3) := by decide +kernel
theorem d_X_literal_5 : decode b_X_literal 5 = .ok (.invokevirtual 56, 3) := by decide +kernel
theorem d_X_literal_8 : decode b_X_literal 8 = .ok (.istore_n 1, 1) := by decide +kernel
theorem d_X_literal_9 : decode b_X_literal 9 = .ok (.iload_n 1, 1) := by decide +kernel
theorem d_X_literal_10 : decode b_X_literal 10 = .ok (.ifCond .ge 5, 3) := by decide +kernel
theorem d_X_literal_13 : decode b_X_literal 13 = .ok (.iload_n 1, 1) := by decide +kernel
theorem d_X_literal_14 : decode b_X_literal 14 = .ok (.ireturn, 1) := by decide +kernel
theorem d_X_literal_15 : decode b_X_literal 15 = .ok (.aload_n 0, 1) := by decide +kernel
theorem d_X_literal_16 : decode b_X_literal 16 = .ok (.aload_n 0, 1) := by decide +kernel
theorem d_X_literal_17 : decode b_X_literal 17 = .ok (.getfield 53, 3) := by decide +kernel
theorem d_X_literal_20 : decode b_X_literal 20 = .ok (.invokevirtual 60, 3) := by decide +kernel
theorem d_X_literal_23 : decode b_X_literal 23 = .ok (.istore_n 2, 1) := by decide +kernel
theorem d_X_literal_24 : decode b_X_literal 24 = .ok (.iconst 0, 1) := by decide +kernel
theorem d_X_literal_25 : decode b_X_literal 25 = .ok (.istore_n 3, 1) := by decide +kernel
theorem d_X_literal_26 : decode b_X_literal 26 = .ok (.iload_n 3, 1) := by decide +kernel
theorem d_X_literal_27 : decode b_X_literal 27 = .ok (.aload_n 0, 1) := by decide +kernel
theorem d_X_literal_28 : decode b_X_literal 28 = .ok (.getfield 53, 3) := by decide +kernel
theorem d_X_literal_31 : decode b_X_literal 31 = .ok (.if_icmp .ge 23, 3) := by decide +kernel
theorem d_X_literal_34 : decode b_X_literal 34 = .ok (.aload_n 0, 1) := by decide +kernel
theorem d_X_literal_35 : decode b_X_literal 35 = .ok (.getfield 19, 3) := by decide +kernel
theorem d_X_literal_38 : decode b_X_literal 38 = .ok (.iload_n 2, 1) := by decide +kernel
theorem d_X_literal_39 : decode b_X_literal 39 = .ok (.iload_n 3, 1) := by decide +kernel
theorem d_X_literal_40 : decode b_X_literal 40 = .ok (.iadd, 1) := by decide +kernel
theorem d_X_literal_41 : decode b_X_literal 41 = .ok (.aload_n 0, 1) := by decide +kernel
theorem d_X_literal_42 : decode b_X_literal 42 = .ok (.getfield 7, 3) := by decide +kernel
theorem d_X_literal_45 : decode b_X_literal 45 = .ok (.iload_n 3, 1) := by decide +kernel
theorem d_X_literal_46 : decode b_X_literal 46 = .ok (.iaload, 1) := by decide +kernel
theorem d_X_literal_47 : decode b_X_literal 47 = .ok (.iastore, 1) := by decide +kernel
theorem d_X_literal_48 : decode b_X_literal 48 = .ok (.iinc 3 1, 3) := by decide +kernel
theorem d_X_literal_51 : decode b_X_literal 51 = .ok (.goto (-25), 3) := by decide +kernel
theorem d_X_literal_54 : decode b_X_literal 54 = .ok (.aload_n 0, 1) := by decide +kernel
theorem d_X_literal_55 : decode b_X_literal 55 = .ok (.iload_n 2, 1) := by decide +kernel
theorem d_X_literal_56 : decode b_X_literal 56 = .ok (.aload_n 0, 1) := by decide +kernel
theorem d_X_literal_57 : decode b_X_literal 57 = .ok (.getfield 53, 3) := by decide +kernel
theorem d_X_literal_60 : decode b_X_literal 60 = .ok (.invokevirtual 63, 3) := by decide +kernel
theorem d_X_literal_63 : decode b_X_literal 63 = .ok (.aload_n 0, 1) := by decide +kernel
theorem d_X_literal_64 : decode b_X_literal 64 = .ok (.getfield 53, 3) := by decide +kernel
theorem d_X_literal_67 : decode b_X_literal 67 = .ok (.ireturn, 1) := by decide +kernel
theorem d_X_push_0 : decode b_X_push 0 = .ok (.aload_n 0, 1) := by decide +kernel
theorem d_X_push_1 : decode b_X_push 1 = .ok (.iload_n 1, 1) := by decide +kernel
theorem d_X_push_2 : decode b_X_push 2 = .ok (.invokevirtual 67, 3) := by decide +kernel
theorem d_X_push_5 : decode b_X_push 5 = .ok (.ifCond .eq 5, 3) := by decide +kernel
theorem d_X_push_8 : decode b_X_push 8 = .ok (.iconst (-1), 1) := by decide +kernel
theorem d_X_push_9 : decode b_X_push 9 = .ok (.ireturn, 1) := by decide +kernel
theorem d_X_push_10 : decode b_X_push 10 = .ok (.aload_n 0, 1) := by decide +kernel
theorem d_X_push_11 : decode b_X_push 11 = .ok (.aload_n 0, 1) := by decide +kernel
theorem d_X_push_12 : decode b_X_push 12 = .ok (.getfield 13, 3) := by decide +kernel
theorem d_X_push_15 : decode b_X_push 15 = .ok (.iload_n 1, 1) := by decide +kernel
theorem d_X_push_16 : decode b_X_push 16 = .ok (.iaload, 1) := by decide +kernel
theorem d_X_push_17 : decode b_X_push 17 = .ok (.invokevirtual 56, 3) := by decide +kernel
theorem d_X_push_20 : decode b_X_push 20 = .ok (.istore_n 2, 1) := by decide +kernel
theorem d_X_push_21 : decode b_X_push 21 = .ok (.iload_n 2, 1) := by decide +kernel
theorem d_X_push_22 : decode b_X_push 22 = .ok (.ifCond .ge 5, 3) := by decide +kernel
theorem d_X_push_25 : decode b_X_push 25 = .ok (.iload_n 2, 1) := by decide +kernel
theorem d_X_push_26 : decode b_X_push 26 = .ok (.ireturn, 1) := by decide +kernel
theorem d_X_push_27 : decode b_X_push 27 = .ok (.aload_n 0, 1) := by decide +kernel
theorem d_X_push_28 : decode b_X_push 28 = .ok (.aload_n 0, 1) := by decide +kernel
theorem d_X_push_29 : decode b_X_push 29 = .ok (.getfield 16, 3) := by decide +kernel
theorem d_X_push_32 : decode b_X_push 32 = .ok (.iload_n 1, 1) := by decide +kernel
theorem d_X_push_33 : decode b_X_push 33 = .ok (.iaload, 1) := by decide +kernel
theorem d_X_push_34 : decode b_X_push 34 = .ok (.aload_n 0, 1) := by decide +kernel
theorem d_X_push_35 : decode b_X_push 35 = .ok (.getfield 13, 3) := by decide +kernel
theorem d_X_push_38 : decode b_X_push 38 = .ok (.iload_n 1, 1) := by decide +kernel
theorem d_X_push_39 : decode b_X_push 39 = .ok (.iaload, 1) := by decide +kernel
theorem d_X_push_40 : decode b_X_push 40 = .ok (.invokevirtual 63, 3) := by decide +kernel
theorem d_X_push_43 : decode b_X_push 43 = .ok (.aload_n 0, 1) := by decide +kernel
theorem d_X_push_44 : decode b_X_push 44 = .ok (.getfield 13, 3) := by decide +kernel
theorem d_X_push_47 : decode b_X_push 47 = .ok (.iload_n 1, 1) := by decide +kernel
theorem d_X_push_48 : decode b_X_push 48 = .ok (.iaload, 1) := by decide +kernel
theorem d_X_push_49 : decode b_X_push 49 = .ok (.ireturn, 1) := by decide +kernel
theorem d_X_let_0 : decode b_X_let 0 = .ok (.aload_n 0, 1) := by decide +kernel
theorem d_X_let_1 : decode b_X_let 1 = .ok (.iload_n 1, 1) := by decide +kernel
theorem d_X_let_2 : decode b_X_let 2 = .ok (.invokevirtual 67, 3) := by decide +kernel
theorem d_X_let_5 : decode b_X_let 5 = .ok (.ifCond .eq 5, 3) := by decide +kernel
theorem d_X_let_8 : decode b_X_let 8 = .ok (.iconst (-1), 1) := by decide +kernel
theorem d_X_let_9 : decode b_X_let 9 = .ok (.ireturn, 1) := by decide +kernel
theorem d_X_let_10 : decode b_X_let 10 = .ok (.aload_n 0, 1) := by decide +kernel
theorem d_X_let_11 : decode b_X_let 11 = .ok (.getfield 33, 3) := by decide +kernel
theorem d_X_let_14 : decode b_X_let 14 = .ok (.ifCond .ne 6, 3) := by decide +kernel
theorem d_X_let_17 : decode b_X_let 17 = .ok (.bipush (-3), 2) := by decide +kernel
theorem d_X_let_19 : decode b_X_let 19 = .ok (.ireturn, 1) := by decide +kernel
theorem d_X_let_20 : decode b_X_let 20 = .ok (.aload_n 0, 1) := by decide +kernel
theorem d_X_let_21 : decode b_X_let 21 = .ok (.invokevirtual 46, 3) := by decide +kernel
theorem d_X_let_24 : decode b_X_let 24 = .ok (.istore_n 2, 1) := by decide +kernel
theorem d_X_let_25 : decode b_X_let 25 = .ok (.aload_n 0, 1) := by decide +kernel
theorem d_X_let_26 : decode b_X_let 26 = .ok (.getfield 16, 3) := by decide +kernel
theorem d_X_let_29 : decode b_X_let 29 = .ok (.iload_n 1, 1) := by decide +kernel
theorem d_X_let_30 : decode b_X_let 30 = .ok (.aload_n 0, 1) := by decide +kernel
theorem d_X_let_31 : decode b_X_let 31 = .ok (.getfield 16, 3) := by decide +kernel
theorem d_X_let_34 : decode b_X_let 34 = .ok (.iload_n 2, 1) := by decide +kernel
theorem d_X_let_35 : decode b_X_let 35 = .ok (.iaload, 1) := by decide +kernel
theorem d_X_let_36 : decode b_X_let 36 = .ok (.iastore, 1) := by decide +kernel
theorem d_X_let_37 : decode b_X_let 37 = .ok (.aload_n 0, 1) := by decide +kernel
theorem d_X_let_38 : decode b_X_let 38 = .ok (.getfield 13, 3) := by decide +kernel
theorem d_X_let_41 : decode b_X_let 41 = .ok (.iload_n 1, 1) := by decide +kernel
theorem d_X_let_42 : decode b_X_let 42 = .ok (.aload_n 0, 1) := by decide +kernel
theorem d_X_let_43 : decode b_X_let 43 = .ok (.getfield 13, 3) := by decide +kernel
theorem d_X_let_46 : decode b_X_let 46 = .ok (.iload_n 2, 1) := by decide +kernel
theorem d_X_let_47 : decode b_X_let 47 = .ok (.iaload, 1) := by decide +kernel
theorem d_X_let_48 : decode b_X_let 48 = .ok (.iastore, 1) := by decide +kernel
theorem d_X_let_49 : decode b_X_let 49 = .ok (.aload_n 0, 1) := by decide +kernel
theorem d_X_let_50 : decode b_X_let 50 = .ok (.dup, 1) := by decide +kernel
theorem d_X_let_51 : decode b_X_let 51 = .ok (.getfield 33, 3) := by decide +kernel
theorem d_X_let_54 : decode b_X_let 54 = .ok (.iconst 1, 1) := by decide +kernel
theorem d_X_let_55 : decode b_X_let 55 = .ok (.isub, 1) := by decide +kernel
theorem d_X_let_56 : decode b_X_let 56 = .ok (.putfield 33, 3) := by decide +kernel
theorem d_X_let_59 : decode b_X_let 59 = .ok (.aload_n 0, 1) := by decide +kernel
theorem d_X_let_60 : decode b_X_let 60 = .ok (.getfield 13, 3) := by decide +kernel
theorem d_X_let_63 : decode b_X_let 63 = .ok (.iload_n 1, 1) := by decide +kernel
theorem d_X_let_64 : decode b_X_let 64 = .ok (.iaload, 1) := by decide +kernel
theorem d_X_let_65 : decode b_X_let 65 = .ok (.ireturn, 1) := by decide +kernel
theorem d_X_drop_0 : decode b_X_drop 0 = .ok (.aload_n 0, 1) := by decide +kernel
theorem d_X_drop_1 : decode b_X_drop 1 = .ok (.getfield 33, 3) := by decide +kernel
theorem d_X_drop_4 : decode b_X_drop 4 = .ok (.ifCond .ne 6, 3) := by decide +kernel
theorem d_X_drop_7 : decode b_X_drop 7 = .ok (.bipush (-3), 2) := by decide +kernel
theorem d_X_drop_9 : decode b_X_drop 9 = .ok (.ireturn, 1) := by decide +kernel
theorem d_X_drop_10 : decode b_X_drop 10 = .ok (.aload_n 0, 1) := by decide +kernel
theorem d_X_drop_11 : decode b_X_drop 11 = .ok (.getfield 13, 3) := by decide +kernel
theorem d_X_drop_14 : decode b_X_drop 14 = .ok (.aload_n 0, 1) := by decide +kernel
theorem d_X_drop_15 : decode b_X_drop 15 = .ok (.invokevirtual 46, 3) := by decide +kernel
theorem d_X_drop_18 : decode b_X_drop 18 = .ok (.iaload, 1) := by decide +kernel
theorem d_X_drop_19 : decode b_X_drop 19 = .ok (.istore_n 1, 1) := by decide +kernel
theorem d_X_drop_20 : decode b_X_drop 20 = .ok (.aload_n 0, 1) := by decide +kernel
theorem d_X_drop_21 : decode b_X_drop 21 = .ok (.dup, 1) := by decide +kernel
theorem d_X_drop_22 : decode b_X_drop 22 = .ok (.getfield 33, 3) := by decide +kernel
theorem d_X_drop_25 : decode b_X_drop 25 = .ok (.iconst 1, 1) := by decide +kernel
theorem d_X_drop_26 : decode b_X_drop 26 = .ok (.isub, 1) := by decide +kernel
theorem d_X_drop_27 : decode b_X_drop 27 = .ok (.putfield 33, 3) := by decide +kernel
theorem d_X_drop_30 : decode b_X_drop 30 = .ok (.iload_n 1, 1) := by decide +kernel
theorem d_X_drop_31 : decode b_X_drop 31 = .ok (.ireturn, 1) := by decide +kernel
theorem d_X_join_0 : decode b_X_join 0 = .ok (.aload_n 0, 1) := by decide +kernel
theorem d_X_join_1 : decode b_X_join 1 = .ok (.getfield 33, 3) := by decide +kernel
theorem d_X_join_4 : decode b_X_join 4 = .ok (.iconst 2, 1) := by decide +kernel
theorem d_X_join_5 : decode b_X_join 5 = .ok (.if_icmp .ge 6, 3) := by decide +kernel
theorem d_X_join_8 : decode b_X_join 8 = .ok (.bipush (-3), 2) := by decide +kernel
theorem d_X_join_10 : decode b_X_join 10 = .ok (.ireturn, 1) := by decide +kernel
theorem d_X_join_11 : decode b_X_join 11 = .ok (.aload_n 0, 1) := by decide +kernel
theorem d_X_join_12 : decode b_X_join 12 = .ok (.invokevirtual 46, 3) := by decide +kernel
theorem d_X_join_15 : decode b_X_join 15 = .ok (.istore_n 1, 1) := by decide +kernel
theorem d_X_join_16 : decode b_X_join 16 = .ok (.iload_n 1, 1) := by decide +kernel
theorem d_X_join_17 : decode b_X_join 17 = .ok (.iconst 1, 1) := by decide +kernel
theorem d_X_join_18 : decode b_X_join 18 = .ok (.isub, 1) := by decide +kernel
theorem d_X_join_19 : decode b_X_join 19 = .ok (.istore_n 2, 1) := by decide +kernel
theorem d_X_join_20 : decode b_X_join 20 = .ok (.aload_n 0, 1) := by decide +kernel
theorem d_X_join_21 : decode b_X_join 21 = .ok (.getfield 13, 3) := by decide +kernel
theorem d_X_join_24 : decode b_X_join 24 = .ok (.iload_n 2, 1) := by decide +kernel
theorem d_X_join_25 : decode b_X_join 25 = .ok (.iaload, 1) := by decide +kernel
theorem d_X_join_26 : decode b_X_join 26 = .ok (.aload_n 0, 1) := by decide +kernel
theorem d_X_join_27 : decode b_X_join 27 = .ok (.getfield 13, 3) := by decide +kernel
theorem d_X_join_30 : decode b_X_join 30 = .ok (.iload_n 1, 1) := by decide +kernel
theorem d_X_join_31 : decode b_X_join 31 = .ok (.iaload, 1) := by decide +kernel
theorem d_X_join_32 : decode b_X_join 32 = .ok (.iadd, 1) := by decide +kernel
theorem d_X_join_33 : decode b_X_join 33 = .ok (.istore_n 3, 1) := by decide +kernel
theorem d_X_join_34 : decode b_X_join 34 = .ok (.iload_n 3, 1) := by decide +kernel
theorem d_X_join_35 : decode b_X_join 35 = .ok (.bipush 40, 2) := by decide +kernel
theorem d_X_join_37 : decode b_X_join 37 = .ok (.if_icmp .le 6, 3) := by decide +kernel
theorem d_X_join_40 : decode b_X_join 40 = .ok (.bipush (-5), 2) := by decide +kernel
theorem d_X_join_42 : decode b_X_join 42 = .ok (.ireturn, 1) := by decide +kernel
theorem d_X_join_43 : decode b_X_join 43 = .ok (.aload_n 0, 1) := by decide +kernel
theorem d_X_join_44 : decode b_X_join 44 = .ok (.getfield 13, 3) := by decide +kernel
theorem d_X_join_47 : decode b_X_join 47 = .ok (.iload_n 2, 1) := by decide +kernel
theorem d_X_join_48 : decode b_X_join 48 = .ok (.iaload, 1) := by decide +kernel
theorem d_X_join_49 : decode b_X_join 49 = .ok (.ifCond .le 95, 3) := by decide +kernel
theorem d_X_join_52 : decode b_X_join 52 = .ok (.aload_n 0, 1) := by decide +kernel
theorem d_X_join_53 : decode b_X_join 53 = .ok (.getfield 13, 3) := by decide +kernel
theorem d_X_join_56 : decode b_X_join 56 = .ok (.iload_n 1, 1) := by decide +kernel
theorem d_X_join_57 : decode b_X_join 57 = .ok (.iaload, 1) := by decide +kernel
theorem d_X_join_58 : decode b_X_join 58 = .ok (.ifCond .le 86, 3) := by decide +kernel
theorem d_X_join_61 : decode b_X_join 61 = .ok (.aload_n 0, 1) := by decide +kernel
theorem d_X_join_62 : decode b_X_join 62 = .ok (.getfield 16, 3) := by decide +kernel
theorem d_X_join_65 : decode b_X_join 65 = .ok (.iload_n 2, 1) := by decide +kernel
theorem d_X_join_66 : decode b_X_join 66 = .ok (.iaload, 1) := by decide +kernel
theorem d_X_join_67 : decode b_X_join 67 = .ok (.aload_n 0, 1) := by decide +kernel
theorem d_X_join_68 : decode b_X_join 68 = .ok (.getfield 13, 3) := by decide +kernel
theorem d_X_join_71 : decode b_X_join 71 = .ok (.iload_n 2, 1) := by decide +kernel
theorem d_X_join_72 : decode b_X_join 72 = .ok (.iaload, 1) := by decide +kernel
theorem d_X_join_73 : decode b_X_join 73 = .ok (.iadd, 1) := by decide +kernel
theorem d_X_join_74 : decode b_X_join 74 = .ok (.aload_n 0, 1) := by decide +kernel
theorem d_X_join_75 : decode b_X_join 75 = .ok (.getfield 16, 3) := by decide +kernel
theorem d_X_join_78 : decode b_X_join 78 = .ok (.iload_n 1, 1) := by decide +kernel
theorem d_X_join_79 : decode b_X_join 79 = .ok (.iaload, 1) := by decide +kernel
theorem d_X_join_80 : decode b_X_join 80 = .ok (.if_icmp .eq 64, 3) := by decide +kernel
theorem d_X_join_83 : decode b_X_join 83 = .ok (.aload_n 0, 1) := by decide +kernel
theorem d_X_join_84 : decode b_X_join 84 = .ok (.iload_n 3, 1) := by decide +kernel
theorem d_X_join_85 : decode b_X_join 85 = .ok (.invokevirtual 60, 3) := by decide +kernel
theorem d_X_join_88 : decode b_X_join 88 = .ok (.istore 4, 2) := by decide +kernel
theorem d_X_join_90 : decode b_X_join 90 = .ok (.aload_n 0, 1) := by decide +kernel
theorem d_X_join_91 : decode b_X_join 91 = .ok (.aload_n 0, 1) := by decide +kernel
theorem d_X_join_92 : decode b_X_join 92 = .ok (.getfield 16, 3) := by decide +kernel
theorem d_X_join_95 : decode b_X_join 95 = .ok (.iload_n 2, 1) := by decide +kernel
theorem d_X_join_96 : decode b_X_join 96 = .ok (.iaload, 1) := by decide +kernel
theorem d_X_join_97 : decode b_X_join 97 = .ok (.iload 4, 2) := by decide +kernel
theorem d_X_join_99 : decode b_X_join 99 = .ok (.aload_n 0, 1) := by decide +kernel
theorem d_X_join_100 : decode b_X_join 100 = .ok (.getfield 13, 3) := by decide +kernel
theorem d_X_join_103 : decode b_X_join 103 = .ok (.iload_n 2, 1) := by decide +kernel
theorem d_X_join_104 : decode b_X_join 104 = .ok (.iaload, 1) := by decide +kernel
theorem d_X_join_105 : decode b_X_join 105 = .ok (.invokevirtual 70, 3) := by decide +kernel
theorem d_X_join_108 : decode b_X_join 108 = .ok (.aload_n 0, 1) := by decide +kernel
theorem d_X_join_109 : decode b_X_join 109 = .ok (.aload_n 0, 1) := by decide +kernel
theorem d_X_join_110 : decode b_X_join 110 = .ok (.getfield 16, 3) := by decide +kernel
theorem d_X_join_113 : decode b_X_join 113 = .ok (.iload_n 1, 1) := by decide +kernel
theorem d_X_join_114 : decode b_X_join 114 = .ok (.iaload, 1) := by decide +kernel
theorem d_X_join_115 : decode b_X_join 115 = .ok (.iload 4, 2) := by decide +kernel
theorem d_X_join_117 : decode b_X_join 117 = .ok (.aload_n 0, 1) := by decide +kernel
theorem d_X_join_118 : decode b_X_join 118 = .ok (.getfield 13, 3) := by decide +kernel
theorem d_X_join_121 : decode b_X_join 121 = .ok (.iload_n 2, 1) := by decide +kernel
theorem d_X_join_122 : decode b_X_join 122 = .ok (.iaload, 1) := by decide +kernel
theorem d_X_join_123 : decode b_X_join 123 = .ok (.iadd, 1) := by decide +kernel
theorem d_X_join_124 : decode b_X_join 124 = .ok (.aload_n 0, 1) := by decide +kernel
theorem d_X_join_125 : decode b_X_join 125 = .ok (.getfield 13, 3) := by decide +kernel
theorem d_X_join_128 : decode b_X_join 128 = .ok (.iload_n 1, 1) := by decide +kernel
theorem d_X_join_129 : decode b_X_join 129 = .ok (.iaload, 1) := by decide +kernel
theorem d_X_join_130 : decode b_X_join 130 = .ok (.invokevirtual 70, 3) := by decide +kernel
theorem d_X_join_133 : decode b_X_join 133 = .ok (.aload_n 0, 1) := by decide +kernel
theorem d_X_join_134 : decode b_X_join 134 = .ok (.getfield 16, 3) := by decide +kernel
theorem d_X_join_137 : decode b_X_join 137 = .ok (.iload_n 2, 1) := by decide +kernel
theorem d_X_join_138 : decode b_X_join 138 = .ok (.iload 4, 2) := by decide +kernel
theorem d_X_join_140 : decode b_X_join 140 = .ok (.iastore, 1) := by decide +kernel
theorem d_X_join_141 : decode b_X_join 141 = .ok (.goto 24, 3) := by decide +kernel
theorem d_X_join_144 : decode b_X_join 144 = .ok (.aload_n 0, 1) := by decide +kernel
theorem d_X_join_145 : decode b_X_join 145 = .ok (.getfield 13, 3) := by decide +kernel
theorem d_X_join_148 : decode b_X_join 148 = .ok (.iload_n 2, 1) := by decide +kernel
theorem d_X_join_149 : decode b_X_join 149 = .ok (.iaload, 1) := by decide +kernel
theorem d_X_join_150 : decode b_X_join 150 = .ok (.ifCond .ne 15, 3) := by decide +kernel
theorem d_X_join_153 : decode b_X_join 153 = .ok (.aload_n 0, 1) := by decide +kernel
theorem d_X_join_154 : decode b_X_join 154 = .ok (.getfield 16, 3) := by decide +kernel
theorem d_X_join_157 : decode b_X_join 157 = .ok (.iload_n 2, 1) := by decide +kernel
theorem d_X_join_158 : decode b_X_join 158 = .ok (.aload_n 0, 1) := by decide +kernel
theorem d_X_join_159 : decode b_X_join 159 = .ok (.getfield 16, 3) := by decide +kernel
theorem d_X_join_162 : decode b_X_join 162 = .ok (.iload_n 1, 1) := by decide +kernel
theorem d_X_join_163 : decode b_X_join 163 = .ok (.iaload, 1) := by decide +kernel
theorem d_X_join_164 : decode b_X_join 164 = .ok (.iastore, 1) := by decide +kernel
theorem d_X_join_165 : decode b_X_join 165 = .ok (.aload_n 0, 1) := by decide +kernel
theorem d_X_join_166 : decode b_X_join 166 = .ok (.getfield 13, 3) := by decide +kernel
theorem d_X_join_169 : decode b_X_join 169 = .ok (.iload_n 2, 1) := by decide +kernel
theorem d_X_join_170 : decode b_X_join 170 = .ok (.iload_n 3, 1) := by decide +kernel
theorem d_X_join_171 : decode b_X_join 171 = .ok (.iastore, 1) := by decide +kernel
theorem d_X_join_172 : decode b_X_join 172 = .ok (.aload_n 0, 1) := by decide +kernel
theorem d_X_join_173 : decode b_X_join 173 = .ok (.dup, 1) := by decide +kernel
theorem d_X_join_174 : decode b_X_join 174 = .ok (.getfield 33, 3) := by decide +kernel
theorem d_X_join_177 : decode b_X_join 177 = .ok (.iconst 1, 1) := by decide +kernel
theorem d_X_join_178 : decode b_X_join 178 = .ok (.isub, 1) := by decide +kernel
theorem d_X_join_179 : decode b_X_join 179 = .ok (.putfield 33, 3) := by decide +kernel
theorem d_X_join_182 : decode b_X_join 182 = .ok (.iload_n 3, 1) := by decide +kernel
theorem d_X_join_183 : decode b_X_join 183 = .ok (.ireturn, 1) := by decide +kernel
theorem d_X_copy_0 : decode b_X_copy 0 = .ok (.iconst 0, 1) := by decide +kernel
theorem d_X_copy_1 : decode b_X_copy 1 = .ok (.istore 4, 2) := by decide +kernel
theorem d_X_copy_3 : decode b_X_copy 3 = .ok (.iload 4, 2) := by decide +kernel
theorem d_X_copy_5 : decode b_X_copy 5 = .ok (.iload_n 3, 1) := by decide +kernel
theorem d_X_copy_6 : decode b_X_copy 6 = .ok (.if_icmp .ge 27, 3) := by decide +kernel
theorem d_X_copy_9 : decode b_X_copy 9 = .ok (.aload_n 0, 1) := by decide +kernel
theorem d_X_copy_10 : decode b_X_copy 10 = .ok (.getfield 19, 3) := by decide +kernel
theorem d_X_copy_13 : decode b_X_copy 13 = .ok (.iload_n 2, 1) := by decide +kernel
theorem d_X_copy_14 : decode b_X_copy 14 = .ok (.iload 4, 2) := by decide +kernel
theorem d_X_copy_16 : decode b_X_copy 16 = .ok (.iadd, 1) := by decide +kernel
theorem d_X_copy_17 : decode b_X_copy 17 = .ok (.aload_n 0, 1) := by decide +kernel
theorem d_X_copy_18 : decode b_X_copy 18 = .ok (.getfield 19, 3) := by decide +kernel
theorem d_X_copy_21 : decode b_X_copy 21 = .ok (.iload_n 1, 1) := by decide +kernel
theorem d_X_copy_22 : decode b_X_copy 22 = .ok (.iload 4, 2) := by decide +kernel
theorem d_X_copy_24 : decode b_X_copy 24 = .ok (.iadd, 1) := by decide +kernel
theorem d_X_copy_25 : decode b_X_copy 25 = .ok (.iaload, 1) := by decide +kernel
theorem d_X_copy_26 : decode b_X_copy 26 = .ok (.iastore, 1) := by decide +kernel
theorem d_X_copy_27 : decode b_X_copy 27 = .ok (.iinc 4 1, 3) := by decide +kernel
theorem d_X_copy_30 : decode b_X_copy 30 = .ok (.goto (-27), 3) := by decide +kernel
theorem d_X_copy_33 : decode b_X_copy 33 = .ok (.return_, 1) := by decide +kernel
theorem d_X_cut_0 : decode b_X_cut 0 = .ok (.aload_n 0, 1) := by decide +kernel
theorem d_X_cut_1 : decode b_X_cut 1 = .ok (.invokevirtual 46, 3) := by decide +kernel
theorem d_X_cut_4 : decode b_X_cut 4 = .ok (.istore_n 3, 1) := by decide +kernel
theorem d_X_cut_5 : decode b_X_cut 5 = .ok (.iload_n 1, 1) := by decide +kernel
theorem d_X_cut_6 : decode b_X_cut 6 = .ok (.aload_n 0, 1) := by decide +kernel
theorem d_X_cut_7 : decode b_X_cut 7 = .ok (.getfield 13, 3) := by decide +kernel
theorem d_X_cut_10 : decode b_X_cut 10 = .ok (.iload_n 3, 1) := by decide +kernel
theorem d_X_cut_11 : decode b_X_cut 11 = .ok (.iaload, 1) := by decide +kernel
theorem d_X_cut_12 : decode b_X_cut 12 = .ok (.if_icmp .le 12, 3) := by decide +kernel
theorem d_X_cut_15 : decode b_X_cut 15 = .ok (.aload_n 0, 1) := by decide +kernel
theorem d_X_cut_16 : decode b_X_cut 16 = .ok (.getfield 13, 3) := by decide +kernel
theorem d_X_cut_19 : decode b_X_cut 19 = .ok (.iload_n 3, 1) := by decide +kernel
theorem d_X_cut_20 : decode b_X_cut 20 = .ok (.iaload, 1) := by decide +kernel
theorem d_X_cut_21 : decode b_X_cut 21 = .ok (.goto 4, 3) := by decide +kernel
theorem d_X_cut_24 : decode b_X_cut 24 = .ok (.iload_n 1, 1) := by decide +kernel
theorem d_X_cut_25 : decode b_X_cut 25 = .ok (.istore 4, 2) := by decide +kernel
theorem d_X_cut_27 : decode b_X_cut 27 = .ok (.aload_n 0, 1) := by decide +kernel
theorem d_X_cut_28 : decode b_X_cut 28 = .ok (.getfield 13, 3) := by decide +kernel
theorem d_X_cut_31 : decode b_X_cut 31 = .ok (.iload_n 3, 1) := by decide +kernel
theorem d_X_cut_32 : decode b_X_cut 32 = .ok (.iaload, 1) := by decide +kernel
theorem d_X_cut_33 : decode b_X_cut 33 = .ok (.iload 4, 2) := by decide +kernel
theorem d_X_cut_35 : decode b_X_cut 35 = .ok (.isub, 1) := by decide +kernel
theorem d_X_cut_36 : decode b_X_cut 36 = .ok (.istore 5, 2) := by decide +kernel
theorem d_X_cut_38 : decode b_X_cut 38 = .ok (.iload_n 2, 1) := by decide +kernel
theorem d_X_cut_39 : decode b_X_cut 39 = .ok (.iload 5, 2) := by decide +kernel
theorem d_X_cut_41 : decode b_X_cut 41 = .ok (.if_icmp .ge 7, 3) := by decide +kernel
theorem d_X_cut_44 : decode b_X_cut 44 = .ok (.iload_n 2, 1) := by decide +kernel
theorem d_X_cut_45 : decode b_X_cut 45 = .ok (.goto 5, 3) := by decide +kernel
theorem d_X_cut_48 : decode b_X_cut 48 = .ok (.iload 5, 2) := by decide +kernel
theorem d_X_cut_50 : decode b_X_cut 50 = .ok (.istore 6, 2) := by decide +kernel
theorem d_X_cut_52 : decode b_X_cut 52 = .ok (.aload_n 0, 1) := by decide +kernel
theorem d_X_cut_53 : decode b_X_cut 53 = .ok (.getfield 16, 3) := by decide +kernel
theorem d_X_cut_56 : decode b_X_cut 56 = .ok (.iload_n 3, 1) := by decide +kernel
theorem d_X_cut_57 : decode b_X_cut 57 = .ok (.iload 6, 2) := by decide +kernel
theorem d_X_cut_59 : decode b_X_cut 59 = .ok (.ifCond .ne 7, 3) := by decide +kernel
theorem d_X_cut_62 : decode b_X_cut 62 = .ok (.iconst 0, 1) := by decide +kernel
theorem d_X_cut_63 : decode b_X_cut 63 = .ok (.goto 12, 3) := by decide +kernel
theorem d_X_cut_66 : decode b_X_cut 66 = .ok (.aload_n 0, 1) := by decide +kernel
theorem d_X_cut_67 : decode b_X_cut 67 = .ok (.getfield 16, 3) := by decide +kernel
theorem d_X_cut_70 : decode b_X_cut 70 = .ok (.iload_n 3, 1) := by decide +kernel
theorem d_X_cut_71 : decode b_X_cut 71 = .ok (.iaload, 1) := by decide +kernel
theorem d_X_cut_72 : decode b_X_cut 72 = .ok (.iload 4, 2) := by decide +kernel
theorem d_X_cut_74 : decode b_X_cut 74 = .ok (.iadd, 1) := by decide +kernel
theorem d_X_cut_75 : decode b_X_cut 75 = .ok (.iastore, 1) := by decide +kernel
theorem d_X_cut_76 : decode b_X_cut 76 = .ok (.aload_n 0, 1) := by decide +kernel
theorem d_X_cut_77 : decode b_X_cut 77 = .ok (.getfield 13, 3) := by decide +kernel
theorem d_X_cut_80 : decode b_X_cut 80 = .ok (.iload_n 3, 1) := by decide +kernel
theorem d_X_cut_81 : decode b_X_cut 81 = .ok (.iload 6, 2) := by decide +kernel
theorem d_X_cut_83 : decode b_X_cut 83 = .ok (.iastore, 1) := by decide +kernel
theorem d_X_cut_84 : decode b_X_cut 84 = .ok (.iload 6, 2) := by decide +kernel
theorem d_X_cut_86 : decode b_X_cut 86 = .ok (.ireturn, 1) := by decide +kernel
theorem d_X_left_0 : decode b_X_left 0 = .ok (.aload_n 0, 1) := by decide +kernel
theorem d_X_left_1 : decode b_X_left 1 = .ok (.iload_n 1, 1) := by decide +kernel
theorem d_X_left_2 : decode b_X_left 2 = .ok (.invokevirtual 49, 3) := by decide +kernel
theorem d_X_left_5 : decode b_X_left 5 = .ok (.ifCond .eq 5, 3) := by decide +kernel
theorem d_X_left_8 : decode b_X_left 8 = .ok (.iconst (-1), 1) := by decide +kernel
theorem d_X_left_9 : decode b_X_left 9 = .ok (.ireturn, 1) := by decide +kernel
theorem d_X_left_10 : decode b_X_left 10 = .ok (.aload_n 0, 1) := by decide +kernel
theorem d_X_left_11 : decode b_X_left 11 = .ok (.getfield 33, 3) := by decide +kernel
theorem d_X_left_14 : decode b_X_left 14 = .ok (.ifCond .ne 6, 3) := by decide +kernel
theorem d_X_left_17 : decode b_X_left 17 = .ok (.bipush (-3), 2) := by decide +kernel
theorem d_X_left_19 : decode b_X_left 19 = .ok (.ireturn, 1) := by decide +kernel
theorem d_X_left_20 : decode b_X_left 20 = .ok (.aload_n 0, 1) := by decide +kernel
theorem d_X_left_21 : decode b_X_left 21 = .ok (.iconst 0, 1) := by decide +kernel
theorem d_X_left_22 : decode b_X_left 22 = .ok (.iload_n 1, 1) := by decide +kernel
theorem d_X_left_23 : decode b_X_left 23 = .ok (.invokevirtual 74, 3) := by decide +kernel
theorem d_X_left_26 : decode b_X_left 26 = .ok (.ireturn, 1) := by decide +kernel
theorem d_X_right_0 : decode b_X_right 0 = .ok (.aload_n 0, 1) := by decide +kernel
theorem d_X_right_1 : decode b_X_right 1 = .ok (.iload_n 1, 1) := by decide +kernel
theorem d_X_right_2 : decode b_X_right 2 = .ok (.invokevirtual 49, 3) := by decide +kernel
theorem d_X_right_5 : decode b_X_right 5 = .ok (.ifCond .eq 5, 3) := by decide +kernel
theorem d_X_right_8 : decode b_X_right 8 = .ok (.iconst (-1), 1) := by decide +kernel
theorem d_X_right_9 : decode b_X_right 9 = .ok (.ireturn, 1) := by decide +kernel
theorem d_X_right_10 : decode b_X_right 10 = .ok (.aload_n 0, 1) := by decide +kernel
theorem d_X_right_11 : decode b_X_right 11 = .ok (.getfield 33, 3) := by decide +kernel
theorem d_X_right_14 : decode b_X_right 14 = .ok (.ifCond .ne 6, 3) := by decide +kernel
theorem d_X_right_17 : decode b_X_right 17 = .ok (.bipush (-3), 2) := by decide +kernel
theorem d_X_right_19 : decode b_X_right 19 = .ok (.ireturn, 1) := by decide +kernel
theorem d_X_right_20 : decode b_X_right 20 = .ok (.aload_n 0, 1) := by decide +kernel
theorem d_X_right_21 : decode b_X_right 21 = .ok (.getfield 13, 3) := by decide +kernel
theorem d_X_right_24 : decode b_X_right 24 = .ok (.aload_n 0, 1) := by decide +kernel
theorem d_X_right_25 : decode b_X_right 25 = .ok (.invokevirtual 46, 3) := by decide +kernel
theorem d_X_right_28 : decode b_X_right 28 = .ok (.iaload, 1) := by decide +kernel
theorem d_X_right_29 : decode b_X_right 29 = .ok (.istore_n 2, 1) := by decide +kernel
theorem d_X_right_30 : decode b_X_right 30 = .ok (.iload_n 1, 1) := by decide +kernel
theorem d_X_right_31 : decode b_X_right 31 = .ok (.iload_n 2, 1) := by decide +kernel
theorem d_X_right_32 : decode b_X_right 32 = .ok (.if_icmp .ge 14, 3) := by decide +kernel
theorem d_X_right_35 : decode b_X_right 35 = .ok (.aload_n 0, 1) := by decide +kernel
theorem d_X_right_36 : decode b_X_right 36 = .ok (.iload_n 2, 1) := by decide +kernel
theorem d_X_right_37 : decode b_X_right 37 = .ok (.iload_n 1, 1) := by decide +kernel
theorem d_X_right_38 : decode b_X_right 38 = .ok (.isub, 1) := by decide +kernel
theorem d_X_right_39 : decode b_X_right 39 = .ok (.iload_n 1, 1) := by decide +kernel
theorem d_X_right_40 : decode b_X_right 40 = .ok (.invokevirtual 74, 3) := by decide +kernel
theorem d_X_right_43 : decode b_X_right 43 = .ok (.goto 9, 3) := by decide +kernel
theorem d_X_right_46 : decode b_X_right 46 = .ok (.aload_n 0, 1) := by decide +kernel
theorem d_X_right_47 : decode b_X_right 47 = .ok (.iconst 0, 1) := by decide +kernel
theorem d_X_right_48 : decode b_X_right 48 = .ok (.iload_n 2, 1) := by decide +kernel
theorem d_X_right_49 : decode b_X_right 49 = .ok (.invokevirtual 74, 3) := by decide +kernel
theorem d_X_right_52 : decode b_X_right 52 = .ok (.ireturn, 1) := by decide +kernel
theorem d_X_mid_0 : decode b_X_mid 0 = .ok (.iload_n 1, 1) := by decide +kernel
theorem d_X_mid_1 : decode b_X_mid 1 = .ok (.iconst 1, 1) := by decide +kernel
theorem d_X_mid_2 : decode b_X_mid 2 = .ok (.if_icmp .lt 18, 3) := by decide +kernel
theorem d_X_mid_5 : decode b_X_mid 5 = .ok (.iload_n 1, 1) := by decide +kernel
theorem d_X_mid_6 : decode b_X_mid 6 = .ok (.sipush 255, 3) := by decide +kernel
theorem d_X_mid_9 : decode b_X_mid 9 = .ok (.if_icmp .gt 11, 3) := by decide +kernel
theorem d_X_mid_12 : decode b_X_mid 12 = .ok (.aload_n 0, 1) := by decide +kernel
theorem d_X_mid_13 : decode b_X_mid 13 = .ok (.iload_n 2, 1) := by decide +kernel
theorem d_X_mid_14 : decode b_X_mid 14 = .ok (.invokevirtual 49, 3) := by decide +kernel
theorem d_X_mid_17 : decode b_X_mid 17 = .ok (.ifCond .eq 5, 3) := by decide +kernel
theorem d_X_mid_20 : decode b_X_mid 20 = .ok (.iconst (-1), 1) := by decide +kernel
theorem d_X_mid_21 : decode b_X_mid 21 = .ok (.ireturn, 1) := by decide +kernel
theorem d_X_mid_22 : decode b_X_mid 22 = .ok (.aload_n 0, 1) := by decide +kernel
theorem d_X_mid_23 : decode b_X_mid 23 = .ok (.getfield 33, 3) := by decide +kernel
theorem d_X_mid_26 : decode b_X_mid 26 = .ok (.ifCond .ne 6, 3) := by decide +kernel
theorem d_X_mid_29 : decode b_X_mid 29 = .ok (.bipush (-3), 2) := by decide +kernel
theorem d_X_mid_31 : decode b_X_mid 31 = .ok (.ireturn, 1) := by decide +kernel
theorem d_X_mid_32 : decode b_X_mid 32 = .ok (.aload_n 0, 1) := by decide +kernel
theorem d_X_mid_33 : decode b_X_mid 33 = .ok (.iload_n 1, 1) := by decide +kernel
theorem d_X_mid_34 : decode b_X_mid 34 = .ok (.iconst 1, 1) := by decide +kernel
theorem d_X_mid_35 : decode b_X_mid 35 = .ok (.isub, 1) := by decide +kernel
theorem d_X_mid_36 : decode b_X_mid 36 = .ok (.iload_n 2, 1) := by decide +kernel
theorem d_X_mid_37 : decode b_X_mid 37 = .ok (.invokevirtual 74, 3) := by decide +kernel
theorem d_X_mid_40 : decode b_X_mid 40 = .ok (.ireturn, 1) := by decide +kernel
theorem d_X_repeat_0 : decode b_X_repeat 0 = .ok (.aload_n 0, 1) := by decide +kernel
theorem d_X_repeat_1 : decode b_X_repeat 1 = .ok (.iload_n 1, 1) := by decide +kernel
theorem d_X_repeat_2 : decode b_X_repeat 2 = .ok (.invokevirtual 49, 3) := by decide +kernel
theorem d_X_repeat_5 : decode b_X_repeat 5 = .ok (.ifCond .ne 11, 3) := by decide +kernel
theorem d_X_repeat_8 : decode b_X_repeat 8 = .ok (.aload_n 0, 1) := by decide +kernel
theorem d_X_repeat_9 : decode b_X_repeat 9 = .ok (.iload_n 2, 1) := by decide +kernel
theorem d_X_repeat_10 : decode b_X_repeat 10 = .ok (.invokevirtual 49, 3) := by decide +kernel
theorem d_X_repeat_13 : decode b_X_repeat 13 = .ok (.ifCond .eq 5, 3) := by decide +kernel
theorem d_X_repeat_16 : decode b_X_repeat 16 = .ok (.iconst (-1), 1) := by decide +kernel
theorem d_X_repeat_17 : decode b_X_repeat 17 = .ok (.ireturn, 1) := by decide +kernel
theorem d_X_repeat_18 : decode b_X_repeat 18 = .ok (.aload_n 0, 1) := by decide +kernel
theorem d_X_repeat_19 : decode b_X_repeat 19 = .ok (.iload_n 1, 1) := by decide +kernel
theorem d_X_repeat_20 : decode b_X_repeat 20 = .ok (.invokevirtual 56, 3) := by decide +kernel
theorem d_X_repeat_23 : decode b_X_repeat 23 = .ok (.istore_n 3, 1) := by decide +kernel
theorem d_X_repeat_24 : decode b_X_repeat 24 = .ok (.iload_n 3, 1) := by decide +kernel
theorem d_X_repeat_25 : decode b_X_repeat 25 = .ok (.ifCond .ge 5, 3) := by decide +kernel
theorem d_X_repeat_28 : decode b_X_repeat 28 = .ok (.iload_n 3, 1) := by decide +kernel
theorem d_X_repeat_29 : decode b_X_repeat 29 = .ok (.ireturn, 1) := by decide +kernel
theorem d_X_repeat_30 : decode b_X_repeat 30 = .ok (.aload_n 0, 1) := by decide +kernel
theorem d_X_repeat_31 : decode b_X_repeat 31 = .ok (.iload_n 1, 1) := by decide +kernel
theorem d_X_repeat_32 : decode b_X_repeat 32 = .ok (.invokevirtual 60, 3) := by decide +kernel
theorem d_X_repeat_35 : decode b_X_repeat 35 = .ok (.istore 4, 2) := by decide +kernel
theorem d_X_repeat_37 : decode b_X_repeat 37 = .ok (.iconst 0, 1) := by decide +kernel
theorem d_X_repeat_38 : decode b_X_repeat 38 = .ok (.istore 5, 2) := by decide +kernel
theorem d_X_repeat_40 : decode b_X_repeat 40 = .ok (.iload 5, 2) := by decide +kernel
theorem d_X_repeat_42 : decode b_X_repeat 42 = .ok (.iload_n 1, 1) := by decide +kernel
theorem d_X_repeat_43 : decode b_X_repeat 43 = .ok (.if_icmp .ge 20, 3) := by decide +kernel
theorem d_X_repeat_46 : decode b_X_repeat 46 = .ok (.aload_n 0, 1) := by decide +kernel
theorem d_X_repeat_47 : decode b_X_repeat 47 = .ok (.getfield 19, 3) := by decide +kernel
theorem d_X_repeat_50 : decode b_X_repeat 50 = .ok (.iload 4, 2) := by decide +kernel
theorem d_X_repeat_52 : decode b_X_repeat 52 = .ok (.iload 5, 2) := by decide +kernel
theorem d_X_repeat_54 : decode b_X_repeat 54 = .ok (.iadd, 1) := by decide +kernel
theorem d_X_repeat_55 : decode b_X_repeat 55 = .ok (.iload_n 2, 1) := by decide +kernel
theorem d_X_repeat_56 : decode b_X_repeat 56 = .ok (.iastore, 1) := by decide +kernel
theorem d_X_repeat_57 : decode b_X_repeat 57 = .ok (.iinc 5 1, 3) := by decide +kernel
theorem d_X_repeat_60 : decode b_X_repeat 60 = .ok (.goto (-20), 3) := by decide +kernel
theorem d_X_repeat_63 : decode b_X_repeat 63 = .ok (.aload_n 0, 1) := by decide +kernel
theorem d_X_repeat_64 : decode b_X_repeat 64 = .ok (.iload 4, 2) := by decide +kernel
theorem d_X_repeat_66 : decode b_X_repeat 66 = .ok (.iload_n 1, 1) := by decide +kernel
theorem d_X_repeat_67 : decode b_X_repeat 67 = .ok (.invokevirtual 63, 3) := by decide +kernel
theorem d_X_repeat_70 : decode b_X_repeat 70 = .ok (.iload_n 1, 1) := by decide +kernel
theorem d_X_repeat_71 : decode b_X_repeat 71 = .ok (.ireturn, 1) := by decide +kernel
theorem d_X_compare_0 : decode b_X_compare 0 = .ok (.aload_n 0, 1) := by decide +kernel
theorem d_X_compare_1 : decode b_X_compare 1 = .ok (.getfield 33, 3) := by decide +kernel
theorem d_X_compare_4 : decode b_X_compare 4 = .ok (.iconst 2, 1) := by decide +kernel
theorem d_X_compare_5 : decode b_X_compare 5 = .ok (.if_icmp .ge 6, 3) := by decide +kernel
theorem d_X_compare_8 : decode b_X_compare 8 = .ok (.bipush (-3), 2) := by decide +kernel
theorem d_X_compare_10 : decode b_X_compare 10 = .ok (.ireturn, 1) := by decide +kernel
theorem d_X_compare_11 : decode b_X_compare 11 = .ok (.aload_n 0, 1) := by decide +kernel
theorem d_X_compare_12 : decode b_X_compare 12 = .ok (.invokevirtual 46, 3) := by decide +kernel
theorem d_X_compare_15 : decode b_X_compare 15 = .ok (.istore_n 1, 1) := by decide +kernel
theorem d_X_compare_16 : decode b_X_compare 16 = .ok (.iload_n 1, 1) := by decide +kernel
theorem d_X_compare_17 : decode b_X_compare 17 = .ok (.iconst 1, 1) := by decide +kernel
theorem d_X_compare_18 : decode b_X_compare 18 = .ok (.isub, 1) := by decide +kernel
theorem d_X_compare_19 : decode b_X_compare 19 = .ok (.istore_n 2, 1) := by decide +kernel
theorem d_X_compare_20 : decode b_X_compare 20 = .ok (.aload_n 0, 1) := by decide +kernel
theorem d_X_compare_21 : decode b_X_compare 21 = .ok (.getfield 13, 3) := by decide +kernel
theorem d_X_compare_24 : decode b_X_compare 24 = .ok (.iload_n 2, 1) := by decide +kernel
theorem d_X_compare_25 : decode b_X_compare 25 = .ok (.iaload, 1) := by decide +kernel
theorem d_X_compare_26 : decode b_X_compare 26 = .ok (.aload_n 0, 1) := by decide +kernel
theorem d_X_compare_27 : decode b_X_compare 27 = .ok (.getfield 13, 3) := by decide +kernel
theorem d_X_compare_30 : decode b_X_compare 30 = .ok (.iload_n 1, 1) := by decide +kernel
theorem d_X_compare_31 : decode b_X_compare 31 = .ok (.iaload, 1) := by decide +kernel
theorem d_X_compare_32 : decode b_X_compare 32 = .ok (.if_icmp .ge 12, 3) := by decide +kernel
theorem d_X_compare_35 : decode b_X_compare 35 = .ok (.aload_n 0, 1) := by decide +kernel
theorem d_X_compare_36 : decode b_X_compare 36 = .ok (.getfield 13, 3) := by decide +kernel
theorem d_X_compare_39 : decode b_X_compare 39 = .ok (.iload_n 2, 1) := by decide +kernel
theorem d_X_compare_40 : decode b_X_compare 40 = .ok (.iaload, 1) := by decide +kernel
theorem d_X_compare_41 : decode b_X_compare 41 = .ok (.goto 9, 3) := by decide +kernel
theorem d_X_compare_44 : decode b_X_compare 44 = .ok (.aload_n 0, 1) := by decide +kernel
theorem d_X_compare_45 : decode b_X_compare 45 = .ok (.getfield 13, 3) := by decide +kernel
theorem d_X_compare_48 : decode b_X_compare 48 = .ok (.iload_n 1, 1) := by decide +kernel
theorem d_X_compare_49 : decode b_X_compare 49 = .ok (.iaload, 1) := by decide +kernel
theorem d_X_compare_50 : decode b_X_compare 50 = .ok (.istore_n 3, 1) := by decide +kernel
theorem d_X_compare_51 : decode b_X_compare 51 = .ok (.aload_n 0, 1) := by decide +kernel
theorem d_X_compare_52 : decode b_X_compare 52 = .ok (.aload_n 0, 1) := by decide +kernel
theorem d_X_compare_53 : decode b_X_compare 53 = .ok (.getfield 33, 3) := by decide +kernel
theorem d_X_compare_56 : decode b_X_compare 56 = .ok (.iconst 2, 1) := by decide +kernel
theorem d_X_compare_57 : decode b_X_compare 57 = .ok (.isub, 1) := by decide +kernel
theorem d_X_compare_58 : decode b_X_compare 58 = .ok (.putfield 33, 3) := by decide +kernel
theorem d_X_compare_61 : decode b_X_compare 61 = .ok (.aload_n 0, 1) := by decide +kernel
theorem d_X_compare_62 : decode b_X_compare 62 = .ok (.getfield 16, 3) := by decide +kernel
theorem d_X_compare_65 : decode b_X_compare 65 = .ok (.iload_n 2, 1) := by decide +kernel
theorem d_X_compare_66 : decode b_X_compare 66 = .ok (.iaload, 1) := by decide +kernel
theorem d_X_compare_67 : decode b_X_compare 67 = .ok (.aload_n 0, 1) := by decide +kernel
theorem d_X_compare_68 : decode b_X_compare 68 = .ok (.getfield 16, 3) := by decide +kernel
theorem d_X_compare_71 : decode b_X_compare 71 = .ok (.iload_n 1, 1) := by decide +kernel
theorem d_X_compare_72 : decode b_X_compare 72 = .ok (.iaload, 1) := by decide +kernel
theorem d_X_compare_73 : decode b_X_compare 73 = .ok (.if_icmp .eq 70, 3) := by decide +kernel
theorem d_X_compare_76 : decode b_X_compare 76 = .ok (.iconst 0, 1) := by decide +kernel
theorem d_X_compare_77 : decode b_X_compare 77 = .ok (.istore 4, 2) := by decide +kernel
theorem d_X_compare_79 : decode b_X_compare 79 = .ok (.iload 4, 2) := by decide +kernel
theorem d_X_compare_81 : decode b_X_compare 81 = .ok (.iload_n 3, 1) := by decide +kernel
theorem d_X_compare_82 : decode b_X_compare 82 = .ok (.if_icmp .ge 61, 3) := by decide +kernel
theorem d_X_compare_85 : decode b_X_compare 85 = .ok (.aload_n 0, 1) := by decide +kernel
theorem d_X_compare_86 : decode b_X_compare 86 = .ok (.getfield 19, 3) := by decide +kernel
theorem d_X_compare_89 : decode b_X_compare 89 = .ok (.aload_n 0, 1) := by decide +kernel
theorem d_X_compare_90 : decode b_X_compare 90 = .ok (.getfield 16, 3) := by decide +kernel
theorem d_X_compare_93 : decode b_X_compare 93 = .ok (.iload_n 2, 1) := by decide +kernel
theorem d_X_compare_94 : decode b_X_compare 94 = .ok (.iaload, 1) := by decide +kernel
theorem d_X_compare_95 : decode b_X_compare 95 = .ok (.iload 4, 2) := by decide +kernel
theorem d_X_compare_97 : decode b_X_compare 97 = .ok (.iadd, 1) := by decide +kernel
theorem d_X_compare_98 : decode b_X_compare 98 = .ok (.iaload, 1) := by decide +kernel
theorem d_X_compare_99 : decode b_X_compare 99 = .ok (.istore 5, 2) := by decide +kernel
theorem d_X_compare_101 : decode b_X_compare 101 = .ok (.aload_n 0, 1) := by decide +kernel
theorem d_X_compare_102 : decode b_X_compare 102 = .ok (.getfield 19, 3) := by decide +kernel
theorem d_X_compare_105 : decode b_X_compare 105 = .ok (.aload_n 0, 1) := by decide +kernel
theorem d_X_compare_106 : decode b_X_compare 106 = .ok (.getfield 16, 3) := by decide +kernel
theorem d_X_compare_109 : decode b_X_compare 109 = .ok (.iload_n 1, 1) := by decide +kernel
theorem d_X_compare_110 : decode b_X_compare 110 = .ok (.iaload, 1) := by decide +kernel
theorem d_X_compare_111 : decode b_X_compare 111 = .ok (.iload 4, 2) := by decide +kernel
theorem d_X_compare_113 : decode b_X_compare 113 = .ok (.iadd, 1) := by decide +kernel
theorem d_X_compare_114 : decode b_X_compare 114 = .ok (.iaload, 1) := by decide +kernel
theorem d_X_compare_115 : decode b_X_compare 115 = .ok (.istore 6, 2) := by decide +kernel
theorem d_X_compare_117 : decode b_X_compare 117 = .ok (.iload 5, 2) := by decide +kernel
theorem d_X_compare_119 : decode b_X_compare 119 = .ok (.iload 6, 2) := by decide +kernel
theorem d_X_compare_121 : decode b_X_compare 121 = .ok (.if_icmp .eq 16, 3) := by decide +kernel
theorem d_X_compare_124 : decode b_X_compare 124 = .ok (.iload 5, 2) := by decide +kernel
theorem d_X_compare_126 : decode b_X_compare 126 = .ok (.iload 6, 2) := by decide +kernel
theorem d_X_compare_128 : decode b_X_compare 128 = .ok (.if_icmp .ge 7, 3) := by decide +kernel
theorem d_X_compare_131 : decode b_X_compare 131 = .ok (.iconst 1, 1) := by decide +kernel
theorem d_X_compare_132 : decode b_X_compare 132 = .ok (.goto 4, 3) := by decide +kernel
theorem d_X_compare_135 : decode b_X_compare 135 = .ok (.iconst 2, 1) := by decide +kernel
theorem d_X_compare_136 : decode b_X_compare 136 = .ok (.ireturn, 1) := by decide +kernel
theorem d_X_compare_137 : decode b_X_compare 137 = .ok (.iinc 4 1, 3) := by decide +kernel
theorem d_X_compare_140 : decode b_X_compare 140 = .ok (.goto (-61), 3) := by decide +kernel
theorem d_X_compare_143 : decode b_X_compare 143 = .ok (.aload_n 0, 1) := by decide +kernel
theorem d_X_compare_144 : decode b_X_compare 144 = .ok (.getfield 13, 3) := by decide +kernel
theorem d_X_compare_147 : decode b_X_compare 147 = .ok (.iload_n 2, 1) := by decide +kernel
theorem d_X_compare_148 : decode b_X_compare 148 = .ok (.iaload, 1) := by decide +kernel
theorem d_X_compare_149 : decode b_X_compare 149 = .ok (.aload_n 0, 1) := by decide +kernel
theorem d_X_compare_150 : decode b_X_compare 150 = .ok (.getfield 13, 3) := by decide +kernel
theorem d_X_compare_153 : decode b_X_compare 153 = .ok (.iload_n 1, 1) := by decide +kernel
theorem d_X_compare_154 : decode b_X_compare 154 = .ok (.iaload, 1) := by decide +kernel
theorem d_X_compare_155 : decode b_X_compare 155 = .ok (.if_icmp .ne 5, 3) := by decide +kernel
theorem d_X_compare_158 : decode b_X_compare 158 = .ok (.iconst 0, 1) := by decide +kernel
theorem d_X_compare_159 : decode b_X_compare 159 = .ok (.ireturn, 1) := by decide +kernel
theorem d_X_compare_160 : decode b_X_compare 160 = .ok (.aload_n 0, 1) := by decide +kernel
theorem d_X_compare_161 : decode b_X_compare 161 = .ok (.getfield 13, 3) := by decide +kernel
theorem d_X_compare_164 : decode b_X_compare 164 = .ok (.iload_n 2, 1) := by decide +kernel
theorem d_X_compare_165 : decode b_X_compare 165 = .ok (.iaload, 1) := by decide +kernel
theorem d_X_compare_166 : decode b_X_compare 166 = .ok (.aload_n 0, 1) := by decide +kernel
theorem d_X_compare_167 : decode b_X_compare 167 = .ok (.getfield 13, 3) := by decide +kernel
theorem d_X_compare_170 : decode b_X_compare 170 = .ok (.iload_n 1, 1) := by decide +kernel
theorem d_X_compare_171 : decode b_X_compare 171 = .ok (.iaload, 1) := by decide +kernel
theorem d_X_compare_172 : decode b_X_compare 172 = .ok (.if_icmp .ge 7, 3) := by decide +kernel
theorem d_X_compare_175 : decode b_X_compare 175 = .ok (.iconst 1, 1) := by decide +kernel
theorem d_X_compare_176 : decode b_X_compare 176 = .ok (.goto 4, 3) := by decide +kernel
theorem d_X_compare_179 : decode b_X_compare 179 = .ok (.iconst 2, 1) := by decide +kernel
theorem d_X_compare_180 : decode b_X_compare 180 = .ok (.ireturn, 1) := by decide +kernel
theorem d_X_beginsAt_0 : decode b_X_beginsAt 0 = .ok (.iconst 0, 1) := by decide +kernel
theorem d_X_beginsAt_1 : decode b_X_beginsAt 1 = .ok (.istore 4, 2) := by decide +kernel
theorem d_X_beginsAt_3 : decode b_X_beginsAt 3 = .ok (.iload 4, 2) := by decide +kernel
theorem d_X_beginsAt_5 : decode b_X_beginsAt 5 = .ok (.aload_n 0, 1) := by decide +kernel
theorem d_X_beginsAt_6 : decode b_X_beginsAt 6 = .ok (.getfield 13, 3) := by decide +kernel
theorem d_X_beginsAt_9 : decode b_X_beginsAt 9 = .ok (.iload_n 2, 1) := by decide +kernel
theorem d_X_beginsAt_10 : decode b_X_beginsAt 10 = .ok (.iaload, 1) := by decide +kernel
theorem d_X_beginsAt_11 : decode b_X_beginsAt 11 = .ok (.if_icmp .ge 44, 3) := by decide +kernel
theorem d_X_beginsAt_14 : decode b_X_beginsAt 14 = .ok (.aload_n 0, 1) := by decide +kernel
theorem d_X_beginsAt_15 : decode b_X_beginsAt 15 = .ok (.getfield 19, 3) := by decide +kernel
theorem d_X_beginsAt_18 : decode b_X_beginsAt 18 = .ok (.aload_n 0, 1) := by decide +kernel
theorem d_X_beginsAt_19 : decode b_X_beginsAt 19 = .ok (.getfield 16, 3) := by decide +kernel
theorem d_X_beginsAt_22 : decode b_X_beginsAt 22 = .ok (.iload_n 1, 1) := by decide +kernel
theorem d_X_beginsAt_23 : decode b_X_beginsAt 23 = .ok (.iaload, 1) := by decide +kernel
theorem d_X_beginsAt_24 : decode b_X_beginsAt 24 = .ok (.iload_n 3, 1) := by decide +kernel
theorem d_X_beginsAt_25 : decode b_X_beginsAt 25 = .ok (.iadd, 1) := by decide +kernel
theorem d_X_beginsAt_26 : decode b_X_beginsAt 26 = .ok (.iload 4, 2) := by decide +kernel
theorem d_X_beginsAt_28 : decode b_X_beginsAt 28 = .ok (.iadd, 1) := by decide +kernel
theorem d_X_beginsAt_29 : decode b_X_beginsAt 29 = .ok (.iaload, 1) := by decide +kernel
theorem d_X_beginsAt_30 : decode b_X_beginsAt 30 = .ok (.aload_n 0, 1) := by decide +kernel
theorem d_X_beginsAt_31 : decode b_X_beginsAt 31 = .ok (.getfield 19, 3) := by decide +kernel
theorem d_X_beginsAt_34 : decode b_X_beginsAt 34 = .ok (.aload_n 0, 1) := by decide +kernel
theorem d_X_beginsAt_35 : decode b_X_beginsAt 35 = .ok (.getfield 16, 3) := by decide +kernel
theorem d_X_beginsAt_38 : decode b_X_beginsAt 38 = .ok (.iload_n 2, 1) := by decide +kernel
theorem d_X_beginsAt_39 : decode b_X_beginsAt 39 = .ok (.iaload, 1) := by decide +kernel
theorem d_X_beginsAt_40 : decode b_X_beginsAt 40 = .ok (.iload 4, 2) := by decide +kernel
theorem d_X_beginsAt_42 : decode b_X_beginsAt 42 = .ok (.iadd, 1) := by decide +kernel
theorem d_X_beginsAt_43 : decode b_X_beginsAt 43 = .ok (.iaload, 1) := by decide +kernel
theorem d_X_beginsAt_44 : decode b_X_beginsAt 44 = .ok (.if_icmp .eq 5, 3) := by decide +kernel
theorem d_X_beginsAt_47 : decode b_X_beginsAt 47 = .ok (.iconst 0, 1) := by decide +kernel
theorem d_X_beginsAt_48 : decode b_X_beginsAt 48 = .ok (.ireturn, 1) := by decide +kernel
theorem d_X_beginsAt_49 : decode b_X_beginsAt 49 = .ok (.iinc 4 1, 3) := by decide +kernel
theorem d_X_beginsAt_52 : decode b_X_beginsAt 52 = .ok (.goto (-49), 3) := by decide +kernel
theorem d_X_beginsAt_55 : decode b_X_beginsAt 55 = .ok (.iconst 1, 1) := by decide +kernel
theorem d_X_beginsAt_56 : decode b_X_beginsAt 56 = .ok (.ireturn, 1) := by decide +kernel
theorem d_X_find_0 : decode b_X_find 0 = .ok (.aload_n 0, 1) := by decide +kernel
theorem d_X_find_1 : decode b_X_find 1 = .ok (.iload_n 1, 1) := by decide +kernel
theorem d_X_find_2 : decode b_X_find 2 = .ok (.invokevirtual 67, 3) := by decide +kernel
theorem d_X_find_5 : decode b_X_find 5 = .ok (.ifCond .ne 11, 3) := by decide +kernel
theorem d_X_find_8 : decode b_X_find 8 = .ok (.aload_n 0, 1) := by decide +kernel
theorem d_X_find_9 : decode b_X_find 9 = .ok (.iload_n 2, 1) := by decide +kernel
theorem d_X_find_10 : decode b_X_find 10 = .ok (.invokevirtual 67, 3) := by decide +kernel
theorem d_X_find_13 : decode b_X_find 13 = .ok (.ifCond .eq 5, 3) := by decide +kernel
theorem d_X_find_16 : decode b_X_find 16 = .ok (.iconst (-1), 1) := by decide +kernel
theorem d_X_find_17 : decode b_X_find 17 = .ok (.ireturn, 1) := by decide +kernel
theorem d_X_find_18 : decode b_X_find 18 = .ok (.aload_n 0, 1) := by decide +kernel
theorem d_X_find_19 : decode b_X_find 19 = .ok (.getfield 13, 3) := by decide +kernel
theorem d_X_find_22 : decode b_X_find 22 = .ok (.iload_n 1, 1) := by decide +kernel
theorem d_X_find_23 : decode b_X_find 23 = .ok (.iaload, 1) := by decide +kernel
theorem d_X_find_24 : decode b_X_find 24 = .ok (.ifCond .ne 5, 3) := by decide +kernel
theorem d_X_find_27 : decode b_X_find 27 = .ok (.iconst 0, 1) := by decide +kernel
theorem d_X_find_28 : decode b_X_find 28 = .ok (.ireturn, 1) := by decide +kernel
theorem d_X_find_29 : decode b_X_find 29 = .ok (.iconst 0, 1) := by decide +kernel
theorem d_X_find_30 : decode b_X_find 30 = .ok (.istore_n 3, 1) := by decide +kernel
theorem d_X_find_31 : decode b_X_find 31 = .ok (.iload_n 3, 1) := by decide +kernel
theorem d_X_find_32 : decode b_X_find 32 = .ok (.aload_n 0, 1) := by decide +kernel
theorem d_X_find_33 : decode b_X_find 33 = .ok (.getfield 13, 3) := by decide +kernel
theorem d_X_find_36 : decode b_X_find 36 = .ok (.iload_n 2, 1) := by decide +kernel
theorem d_X_find_37 : decode b_X_find 37 = .ok (.iaload, 1) := by decide +kernel
theorem d_X_find_38 : decode b_X_find 38 = .ok (.iadd, 1) := by decide +kernel
theorem d_X_find_39 : decode b_X_find 39 = .ok (.aload_n 0, 1) := by decide +kernel
theorem d_X_find_40 : decode b_X_find 40 = .ok (.getfield 13, 3) := by decide +kernel
theorem d_X_find_43 : decode b_X_find 43 = .ok (.iload_n 1, 1) := by decide +kernel
theorem d_X_find_44 : decode b_X_find 44 = .ok (.iaload, 1) := by decide +kernel
theorem d_X_find_45 : decode b_X_find 45 = .ok (.if_icmp .gt 27, 3) := by decide +kernel
theorem d_X_find_48 : decode b_X_find 48 = .ok (.aload_n 0, 1) := by decide +kernel
theorem d_X_find_49 : decode b_X_find 49 = .ok (.iload_n 1, 1) := by decide +kernel
theorem d_X_find_50 : decode b_X_find 50 = .ok (.iload_n 2, 1) := by decide +kernel
theorem d_X_find_51 : decode b_X_find 51 = .ok (.iload_n 3, 1) := by decide +kernel
theorem d_X_find_52 : decode b_X_find 52 = .ok (.invokevirtual 78, 3) := by decide +kernel
theorem d_X_find_55 : decode b_X_find 55 = .ok (.istore 4, 2) := by decide +kernel
theorem d_X_find_57 : decode b_X_find 57 = .ok (.iload 4, 2) := by decide +kernel
theorem d_X_find_59 : decode b_X_find 59 = .ok (.ifCond .eq 7, 3) := by decide +kernel
theorem d_X_find_62 : decode b_X_find 62 = .ok (.iload_n 3, 1) := by decide +kernel
theorem d_X_find_63 : decode b_X_find 63 = .ok (.iconst 1, 1) := by decide +kernel
theorem d_X_find_64 : decode b_X_find 64 = .ok (.iadd, 1) := by decide +kernel
theorem d_X_find_65 : decode b_X_find 65 = .ok (.ireturn, 1) := by decide +kernel
theorem d_X_find_66 : decode b_X_find 66 = .ok (.iinc 3 1, 3) := by decide +kernel
theorem d_X_find_69 : decode b_X_find 69 = .ok (.goto (-38), 3) := by decide +kernel
theorem d_X_find_72 : decode b_X_find 72 = .ok (.iconst 0, 1) := by decide +kernel
theorem d_X_find_73 : decode b_X_find 73 = .ok (.ireturn, 1) := by decide +kernel
theorem d_X_shared_0 : decode b_X_shared 0 = .ok (.iconst 0, 1) := by decide +kernel
theorem d_X_shared_1 : decode b_X_shared 1 = .ok (.istore_n 2, 1) := by decide +kernel
theorem d_X_shared_2 : decode b_X_shared 2 = .ok (.iconst 0, 1) := by decide +kernel
theorem d_X_shared_3 : decode b_X_shared 3 = .ok (.istore_n 3, 1) := by decide +kernel
theorem d_X_shared_4 : decode b_X_shared 4 = .ok (.iload_n 3, 1) := by decide +kernel
theorem d_X_shared_5 : decode b_X_shared 5 = .ok (.bipush 10, 2) := by decide +kernel
theorem d_X_shared_7 : decode b_X_shared 7 = .ok (.if_icmp .ge 92, 3) := by decide +kernel
theorem d_X_shared_10 : decode b_X_shared 10 = .ok (.iload_n 3, 1) := by decide +kernel
theorem d_X_shared_11 : decode b_X_shared 11 = .ok (.iload_n 1, 1) := by decide +kernel
theorem d_X_shared_12 : decode b_X_shared 12 = .ok (.if_icmp .eq 27, 3) := by decide +kernel
theorem d_X_shared_15 : decode b_X_shared 15 = .ok (.iload_n 3, 1) := by decide +kernel
theorem d_X_shared_16 : decode b_X_shared 16 = .ok (.bipush 6, 2) := by decide +kernel
theorem d_X_shared_18 : decode b_X_shared 18 = .ok (.aload_n 0, 1) := by decide +kernel
theorem d_X_shared_19 : decode b_X_shared 19 = .ok (.getfield 33, 3) := by decide +kernel
theorem d_X_shared_22 : decode b_X_shared 22 = .ok (.iadd, 1) := by decide +kernel
theorem d_X_shared_23 : decode b_X_shared 23 = .ok (.if_icmp .ge 16, 3) := by decide +kernel
theorem d_X_shared_26 : decode b_X_shared 26 = .ok (.aload_n 0, 1) := by decide +kernel
theorem d_X_shared_27 : decode b_X_shared 27 = .ok (.getfield 13, 3) := by decide +kernel
theorem d_X_shared_30 : decode b_X_shared 30 = .ok (.iload_n 3, 1) := by decide +kernel
theorem d_X_shared_31 : decode b_X_shared 31 = .ok (.iaload, 1) := by decide +kernel
theorem d_X_shared_32 : decode b_X_shared 32 = .ok (.ifCond .le 7, 3) := by decide +kernel
theorem d_X_shared_35 : decode b_X_shared 35 = .ok (.iconst 1, 1) := by decide +kernel
theorem d_X_shared_36 : decode b_X_shared 36 = .ok (.goto 4, 3) := by decide +kernel
theorem d_X_shared_39 : decode b_X_shared 39 = .ok (.iconst 0, 1) := by decide +kernel
theorem d_X_shared_40 : decode b_X_shared 40 = .ok (.istore 4, 2) := by decide +kernel
theorem d_X_shared_42 : decode b_X_shared 42 = .ok (.iload 4, 2) := by decide +kernel
theorem d_X_shared_44 : decode b_X_shared 44 = .ok (.ifCond .eq 49, 3) := by decide +kernel
theorem d_X_shared_47 : decode b_X_shared 47 = .ok (.aload_n 0, 1) := by decide +kernel
theorem d_X_shared_48 : decode b_X_shared 48 = .ok (.getfield 16, 3) := by decide +kernel
theorem d_X_shared_51 : decode b_X_shared 51 = .ok (.iload_n 3, 1) := by decide +kernel
theorem d_X_shared_52 : decode b_X_shared 52 = .ok (.iaload, 1) := by decide +kernel
theorem d_X_shared_53 : decode b_X_shared 53 = .ok (.aload_n 0, 1) := by decide +kernel
theorem d_X_shared_54 : decode b_X_shared 54 = .ok (.getfield 16, 3) := by decide +kernel
theorem d_X_shared_57 : decode b_X_shared 57 = .ok (.iload_n 1, 1) := by decide +kernel
theorem d_X_shared_58 : decode b_X_shared 58 = .ok (.iaload, 1) := by decide +kernel
theorem d_X_shared_59 : decode b_X_shared 59 = .ok (.aload_n 0, 1) := by decide +kernel
theorem d_X_shared_60 : decode b_X_shared 60 = .ok (.getfield 13, 3) := by decide +kernel
theorem d_X_shared_63 : decode b_X_shared 63 = .ok (.iload_n 1, 1) := by decide +kernel
theorem d_X_shared_64 : decode b_X_shared 64 = .ok (.iaload, 1) := by decide +kernel
theorem d_X_shared_65 : decode b_X_shared 65 = .ok (.iadd, 1) := by decide +kernel
theorem d_X_shared_66 : decode b_X_shared 66 = .ok (.if_icmp .ge 27, 3) := by decide +kernel
theorem d_X_shared_69 : decode b_X_shared 69 = .ok (.aload_n 0, 1) := by decide +kernel
theorem d_X_shared_70 : decode b_X_shared 70 = .ok (.getfield 16, 3) := by decide +kernel
theorem d_X_shared_73 : decode b_X_shared 73 = .ok (.iload_n 1, 1) := by decide +kernel
theorem d_X_shared_74 : decode b_X_shared 74 = .ok (.iaload, 1) := by decide +kernel
theorem d_X_shared_75 : decode b_X_shared 75 = .ok (.aload_n 0, 1) := by decide +kernel
theorem d_X_shared_76 : decode b_X_shared 76 = .ok (.getfield 16, 3) := by decide +kernel
theorem d_X_shared_79 : decode b_X_shared 79 = .ok (.iload_n 3, 1) := by decide +kernel
theorem d_X_shared_80 : decode b_X_shared 80 = .ok (.iaload, 1) := by decide +kernel
theorem d_X_shared_81 : decode b_X_shared 81 = .ok (.aload_n 0, 1) := by decide +kernel
theorem d_X_shared_82 : decode b_X_shared 82 = .ok (.getfield 13, 3) := by decide +kernel
theorem d_X_shared_85 : decode b_X_shared 85 = .ok (.iload_n 3, 1) := by decide +kernel
theorem d_X_shared_86 : decode b_X_shared 86 = .ok (.iaload, 1) := by decide +kernel
theorem d_X_shared_87 : decode b_X_shared 87 = .ok (.iadd, 1) := by decide +kernel
theorem d_X_shared_88 : decode b_X_shared 88 = .ok (.if_icmp .ge 5, 3) := by decide +kernel
theorem d_X_shared_91 : decode b_X_shared 91 = .ok (.iconst 1, 1) := by decide +kernel
theorem d_X_shared_92 : decode b_X_shared 92 = .ok (.istore_n 2, 1) := by decide +kernel
theorem d_X_shared_93 : decode b_X_shared 93 = .ok (.iinc 3 1, 3) := by decide +kernel
theorem d_X_shared_96 : decode b_X_shared 96 = .ok (.goto (-92), 3) := by decide +kernel
theorem d_X_shared_99 : decode b_X_shared 99 = .ok (.iload_n 2, 1) := by decide +kernel
theorem d_X_shared_100 : decode b_X_shared 100 = .ok (.ireturn, 1) := by decide +kernel
theorem d_X_setMid_0 : decode b_X_setMid 0 = .ok (.aload_n 0, 1) := by decide +kernel
theorem d_X_setMid_1 : decode b_X_setMid 1 = .ok (.iload_n 1, 1) := by decide +kernel
theorem d_X_setMid_2 : decode b_X_setMid 2 = .ok (.invokevirtual 67, 3) := by decide +kernel
theorem d_X_setMid_5 : decode b_X_setMid 5 = .ok (.ifCond .ne 15, 3) := by decide +kernel
theorem d_X_setMid_8 : decode b_X_setMid 8 = .ok (.iload_n 2, 1) := by decide +kernel
theorem d_X_setMid_9 : decode b_X_setMid 9 = .ok (.iconst 1, 1) := by decide +kernel
theorem d_X_setMid_10 : decode b_X_setMid 10 = .ok (.if_icmp .lt 10, 3) := by decide +kernel
theorem d_X_setMid_13 : decode b_X_setMid 13 = .ok (.iload_n 2, 1) := by decide +kernel
theorem d_X_setMid_14 : decode b_X_setMid 14 = .ok (.sipush 255, 3) := by decide +kernel
theorem d_X_setMid_17 : decode b_X_setMid 17 = .ok (.if_icmp .le 5, 3) := by decide +kernel
theorem d_X_setMid_20 : decode b_X_setMid 20 = .ok (.iconst (-1), 1) := by decide +kernel
theorem d_X_setMid_21 : decode b_X_setMid 21 = .ok (.ireturn, 1) := by decide +kernel
theorem d_X_setMid_22 : decode b_X_setMid 22 = .ok (.aload_n 0, 1) := by decide +kernel
theorem d_X_setMid_23 : decode b_X_setMid 23 = .ok (.getfield 33, 3) := by decide +kernel
theorem d_X_setMid_26 : decode b_X_setMid 26 = .ok (.ifCond .ne 6, 3) := by decide +kernel
theorem d_X_setMid_29 : decode b_X_setMid 29 = .ok (.bipush (-3), 2) := by decide +kernel
theorem d_X_setMid_31 : decode b_X_setMid 31 = .ok (.ireturn, 1) := by decide +kernel
theorem d_X_setMid_32 : decode b_X_setMid 32 = .ok (.aload_n 0, 1) := by decide +kernel
theorem d_X_setMid_33 : decode b_X_setMid 33 = .ok (.invokevirtual 46, 3) := by decide +kernel
theorem d_X_setMid_36 : decode b_X_setMid 36 = .ok (.istore_n 3, 1) := by decide +kernel
theorem d_X_setMid_37 : decode b_X_setMid 37 = .ok (.aload_n 0, 1) := by decide +kernel
theorem d_X_setMid_38 : decode b_X_setMid 38 = .ok (.getfield 13, 3) := by decide +kernel
theorem d_X_setMid_41 : decode b_X_setMid 41 = .ok (.iload_n 1, 1) := by decide +kernel
theorem d_X_setMid_42 : decode b_X_setMid 42 = .ok (.iaload, 1) := by decide +kernel
theorem d_X_setMid_43 : decode b_X_setMid 43 = .ok (.iload_n 2, 1) := by decide +kernel
theorem d_X_setMid_44 : decode b_X_setMid 44 = .ok (.isub, 1) := by decide +kernel
theorem d_X_setMid_45 : decode b_X_setMid 45 = .ok (.iconst 1, 1) := by decide +kernel
theorem d_X_setMid_46 : decode b_X_setMid 46 = .ok (.iadd, 1) := by decide +kernel
theorem d_X_setMid_47 : decode b_X_setMid 47 = .ok (.istore 4, 2) := by decide +kernel
theorem d_X_setMid_49 : decode b_X_setMid 49 = .ok (.iload 4, 2) := by decide +kernel
theorem d_X_setMid_51 : decode b_X_setMid 51 = .ok (.aload_n 0, 1) := by decide +kernel
theorem d_X_setMid_52 : decode b_X_setMid 52 = .ok (.getfield 13, 3) := by decide +kernel
theorem d_X_setMid_55 : decode b_X_setMid 55 = .ok (.iload_n 3, 1) := by decide +kernel
theorem d_X_setMid_56 : decode b_X_setMid 56 = .ok (.iaload, 1) := by decide +kernel
theorem d_X_setMid_57 : decode b_X_setMid 57 = .ok (.if_icmp .ge 8, 3) := by decide +kernel
theorem d_X_setMid_60 : decode b_X_setMid 60 = .ok (.iload 4, 2) := by decide +kernel
theorem d_X_setMid_62 : decode b_X_setMid 62 = .ok (.goto 9, 3) := by decide +kernel
theorem d_X_setMid_65 : decode b_X_setMid 65 = .ok (.aload_n 0, 1) := by decide +kernel
theorem d_X_setMid_66 : decode b_X_setMid 66 = .ok (.getfield 13, 3) := by decide +kernel
theorem d_X_setMid_69 : decode b_X_setMid 69 = .ok (.iload_n 3, 1) := by decide +kernel
theorem d_X_setMid_70 : decode b_X_setMid 70 = .ok (.iaload, 1) := by decide +kernel
theorem d_X_setMid_71 : decode b_X_setMid 71 = .ok (.istore 5, 2) := by decide +kernel
theorem d_X_setMid_73 : decode b_X_setMid 73 = .ok (.iload 5, 2) := by decide +kernel
theorem d_X_setMid_75 : decode b_X_setMid 75 = .ok (.iconst 1, 1) := by decide +kernel
theorem d_X_setMid_76 : decode b_X_setMid 76 = .ok (.if_icmp .ge 15, 3) := by decide +kernel
theorem d_X_setMid_79 : decode b_X_setMid 79 = .ok (.aload_n 0, 1) := by decide +kernel
theorem d_X_setMid_80 : decode b_X_setMid 80 = .ok (.dup, 1) := by decide +kernel
theorem d_X_setMid_81 : decode b_X_setMid 81 = .ok (.getfield 33, 3) := by decide +kernel
theorem d_X_setMid_84 : decode b_X_setMid 84 = .ok (.iconst 1, 1) := by decide +kernel
theorem d_X_setMid_85 : decode b_X_setMid 85 = .ok (.isub, 1) := by decide +kernel
theorem d_X_setMid_86 : decode b_X_setMid 86 = .ok (.putfield 33, 3) := by decide +kernel
theorem d_X_setMid_89 : decode b_X_setMid 89 = .ok (.iconst 0, 1) := by decide +kernel
theorem d_X_setMid_90 : decode b_X_setMid 90 = .ok (.ireturn, 1) := by decide +kernel
theorem d_X_setMid_91 : decode b_X_setMid 91 = .ok (.aload_n 0, 1) := by decide +kernel
theorem d_X_setMid_92 : decode b_X_setMid 92 = .ok (.iload_n 1, 1) := by decide +kernel
theorem d_X_setMid_93 : decode b_X_setMid 93 = .ok (.invokevirtual 82, 3) := by decide +kernel
theorem d_X_setMid_96 : decode b_X_setMid 96 = .ok (.istore 6, 2) := by decide +kernel
theorem d_X_setMid_98 : decode b_X_setMid 98 = .ok (.iload 6, 2) := by decide +kernel
theorem d_X_setMid_100 : decode b_X_setMid 100 = .ok (.ifCond .eq 41, 3) := by decide +kernel
theorem d_X_setMid_103 : decode b_X_setMid 103 = .ok (.aload_n 0, 1) := by decide +kernel
theorem d_X_setMid_104 : decode b_X_setMid 104 = .ok (.aload_n 0, 1) := by decide +kernel
theorem d_X_setMid_105 : decode b_X_setMid 105 = .ok (.getfield 13, 3) := by decide +kernel
theorem d_X_setMid_108 : decode b_X_setMid 108 = .ok (.iload_n 1, 1) := by decide +kernel
theorem d_X_setMid_109 : decode b_X_setMid 109 = .ok (.iaload, 1) := by decide +kernel
theorem d_X_setMid_110 : decode b_X_setMid 110 = .ok (.invokevirtual 60, 3) := by decide +kernel
theorem d_X_setMid_113 : decode b_X_setMid 113 = .ok (.istore 7, 2) := by decide +kernel
theorem d_X_setMid_115 : decode b_X_setMid 115 = .ok (.aload_n 0, 1) := by decide +kernel
theorem d_X_setMid_116 : decode b_X_setMid 116 = .ok (.aload_n 0, 1) := by decide +kernel
theorem d_X_setMid_117 : decode b_X_setMid 117 = .ok (.getfield 16, 3) := by decide +kernel
theorem d_X_setMid_120 : decode b_X_setMid 120 = .ok (.iload_n 1, 1) := by decide +kernel
theorem d_X_setMid_121 : decode b_X_setMid 121 = .ok (.iaload, 1) := by decide +kernel
theorem d_X_setMid_122 : decode b_X_setMid 122 = .ok (.iload 7, 2) := by decide +kernel
theorem d_X_setMid_124 : decode b_X_setMid 124 = .ok (.aload_n 0, 1) := by decide +kernel
theorem d_X_setMid_125 : decode b_X_setMid 125 = .ok (.getfield 13, 3) := by decide +kernel
theorem d_X_setMid_128 : decode b_X_setMid 128 = .ok (.iload_n 1, 1) := by decide +kernel
theorem d_X_setMid_129 : decode b_X_setMid 129 = .ok (.iaload, 1) := by decide +kernel
theorem d_X_setMid_130 : decode b_X_setMid 130 = .ok (.invokevirtual 70, 3) := by decide +kernel
theorem d_X_setMid_133 : decode b_X_setMid 133 = .ok (.aload_n 0, 1) := by decide +kernel
theorem d_X_setMid_134 : decode b_X_setMid 134 = .ok (.getfield 16, 3) := by decide +kernel
theorem d_X_setMid_137 : decode b_X_setMid 137 = .ok (.iload_n 1, 1) := by decide +kernel
theorem d_X_setMid_138 : decode b_X_setMid 138 = .ok (.iload 7, 2) := by decide +kernel
theorem d_X_setMid_140 : decode b_X_setMid 140 = .ok (.iastore, 1) := by decide +kernel
theorem d_X_setMid_141 : decode b_X_setMid 141 = .ok (.aload_n 0, 1) := by decide +kernel
theorem d_X_setMid_142 : decode b_X_setMid 142 = .ok (.aload_n 0, 1) := by decide +kernel
theorem d_X_setMid_143 : decode b_X_setMid 143 = .ok (.getfield 16, 3) := by decide +kernel
theorem d_X_setMid_146 : decode b_X_setMid 146 = .ok (.iload_n 3, 1) := by decide +kernel
theorem d_X_setMid_147 : decode b_X_setMid 147 = .ok (.iaload, 1) := by decide +kernel
theorem d_X_setMid_148 : decode b_X_setMid 148 = .ok (.aload_n 0, 1) := by decide +kernel
theorem d_X_setMid_149 : decode b_X_setMid 149 = .ok (.getfield 16, 3) := by decide +kernel
theorem d_X_setMid_152 : decode b_X_setMid 152 = .ok (.iload_n 1, 1) := by decide +kernel
theorem d_X_setMid_153 : decode b_X_setMid 153 = .ok (.iaload, 1) := by decide +kernel
theorem d_X_setMid_154 : decode b_X_setMid 154 = .ok (.iload_n 2, 1) := by decide +kernel
theorem d_X_setMid_155 : decode b_X_setMid 155 = .ok (.iadd, 1) := by decide +kernel
theorem d_X_setMid_156 : decode b_X_setMid 156 = .ok (.iconst 1, 1) := by decide +kernel
theorem d_X_setMid_157 : decode b_X_setMid 157 = .ok (.isub, 1) := by decide +kernel
theorem d_X_setMid_158 : decode b_X_setMid 158 = .ok (.iload 5, 2) := by decide +kernel
theorem d_X_setMid_160 : decode b_X_setMid 160 = .ok (.invokevirtual 70, 3) := by decide +kernel
theorem d_X_setMid_163 : decode b_X_setMid 163 = .ok (.aload_n 0, 1) := by decide +kernel
theorem d_X_setMid_164 : decode b_X_setMid 164 = .ok (.dup, 1) := by decide +kernel
theorem d_X_setMid_165 : decode b_X_setMid 165 = .ok (.getfield 33, 3) := by decide +kernel
theorem d_X_setMid_168 : decode b_X_setMid 168 = .ok (.iconst 1, 1) := by decide +kernel
theorem d_X_setMid_169 : decode b_X_setMid 169 = .ok (.isub, 1) := by decide +kernel
theorem d_X_setMid_170 : decode b_X_setMid 170 = .ok (.putfield 33, 3) := by decide +kernel
theorem d_X_setMid_173 : decode b_X_setMid 173 = .ok (.iload 5, 2) := by decide +kernel
theorem d_X_setMid_175 : decode b_X_setMid 175 = .ok (.ireturn, 1) := by decide +kernel
theorem d_X_swap_0 : decode b_X_swap 0 = .ok (.aload_n 0, 1) := by decide +kernel
theorem d_X_swap_1 : decode b_X_swap 1 = .ok (.iload_n 1, 1) := by decide +kernel
theorem d_X_swap_2 : decode b_X_swap 2 = .ok (.invokevirtual 67, 3) := by decide +kernel
theorem d_X_swap_5 : decode b_X_swap 5 = .ok (.ifCond .ne 11, 3) := by decide +kernel
theorem d_X_swap_8 : decode b_X_swap 8 = .ok (.aload_n 0, 1) := by decide +kernel
theorem d_X_swap_9 : decode b_X_swap 9 = .ok (.iload_n 2, 1) := by decide +kernel
theorem d_X_swap_10 : decode b_X_swap 10 = .ok (.invokevirtual 67, 3) := by decide +kernel
theorem d_X_swap_13 : decode b_X_swap 13 = .ok (.ifCond .eq 5, 3) := by decide +kernel
theorem d_X_swap_16 : decode b_X_swap 16 = .ok (.iconst (-1), 1) := by decide +kernel
theorem d_X_swap_17 : decode b_X_swap 17 = .ok (.ireturn, 1) := by decide +kernel
theorem d_X_swap_18 : decode b_X_swap 18 = .ok (.aload_n 0, 1) := by decide +kernel
theorem d_X_swap_19 : decode b_X_swap 19 = .ok (.getfield 16, 3) := by decide +kernel
theorem d_X_swap_22 : decode b_X_swap 22 = .ok (.iload_n 1, 1) := by decide +kernel
theorem d_X_swap_23 : decode b_X_swap 23 = .ok (.iaload, 1) := by decide +kernel
theorem d_X_swap_24 : decode b_X_swap 24 = .ok (.istore_n 3, 1) := by decide +kernel
theorem d_X_swap_25 : decode b_X_swap 25 = .ok (.aload_n 0, 1) := by decide +kernel
theorem d_X_swap_26 : decode b_X_swap 26 = .ok (.getfield 13, 3) := by decide +kernel
theorem d_X_swap_29 : decode b_X_swap 29 = .ok (.iload_n 1, 1) := by decide +kernel
theorem d_X_swap_30 : decode b_X_swap 30 = .ok (.iaload, 1) := by decide +kernel
theorem d_X_swap_31 : decode b_X_swap 31 = .ok (.istore 4, 2) := by decide +kernel
theorem d_X_swap_33 : decode b_X_swap 33 = .ok (.aload_n 0, 1) := by decide +kernel
theorem d_X_swap_34 : decode b_X_swap 34 = .ok (.getfield 16, 3) := by decide +kernel
theorem d_X_swap_37 : decode b_X_swap 37 = .ok (.iload_n 1, 1) := by decide +kernel
theorem d_X_swap_38 : decode b_X_swap 38 = .ok (.aload_n 0, 1) := by decide +kernel
theorem d_X_swap_39 : decode b_X_swap 39 = .ok (.getfield 16, 3) := by decide +kernel
theorem d_X_swap_42 : decode b_X_swap 42 = .ok (.iload_n 2, 1) := by decide +kernel
theorem d_X_swap_43 : decode b_X_swap 43 = .ok (.iaload, 1) := by decide +kernel
theorem d_X_swap_44 : decode b_X_swap 44 = .ok (.iastore, 1) := by decide +kernel
theorem d_X_swap_45 : decode b_X_swap 45 = .ok (.aload_n 0, 1) := by decide +kernel
theorem d_X_swap_46 : decode b_X_swap 46 = .ok (.getfield 13, 3) := by decide +kernel
theorem d_X_swap_49 : decode b_X_swap 49 = .ok (.iload_n 1, 1) := by decide +kernel
theorem d_X_swap_50 : decode b_X_swap 50 = .ok (.aload_n 0, 1) := by decide +kernel
theorem d_X_swap_51 : decode b_X_swap 51 = .ok (.getfield 13, 3) := by decide +kernel
theorem d_X_swap_54 : decode b_X_swap 54 = .ok (.iload_n 2, 1) := by decide +kernel
theorem d_X_swap_55 : decode b_X_swap 55 = .ok (.iaload, 1) := by decide +kernel
theorem d_X_swap_56 : decode b_X_swap 56 = .ok (.iastore, 1) := by decide +kernel
theorem d_X_swap_57 : decode b_X_swap 57 = .ok (.aload_n 0, 1) := by decide +kernel
theorem d_X_swap_58 : decode b_X_swap 58 = .ok (.getfield 16, 3) := by decide +kernel
theorem d_X_swap_61 : decode b_X_swap 61 = .ok (.iload_n 2, 1) := by decide +kernel
theorem d_X_swap_62 : decode b_X_swap 62 = .ok (.iload_n 3, 1) := by decide +kernel
theorem d_X_swap_63 : decode b_X_swap 63 = .ok (.iastore, 1) := by decide +kernel
theorem d_X_swap_64 : decode b_X_swap 64 = .ok (.aload_n 0, 1) := by decide +kernel
theorem d_X_swap_65 : decode b_X_swap 65 = .ok (.getfield 13, 3) := by decide +kernel
theorem d_X_swap_68 : decode b_X_swap 68 = .ok (.iload_n 2, 1) := by decide +kernel
theorem d_X_swap_69 : decode b_X_swap 69 = .ok (.iload 4, 2) := by decide +kernel
theorem d_X_swap_71 : decode b_X_swap 71 = .ok (.iastore, 1) := by decide +kernel
theorem d_X_swap_72 : decode b_X_swap 72 = .ok (.iconst 0, 1) := by decide +kernel
theorem d_X_swap_73 : decode b_X_swap 73 = .ok (.ireturn, 1) := by decide +kernel
theorem d_X_length_0 : decode b_X_length 0 = .ok (.aload_n 0, 1) := by decide +kernel
theorem d_X_length_1 : decode b_X_length 1 = .ok (.iload_n 1, 1) := by decide +kernel
theorem d_X_length_2 : decode b_X_length 2 = .ok (.invokevirtual 67, 3) := by decide +kernel
theorem d_X_length_5 : decode b_X_length 5 = .ok (.ifCond .eq 7, 3) := by decide +kernel
theorem d_X_length_8 : decode b_X_length 8 = .ok (.iconst (-1), 1) := by decide +kernel
theorem d_X_length_9 : decode b_X_length 9 = .ok (.goto 9, 3) := by decide +kernel
theorem d_X_length_12 : decode b_X_length 12 = .ok (.aload_n 0, 1) := by decide +kernel
theorem d_X_length_13 : decode b_X_length 13 = .ok (.getfield 13, 3) := by decide +kernel
theorem d_X_length_16 : decode b_X_length 16 = .ok (.iload_n 1, 1) := by decide +kernel
theorem d_X_length_17 : decode b_X_length 17 = .ok (.iaload, 1) := by decide +kernel
theorem d_X_length_18 : decode b_X_length 18 = .ok (.ireturn, 1) := by decide +kernel
theorem d_X_at_0 : decode b_X_at 0 = .ok (.aload_n 0, 1) := by decide +kernel
theorem d_X_at_1 : decode b_X_at 1 = .ok (.iload_n 1, 1) := by decide +kernel
theorem d_X_at_2 : decode b_X_at 2 = .ok (.invokevirtual 67, 3) := by decide +kernel
theorem d_X_at_5 : decode b_X_at 5 = .ok (.ifCond .ne 18, 3) := by decide +kernel
theorem d_X_at_8 : decode b_X_at 8 = .ok (.iload_n 2, 1) := by decide +kernel
theorem d_X_at_9 : decode b_X_at 9 = .ok (.iconst 1, 1) := by decide +kernel
theorem d_X_at_10 : decode b_X_at 10 = .ok (.if_icmp .lt 13, 3) := by decide +kernel
theorem d_X_at_13 : decode b_X_at 13 = .ok (.iload_n 2, 1) := by decide +kernel
theorem d_X_at_14 : decode b_X_at 14 = .ok (.aload_n 0, 1) := by decide +kernel
theorem d_X_at_15 : decode b_X_at 15 = .ok (.getfield 13, 3) := by decide +kernel
theorem d_X_at_18 : decode b_X_at 18 = .ok (.iload_n 1, 1) := by decide +kernel
theorem d_X_at_19 : decode b_X_at 19 = .ok (.iaload, 1) := by decide +kernel
theorem d_X_at_20 : decode b_X_at 20 = .ok (.if_icmp .le 5, 3) := by decide +kernel
theorem d_X_at_23 : decode b_X_at 23 = .ok (.iconst 0, 1) := by decide +kernel
theorem d_X_at_24 : decode b_X_at 24 = .ok (.ireturn, 1) := by decide +kernel
theorem d_X_at_25 : decode b_X_at 25 = .ok (.aload_n 0, 1) := by decide +kernel
theorem d_X_at_26 : decode b_X_at 26 = .ok (.getfield 19, 3) := by decide +kernel
theorem d_X_at_29 : decode b_X_at 29 = .ok (.aload_n 0, 1) := by decide +kernel
theorem d_X_at_30 : decode b_X_at 30 = .ok (.getfield 16, 3) := by decide +kernel
theorem d_X_at_33 : decode b_X_at 33 = .ok (.iload_n 1, 1) := by decide +kernel
theorem d_X_at_34 : decode b_X_at 34 = .ok (.iaload, 1) := by decide +kernel
theorem d_X_at_35 : decode b_X_at 35 = .ok (.iload_n 2, 1) := by decide +kernel
theorem d_X_at_36 : decode b_X_at 36 = .ok (.iadd, 1) := by decide +kernel
theorem d_X_at_37 : decode b_X_at 37 = .ok (.iconst 1, 1) := by decide +kernel
theorem d_X_at_38 : decode b_X_at 38 = .ok (.isub, 1) := by decide +kernel
theorem d_X_at_39 : decode b_X_at 39 = .ok (.iaload, 1) := by decide +kernel
theorem d_X_at_40 : decode b_X_at 40 = .ok (.ireturn, 1) := by decide +kernel
theorem d_X_pile_0 : decode b_X_pile 0 = .ok (.aload_n 0, 1) := by decide +kernel
theorem d_X_pile_1 : decode b_X_pile 1 = .ok (.getfield 33, 3) := by decide +kernel
theorem d_X_pile_4 : decode b_X_pile 4 = .ok (.ireturn, 1) := by decide +kernel
theorem d_X_topLength_0 : decode b_X_topLength 0 = .ok (.aload_n 0, 1) := by decide +kernel
theorem d_X_topLength_1 : decode b_X_topLength 1 = .ok (.getfield 33, 3) := by decide +kernel
theorem d_X_topLength_4 : decode b_X_topLength 4 = .ok (.ifCond .ne 8, 3) := by decide +kernel
theorem d_X_topLength_7 : decode b_X_topLength 7 = .ok (.bipush (-3), 2) := by decide +kernel
theorem d_X_topLength_9 : decode b_X_topLength 9 = .ok (.goto 12, 3) := by decide +kernel
theorem d_X_topLength_12 : decode b_X_topLength 12 = .ok (.aload_n 0, 1) := by decide +kernel
theorem d_X_topLength_13 : decode b_X_topLength 13 = .ok (.getfield 13, 3) := by decide +kernel
theorem d_X_topLength_16 : decode b_X_topLength 16 = .ok (.aload_n 0, 1) := by decide +kernel
theorem d_X_topLength_17 : decode b_X_topLength 17 = .ok (.invokevirtual 46, 3) := by decide +kernel
theorem d_X_topLength_20 : decode b_X_topLength 20 = .ok (.iaload, 1) := by decide +kernel
theorem d_X_topLength_21 : decode b_X_topLength 21 = .ok (.ireturn, 1) := by decide +kernel
theorem d_X_topAt_0 : decode b_X_topAt 0 = .ok (.aload_n 0, 1) := by decide +kernel
theorem d_X_topAt_1 : decode b_X_topAt 1 = .ok (.getfield 33, 3) := by decide +kernel
theorem d_X_topAt_4 : decode b_X_topAt 4 = .ok (.ifCond .ne 5, 3) := by decide +kernel
theorem d_X_topAt_7 : decode b_X_topAt 7 = .ok (.iconst 0, 1) := by decide +kernel
theorem d_X_topAt_8 : decode b_X_topAt 8 = .ok (.ireturn, 1) := by decide +kernel
theorem d_X_topAt_9 : decode b_X_topAt 9 = .ok (.aload_n 0, 1) := by decide +kernel
theorem d_X_topAt_10 : decode b_X_topAt 10 = .ok (.invokevirtual 46, 3) := by decide +kernel
theorem d_X_topAt_13 : decode b_X_topAt 13 = .ok (.istore_n 2, 1) := by decide +kernel
theorem d_X_topAt_14 : decode b_X_topAt 14 = .ok (.iload_n 1, 1) := by decide +kernel
theorem d_X_topAt_15 : decode b_X_topAt 15 = .ok (.iconst 1, 1) := by decide +kernel
theorem d_X_topAt_16 : decode b_X_topAt 16 = .ok (.if_icmp .lt 13, 3) := by decide +kernel
theorem d_X_topAt_19 : decode b_X_topAt 19 = .ok (.iload_n 1, 1) := by decide +kernel
theorem d_X_topAt_20 : decode b_X_topAt 20 = .ok (.aload_n 0, 1) := by decide +kernel
theorem d_X_topAt_21 : decode b_X_topAt 21 = .ok (.getfield 13, 3) := by decide +kernel
theorem d_X_topAt_24 : decode b_X_topAt 24 = .ok (.iload_n 2, 1) := by decide +kernel
theorem d_X_topAt_25 : decode b_X_topAt 25 = .ok (.iaload, 1) := by decide +kernel
theorem d_X_topAt_26 : decode b_X_topAt 26 = .ok (.if_icmp .le 5, 3) := by decide +kernel
theorem d_X_topAt_29 : decode b_X_topAt 29 = .ok (.iconst 0, 1) := by decide +kernel
theorem d_X_topAt_30 : decode b_X_topAt 30 = .ok (.ireturn, 1) := by decide +kernel
theorem d_X_topAt_31 : decode b_X_topAt 31 = .ok (.aload_n 0, 1) := by decide +kernel
theorem d_X_topAt_32 : decode b_X_topAt 32 = .ok (.getfield 19, 3) := by decide +kernel
theorem d_X_topAt_35 : decode b_X_topAt 35 = .ok (.aload_n 0, 1) := by decide +kernel
theorem d_X_topAt_36 : decode b_X_topAt 36 = .ok (.getfield 16, 3) := by decide +kernel
theorem d_X_topAt_39 : decode b_X_topAt 39 = .ok (.iload_n 2, 1) := by decide +kernel
theorem d_X_topAt_40 : decode b_X_topAt 40 = .ok (.iaload, 1) := by decide +kernel
theorem d_X_topAt_41 : decode b_X_topAt 41 = .ok (.iload_n 1, 1) := by decide +kernel
theorem d_X_topAt_42 : decode b_X_topAt 42 = .ok (.iadd, 1) := by decide +kernel
theorem d_X_topAt_43 : decode b_X_topAt 43 = .ok (.iconst 1, 1) := by decide +kernel
theorem d_X_topAt_44 : decode b_X_topAt 44 = .ok (.isub, 1) := by decide +kernel
theorem d_X_topAt_45 : decode b_X_topAt 45 = .ok (.iaload, 1) := by decide +kernel
theorem d_X_topAt_46 : decode b_X_topAt 46 = .ok (.ireturn, 1) := by decide +kernel
theorem d_X_used_0 : decode b_X_used 0 = .ok (.iconst 0, 1) := by decide +kernel
theorem d_X_used_1 : decode b_X_used 1 = .ok (.istore_n 1, 1) := by decide +kernel
theorem d_X_used_2 : decode b_X_used 2 = .ok (.iconst 0, 1) := by decide +kernel
theorem d_X_used_3 : decode b_X_used 3 = .ok (.istore_n 2, 1) := by decide +kernel
theorem d_X_used_4 : decode b_X_used 4 = .ok (.iload_n 2, 1) := by decide +kernel
theorem d_X_used_5 : decode b_X_used 5 = .ok (.aload_n 0, 1) := by decide +kernel
theorem d_X_used_6 : decode b_X_used 6 = .ok (.invokevirtual 85, 3) := by decide +kernel
theorem d_X_used_9 : decode b_X_used 9 = .ok (.if_icmp .ge 18, 3) := by decide +kernel
theorem d_X_used_12 : decode b_X_used 12 = .ok (.iload_n 1, 1) := by decide +kernel
theorem d_X_used_13 : decode b_X_used 13 = .ok (.aload_n 0, 1) := by decide +kernel
theorem d_X_used_14 : decode b_X_used 14 = .ok (.getfield 13, 3) := by decide +kernel
theorem d_X_used_17 : decode b_X_used 17 = .ok (.iload_n 2, 1) := by decide +kernel
theorem d_X_used_18 : decode b_X_used 18 = .ok (.iaload, 1) := by decide +kernel
theorem d_X_used_19 : decode b_X_used 19 = .ok (.iadd, 1) := by decide +kernel
theorem d_X_used_20 : decode b_X_used 20 = .ok (.istore_n 1, 1) := by decide +kernel
theorem d_X_used_21 : decode b_X_used 21 = .ok (.iinc 2 1, 3) := by decide +kernel
theorem d_X_used_24 : decode b_X_used 24 = .ok (.goto (-20), 3) := by decide +kernel
theorem d_X_used_27 : decode b_X_used 27 = .ok (.iload_n 1, 1) := by decide +kernel
theorem d_X_used_28 : decode b_X_used 28 = .ok (.ireturn, 1) := by decide +kernel
end
section
theorem d_M_init_0 : decode b_M_init 0 = .ok (.aload_n 0, 1) := by decide +kernel
theorem d_M_init_1 : decode b_M_init 1 = .ok (.invokespecial 1, 3) := by decide +kernel
theorem d_M_init_4 : decode b_M_init 4 = .ok (.aload_n 0, 1) := by decide +kernel
theorem d_M_init_5 : decode b_M_init 5 = .ok (.sipush 440, 3) := by decide +kernel
theorem d_M_init_8 : decode b_M_init 8 = .ok (.newarray .int, 2) := by decide +kernel
theorem d_M_init_10 : decode b_M_init 10 = .ok (.putfield 7, 3) := by decide +kernel
theorem d_M_init_13 : decode b_M_init 13 = .ok (.aload_n 0, 1) := by decide +kernel
theorem d_M_init_14 : decode b_M_init 14 = .ok (.bipush 11, 2) := by decide +kernel
theorem d_M_init_16 : decode b_M_init 16 = .ok (.newarray .int, 2) := by decide +kernel
theorem d_M_init_18 : decode b_M_init 18 = .ok (.putfield 13, 3) := by decide +kernel
theorem d_M_init_21 : decode b_M_init 21 = .ok (.return_, 1) := by decide +kernel
theorem d_M_isVariable_0 : decode b_M_isVariable 0 = .ok (.iload_n 1, 1) := by decide +kernel
theorem d_M_isVariable_1 : decode b_M_isVariable 1 = .ok (.ifCond .lt 12, 3) := by decide +kernel
theorem d_M_isVariable_4 : decode b_M_isVariable 4 = .ok (.iload_n 1, 1) := by decide +kernel
theorem d_M_isVariable_5 : decode b_M_isVariable 5 = .ok (.iconst 5, 1) := by decide +kernel
theorem d_M_isVariable_6 : decode b_M_isVariable 6 = .ok (.if_icmp .gt 7, 3) := by decide +kernel
theorem d_M_isVariable_9 : decode b_M_isVariable 9 = .ok (.iconst 1, 1) := by decide +kernel
theorem d_M_isVariable_10 : decode b_M_isVariable 10 = .ok (.goto 4, 3) := by decide +kernel
theorem d_M_isVariable_13 : decode b_M_isVariable 13 = .ok (.iconst 0, 1) := by decide +kernel
theorem d_M_isVariable_14 : decode b_M_isVariable 14 = .ok (.ireturn, 1) := by decide +kernel
theorem d_M_isSmall_0 : decode b_M_isSmall 0 = .ok (.iload_n 1, 1) := by decide +kernel
theorem d_M_isSmall_1 : decode b_M_isSmall 1 = .ok (.ifCond .lt 14, 3) := by decide +kernel
theorem d_M_isSmall_4 : decode b_M_isSmall 4 = .ok (.iload_n 1, 1) := by decide +kernel
theorem d_M_isSmall_5 : decode b_M_isSmall 5 = .ok (.sipush 255, 3) := by decide +kernel
theorem d_M_isSmall_8 : decode b_M_isSmall 8 = .ok (.if_icmp .gt 7, 3) := by decide +kernel
theorem d_M_isSmall_11 : decode b_M_isSmall 11 = .ok (.iconst 1, 1) := by decide +kernel
theorem d_M_isSmall_12 : decode b_M_isSmall 12 = .ok (.goto 4, 3) := by decide +kernel
theorem d_M_isSmall_15 : decode b_M_isSmall 15 = .ok (.iconst 0, 1) := by decide +kernel
theorem d_M_isSmall_16 : decode b_M_isSmall 16 = .ok (.ireturn, 1) := by decide +kernel
theorem d_M_copy_0 : decode b_M_copy 0 = .ok (.iconst 0, 1) := by decide +kernel
theorem d_M_copy_1 : decode b_M_copy 1 = .ok (.istore_n 3, 1) := by decide +kernel
theorem d_M_copy_2 : decode b_M_copy 2 = .ok (.iload_n 3, 1) := by decide +kernel
theorem d_M_copy_3 : decode b_M_copy 3 = .ok (.aload_n 0, 1) := by decide +kernel
theorem d_M_copy_4 : decode b_M_copy 4 = .ok (.getfield 13, 3) := by decide +kernel
theorem d_M_copy_7 : decode b_M_copy 7 = .ok (.iload_n 1, 1) := by decide +kernel
theorem d_M_copy_8 : decode b_M_copy 8 = .ok (.iaload, 1) := by decide +kernel
theorem d_M_copy_9 : decode b_M_copy 9 = .ok (.if_icmp .ge 31, 3) := by decide +kernel
theorem d_M_copy_12 : decode b_M_copy 12 = .ok (.aload_n 0, 1) := by decide +kernel
theorem d_M_copy_13 : decode b_M_copy 13 = .ok (.getfield 7, 3) := by decide +kernel
theorem d_M_copy_16 : decode b_M_copy 16 = .ok (.bipush 40, 2) := by decide +kernel
theorem d_M_copy_18 : decode b_M_copy 18 = .ok (.iload_n 2, 1) := by decide +kernel
theorem d_M_copy_19 : decode b_M_copy 19 = .ok (.imul, 1) := by decide +kernel
theorem d_M_copy_20 : decode b_M_copy 20 = .ok (.iload_n 3, 1) := by decide +kernel
theorem d_M_copy_21 : decode b_M_copy 21 = .ok (.iadd, 1) := by decide +kernel
theorem d_M_copy_22 : decode b_M_copy 22 = .ok (.aload_n 0, 1) := by decide +kernel
theorem d_M_copy_23 : decode b_M_copy 23 = .ok (.getfield 7, 3) := by decide +kernel
theorem d_M_copy_26 : decode b_M_copy 26 = .ok (.bipush 40, 2) := by decide +kernel
theorem d_M_copy_28 : decode b_M_copy 28 = .ok (.iload_n 1, 1) := by decide +kernel
theorem d_M_copy_29 : decode b_M_copy 29 = .ok (.imul, 1) := by decide +kernel
theorem d_M_copy_30 : decode b_M_copy 30 = .ok (.iload_n 3, 1) := by decide +kernel
theorem d_M_copy_31 : decode b_M_copy 31 = .ok (.iadd, 1) := by decide +kernel
theorem d_M_copy_32 : decode b_M_copy 32 = .ok (.iaload, 1) := by decide +kernel
theorem d_M_copy_33 : decode b_M_copy 33 = .ok (.iastore, 1) := by decide +kernel
theorem d_M_copy_34 : decode b_M_copy 34 = .ok (.iinc 3 1, 3) := by decide +kernel
theorem d_M_copy_37 : decode b_M_copy 37 = .ok (.goto (-35), 3) := by decide +kernel
theorem d_M_copy_40 : decode b_M_copy 40 = .ok (.aload_n 0, 1) := by decide +kernel
theorem d_M_copy_41 : decode b_M_copy 41 = .ok (.getfield 13, 3) := by decide +kernel
theorem d_M_copy_44 : decode b_M_copy 44 = .ok (.iload_n 2, 1) := by decide +kernel
theorem d_M_copy_45 : decode b_M_copy 45 = .ok (.aload_n 0, 1) := by decide +kernel
theorem d_M_copy_46 : decode b_M_copy 46 = .ok (.getfield 13, 3) := by decide +kernel
theorem d_M_copy_49 : decode b_M_copy 49 = .ok (.iload_n 1, 1) := by decide +kernel
theorem d_M_copy_50 : decode b_M_copy 50 = .ok (.iaload, 1) := by decide +kernel
theorem d_M_copy_51 : decode b_M_copy 51 = .ok (.iastore, 1) := by decide +kernel
theorem d_M_copy_52 : decode b_M_copy 52 = .ok (.return_, 1) := by decide +kernel
theorem d_M_key_0 : decode b_M_key 0 = .ok (.aload_n 0, 1) := by decide +kernel
theorem d_M_key_1 : decode b_M_key 1 = .ok (.iload_n 1, 1) := by decide +kernel
theorem d_M_key_2 : decode b_M_key 2 = .ok (.invokevirtual 16, 3) := by decide +kernel
theorem d_M_key_5 : decode b_M_key 5 = .ok (.ifCond .ne 5, 3) := by decide +kernel
theorem d_M_key_8 : decode b_M_key 8 = .ok (.iconst (-1), 1) := by decide +kernel
theorem d_M_key_9 : decode b_M_key 9 = .ok (.ireturn, 1) := by decide +kernel
theorem d_M_key_10 : decode b_M_key 10 = .ok (.aload_n 0, 1) := by decide +kernel
theorem d_M_key_11 : decode b_M_key 11 = .ok (.getfield 13, 3) := by decide +kernel
theorem d_M_key_14 : decode b_M_key 14 = .ok (.bipush 10, 2) := by decide +kernel
theorem d_M_key_16 : decode b_M_key 16 = .ok (.iaload, 1) := by decide +kernel
theorem d_M_key_17 : decode b_M_key 17 = .ok (.bipush 40, 2) := by decide +kernel
theorem d_M_key_19 : decode b_M_key 19 = .ok (.if_icmp .ne 6, 3) := by decide +kernel
theorem d_M_key_22 : decode b_M_key 22 = .ok (.bipush (-5), 2) := by decide +kernel
theorem d_M_key_24 : decode b_M_key 24 = .ok (.ireturn, 1) := by decide +kernel
theorem d_M_key_25 : decode b_M_key 25 = .ok (.aload_n 0, 1) := by decide +kernel
theorem d_M_key_26 : decode b_M_key 26 = .ok (.getfield 7, 3) := by decide +kernel
theorem d_M_key_29 : decode b_M_key 29 = .ok (.sipush 400, 3) := by decide +kernel
theorem d_M_key_32 : decode b_M_key 32 = .ok (.aload_n 0, 1) := by decide +kernel
theorem d_M_key_33 : decode b_M_key 33 = .ok (.getfield 13, 3) := by decide +kernel
theorem d_M_key_36 : decode b_M_key 36 = .ok (.bipush 10, 2) := by decide +kernel
theorem d_M_key_38 : decode b_M_key 38 = .ok (.iaload, 1) := by decide +kernel
theorem d_M_key_39 : decode b_M_key 39 = .ok (.iadd, 1) := by decide +kernel
theorem d_M_key_40 : decode b_M_key 40 = .ok (.iload_n 1, 1) := by decide +kernel
theorem d_M_key_41 : decode b_M_key 41 = .ok (.iastore, 1) := by decide +kernel
theorem d_M_key_42 : decode b_M_key 42 = .ok (.aload_n 0, 1) := by decide +kernel
theorem d_M_key_43 : decode b_M_key 43 = .ok (.getfield 13, 3) := by decide +kernel
theorem d_M_key_46 : decode b_M_key 46 = .ok (.bipush 10, 2) := by decide +kernel
theorem d_M_key_48 : decode b_M_key 48 = .ok (.dup2, 1) := by decide +kernel
theorem d_M_key_49 : decode b_M_key 49 = .ok (.iaload, 1) := by decide +kernel
theorem d_M_key_50 : decode b_M_key 50 = .ok (.iconst 1, 1) := by decide +kernel
theorem d_M_key_51 : decode b_M_key 51 = .ok (.iadd, 1) := by decide +kernel
theorem d_M_key_52 : decode b_M_key 52 = .ok (.iastore, 1) := by decide +kernel
theorem d_M_key_53 : decode b_M_key 53 = .ok (.aload_n 0, 1) := by decide +kernel
theorem d_M_key_54 : decode b_M_key 54 = .ok (.getfield 13, 3) := by decide +kernel
theorem d_M_key_57 : decode b_M_key 57 = .ok (.bipush 10, 2) := by decide +kernel
theorem d_M_key_59 : decode b_M_key 59 = .ok (.iaload, 1) := by decide +kernel
theorem d_M_key_60 : decode b_M_key 60 = .ok (.ireturn, 1) := by decide +kernel
theorem d_M_newLine_0 : decode b_M_newLine 0 = .ok (.aload_n 0, 1) := by decide +kernel
theorem d_M_newLine_1 : decode b_M_newLine 1 = .ok (.getfield 13, 3) := by decide +kernel
theorem d_M_newLine_4 : decode b_M_newLine 4 = .ok (.bipush 10, 2) := by decide +kernel
theorem d_M_newLine_6 : decode b_M_newLine 6 = .ok (.iconst 0, 1) := by decide +kernel
theorem d_M_newLine_7 : decode b_M_newLine 7 = .ok (.iastore, 1) := by decide +kernel
theorem d_M_newLine_8 : decode b_M_newLine 8 = .ok (.return_, 1) := by decide +kernel
theorem d_M_pushCopy_0 : decode b_M_pushCopy 0 = .ok (.aload_n 0, 1) := by decide +kernel
theorem d_M_pushCopy_1 : decode b_M_pushCopy 1 = .ok (.getfield 20, 3) := by decide +kernel
theorem d_M_pushCopy_4 : decode b_M_pushCopy 4 = .ok (.iconst 4, 1) := by decide +kernel
theorem d_M_pushCopy_5 : decode b_M_pushCopy 5 = .ok (.if_icmp .eq 19, 3) := by decide +kernel
theorem d_M_pushCopy_8 : decode b_M_pushCopy 8 = .ok (.aload_n 0, 1) := by decide +kernel
theorem d_M_pushCopy_9 : decode b_M_pushCopy 9 = .ok (.invokevirtual 24, 3) := by decide +kernel
theorem d_M_pushCopy_12 : decode b_M_pushCopy 12 = .ok (.aload_n 0, 1) := by decide +kernel
theorem d_M_pushCopy_13 : decode b_M_pushCopy 13 = .ok (.getfield 13, 3) := by decide +kernel
theorem d_M_pushCopy_16 : decode b_M_pushCopy 16 = .ok (.iload_n 1, 1) := by decide +kernel
theorem d_M_pushCopy_17 : decode b_M_pushCopy 17 = .ok (.iaload, 1) := by decide +kernel
theorem d_M_pushCopy_18 : decode b_M_pushCopy 18 = .ok (.iadd, 1) := by decide +kernel
theorem d_M_pushCopy_19 : decode b_M_pushCopy 19 = .ok (.bipush 100, 2) := by decide +kernel
theorem d_M_pushCopy_21 : decode b_M_pushCopy 21 = .ok (.if_icmp .le 6, 3) := by decide +kernel
theorem d_M_pushCopy_24 : decode b_M_pushCopy 24 = .ok (.bipush (-2), 2) := by decide +kernel
theorem d_M_pushCopy_26 : decode b_M_pushCopy 26 = .ok (.ireturn, 1) := by decide +kernel
theorem d_M_pushCopy_27 : decode b_M_pushCopy 27 = .ok (.aload_n 0, 1) := by decide +kernel
theorem d_M_pushCopy_28 : decode b_M_pushCopy 28 = .ok (.iload_n 1, 1) := by decide +kernel
theorem d_M_pushCopy_29 : decode b_M_pushCopy 29 = .ok (.bipush 6, 2) := by decide +kernel
theorem d_M_pushCopy_31 : decode b_M_pushCopy 31 = .ok (.aload_n 0, 1) := by decide +kernel
theorem d_M_pushCopy_32 : decode b_M_pushCopy 32 = .ok (.getfield 20, 3) := by decide +kernel
theorem d_M_pushCopy_35 : decode b_M_pushCopy 35 = .ok (.iadd, 1) := by decide +kernel
theorem d_M_pushCopy_36 : decode b_M_pushCopy 36 = .ok (.invokevirtual 28, 3) := by decide +kernel
theorem d_M_pushCopy_39 : decode b_M_pushCopy 39 = .ok (.aload_n 0, 1) := by decide +kernel
theorem d_M_pushCopy_40 : decode b_M_pushCopy 40 = .ok (.dup, 1) := by decide +kernel
theorem d_M_pushCopy_41 : decode b_M_pushCopy 41 = .ok (.getfield 20, 3) := by decide +kernel
theorem d_M_pushCopy_44 : decode b_M_pushCopy 44 = .ok (.iconst 1, 1) := by decide +kernel
theorem d_M_pushCopy_45 : decode b_M_pushCopy 45 = .ok (.iadd, 1) := by decide +kernel
theorem d_M_pushCopy_46 : decode b_M_pushCopy 46 = .ok (.putfield 20, 3) := by decide +kernel
theorem d_M_pushCopy_49 : decode b_M_pushCopy 49 = .ok (.aload_n 0, 1) := by decide +kernel
theorem d_M_pushCopy_50 : decode b_M_pushCopy 50 = .ok (.getfield 13, 3) := by decide +kernel
theorem d_M_pushCopy_53 : decode b_M_pushCopy 53 = .ok (.iload_n 1, 1) := by decide +kernel
theorem d_M_pushCopy_54 : decode b_M_pushCopy 54 = .ok (.iaload, 1) := by decide +kernel
theorem d_M_pushCopy_55 : decode b_M_pushCopy 55 = .ok (.ireturn, 1) := by decide +kernel
theorem d_M_literal_0 : decode b_M_literal 0 = .ok (.aload_n 0, 1) := by decide +kernel
theorem d_M_literal_1 : decode b_M_literal 1 = .ok (.bipush 10, 2) := by decide +kernel
theorem d_M_literal_3 : decode b_M_literal 3 = .ok (.invokevirtual 32, 3) := by decide +kernel
theorem d_M_literal_6 : decode b_M_literal 6 = .ok (.ireturn, 1) := by decide +kernel
theorem d_M_push_0 : decode b_M_push 0 = .ok (.aload_n 0, 1) := by decide +kernel
theorem d_M_push_1 : decode b_M_push 1 = .ok (.iload_n 1, 1) := by decide +kernel
theorem d_M_push_2 : decode b_M_push 2 = .ok (.invokevirtual 36, 3) := by decide +kernel
theorem d_M_push_5 : decode b_M_push 5 = .ok (.ifCond .eq 11, 3) := by decide +kernel
theorem d_M_push_8 : decode b_M_push 8 = .ok (.aload_n 0, 1) := by decide +kernel
theorem d_M_push_9 : decode b_M_push 9 = .ok (.iload_n 1, 1) := by decide +kernel
theorem d_M_push_10 : decode b_M_push 10 = .ok (.invokevirtual 32, 3) := by decide +kernel
theorem d_M_push_13 : decode b_M_push 13 = .ok (.goto 4, 3) := by decide +kernel
theorem d_M_push_16 : decode b_M_push 16 = .ok (.iconst (-1), 1) := by decide +kernel
theorem d_M_push_17 : decode b_M_push 17 = .ok (.ireturn, 1) := by decide +kernel
theorem d_M_let_0 : decode b_M_let 0 = .ok (.aload_n 0, 1) := by decide +kernel
theorem d_M_let_1 : decode b_M_let 1 = .ok (.iload_n 1, 1) := by decide +kernel
theorem d_M_let_2 : decode b_M_let 2 = .ok (.invokevirtual 36, 3) := by decide +kernel
theorem d_M_let_5 : decode b_M_let 5 = .ok (.ifCond .ne 5, 3) := by decide +kernel
theorem d_M_let_8 : decode b_M_let 8 = .ok (.iconst (-1), 1) := by decide +kernel
theorem d_M_let_9 : decode b_M_let 9 = .ok (.ireturn, 1) := by decide +kernel
theorem d_M_let_10 : decode b_M_let 10 = .ok (.aload_n 0, 1) := by decide +kernel
theorem d_M_let_11 : decode b_M_let 11 = .ok (.getfield 20, 3) := by decide +kernel
theorem d_M_let_14 : decode b_M_let 14 = .ok (.ifCond .ne 6, 3) := by decide +kernel
theorem d_M_let_17 : decode b_M_let 17 = .ok (.bipush (-3), 2) := by decide +kernel
theorem d_M_let_19 : decode b_M_let 19 = .ok (.ireturn, 1) := by decide +kernel
theorem d_M_let_20 : decode b_M_let 20 = .ok (.aload_n 0, 1) := by decide +kernel
theorem d_M_let_21 : decode b_M_let 21 = .ok (.iconst 5, 1) := by decide +kernel
theorem d_M_let_22 : decode b_M_let 22 = .ok (.aload_n 0, 1) := by decide +kernel
theorem d_M_let_23 : decode b_M_let 23 = .ok (.getfield 20, 3) := by decide +kernel
theorem d_M_let_26 : decode b_M_let 26 = .ok (.iadd, 1) := by decide +kernel
theorem d_M_let_27 : decode b_M_let 27 = .ok (.iload_n 1, 1) := by decide +kernel
theorem d_M_let_28 : decode b_M_let 28 = .ok (.invokevirtual 28, 3) := by decide +kernel
theorem d_M_let_31 : decode b_M_let 31 = .ok (.aload_n 0, 1) := by decide +kernel
theorem d_M_let_32 : decode b_M_let 32 = .ok (.dup, 1) := by decide +kernel
theorem d_M_let_33 : decode b_M_let 33 = .ok (.getfield 20, 3) := by decide +kernel
theorem d_M_let_36 : decode b_M_let 36 = .ok (.iconst 1, 1) := by decide +kernel
theorem d_M_let_37 : decode b_M_let 37 = .ok (.isub, 1) := by decide +kernel
theorem d_M_let_38 : decode b_M_let 38 = .ok (.putfield 20, 3) := by decide +kernel
theorem d_M_let_41 : decode b_M_let 41 = .ok (.aload_n 0, 1) := by decide +kernel
theorem d_M_let_42 : decode b_M_let 42 = .ok (.getfield 13, 3) := by decide +kernel
theorem d_M_let_45 : decode b_M_let 45 = .ok (.iload_n 1, 1) := by decide +kernel
theorem d_M_let_46 : decode b_M_let 46 = .ok (.iaload, 1) := by decide +kernel
theorem d_M_let_47 : decode b_M_let 47 = .ok (.ireturn, 1) := by decide +kernel
theorem d_M_drop_0 : decode b_M_drop 0 = .ok (.aload_n 0, 1) := by decide +kernel
theorem d_M_drop_1 : decode b_M_drop 1 = .ok (.getfield 20, 3) := by decide +kernel
theorem d_M_drop_4 : decode b_M_drop 4 = .ok (.ifCond .ne 6, 3) := by decide +kernel
theorem d_M_drop_7 : decode b_M_drop 7 = .ok (.bipush (-3), 2) := by decide +kernel
theorem d_M_drop_9 : decode b_M_drop 9 = .ok (.ireturn, 1) := by decide +kernel
theorem d_M_drop_10 : decode b_M_drop 10 = .ok (.aload_n 0, 1) := by decide +kernel
theorem d_M_drop_11 : decode b_M_drop 11 = .ok (.dup, 1) := by decide +kernel
theorem d_M_drop_12 : decode b_M_drop 12 = .ok (.getfield 20, 3) := by decide +kernel
theorem d_M_drop_15 : decode b_M_drop 15 = .ok (.iconst 1, 1) := by decide +kernel
theorem d_M_drop_16 : decode b_M_drop 16 = .ok (.isub, 1) := by decide +kernel
theorem d_M_drop_17 : decode b_M_drop 17 = .ok (.putfield 20, 3) := by decide +kernel
theorem d_M_drop_20 : decode b_M_drop 20 = .ok (.aload_n 0, 1) := by decide +kernel
theorem d_M_drop_21 : decode b_M_drop 21 = .ok (.getfield 13, 3) := by decide +kernel
theorem d_M_drop_24 : decode b_M_drop 24 = .ok (.bipush 6, 2) := by decide +kernel
theorem d_M_drop_26 : decode b_M_drop 26 = .ok (.aload_n 0, 1) := by decide +kernel
theorem d_M_drop_27 : decode b_M_drop 27 = .ok (.getfield 20, 3) := by decide +kernel
theorem d_M_drop_30 : decode b_M_drop 30 = .ok (.iadd, 1) := by decide +kernel
theorem d_M_drop_31 : decode b_M_drop 31 = .ok (.iaload, 1) := by decide +kernel
theorem d_M_drop_32 : decode b_M_drop 32 = .ok (.ireturn, 1) := by decide +kernel
theorem d_M_join_0 : decode b_M_join 0 = .ok (.aload_n 0, 1) := by decide +kernel
theorem d_M_join_1 : decode b_M_join 1 = .ok (.getfield 20, 3) := by decide +kernel
theorem d_M_join_4 : decode b_M_join 4 = .ok (.iconst 2, 1) := by decide +kernel
theorem d_M_join_5 : decode b_M_join 5 = .ok (.if_icmp .ge 6, 3) := by decide +kernel
theorem d_M_join_8 : decode b_M_join 8 = .ok (.bipush (-3), 2) := by decide +kernel
theorem d_M_join_10 : decode b_M_join 10 = .ok (.ireturn, 1) := by decide +kernel
theorem d_M_join_11 : decode b_M_join 11 = .ok (.iconst 5, 1) := by decide +kernel
theorem d_M_join_12 : decode b_M_join 12 = .ok (.aload_n 0, 1) := by decide +kernel
theorem d_M_join_13 : decode b_M_join 13 = .ok (.getfield 20, 3) := by decide +kernel
theorem d_M_join_16 : decode b_M_join 16 = .ok (.iadd, 1) := by decide +kernel
theorem d_M_join_17 : decode b_M_join 17 = .ok (.istore_n 1, 1) := by decide +kernel
theorem d_M_join_18 : decode b_M_join 18 = .ok (.iload_n 1, 1) := by decide +kernel
theorem d_M_join_19 : decode b_M_join 19 = .ok (.iconst 1, 1) := by decide +kernel
theorem d_M_join_20 : decode b_M_join 20 = .ok (.isub, 1) := by decide +kernel
theorem d_M_join_21 : decode b_M_join 21 = .ok (.istore_n 2, 1) := by decide +kernel
theorem d_M_join_22 : decode b_M_join 22 = .ok (.aload_n 0, 1) := by decide +kernel
theorem d_M_join_23 : decode b_M_join 23 = .ok (.getfield 13, 3) := by decide +kernel
theorem d_M_join_26 : decode b_M_join 26 = .ok (.iload_n 2, 1) := by decide +kernel
theorem d_M_join_27 : decode b_M_join 27 = .ok (.iaload, 1) := by decide +kernel
theorem d_M_join_28 : decode b_M_join 28 = .ok (.aload_n 0, 1) := by decide +kernel
theorem d_M_join_29 : decode b_M_join 29 = .ok (.getfield 13, 3) := by decide +kernel
theorem d_M_join_32 : decode b_M_join 32 = .ok (.iload_n 1, 1) := by decide +kernel
theorem d_M_join_33 : decode b_M_join 33 = .ok (.iaload, 1) := by decide +kernel
theorem d_M_join_34 : decode b_M_join 34 = .ok (.iadd, 1) := by decide +kernel
theorem d_M_join_35 : decode b_M_join 35 = .ok (.istore_n 3, 1) := by decide +kernel
theorem d_M_join_36 : decode b_M_join 36 = .ok (.iload_n 3, 1) := by decide +kernel
theorem d_M_join_37 : decode b_M_join 37 = .ok (.bipush 40, 2) := by decide +kernel
theorem d_M_join_39 : decode b_M_join 39 = .ok (.if_icmp .le 6, 3) := by decide +kernel
theorem d_M_join_42 : decode b_M_join 42 = .ok (.bipush (-5), 2) := by decide +kernel
theorem d_M_join_44 : decode b_M_join 44 = .ok (.ireturn, 1) := by decide +kernel
theorem d_M_join_45 : decode b_M_join 45 = .ok (.iconst 0, 1) := by decide +kernel
theorem d_M_join_46 : decode b_M_join 46 = .ok (.istore 4, 2) := by decide +kernel
theorem d_M_join_48 : decode b_M_join 48 = .ok (.iload 4, 2) := by decide +kernel
theorem d_M_join_50 : decode b_M_join 50 = .ok (.aload_n 0, 1) := by decide +kernel
theorem d_M_join_51 : decode b_M_join 51 = .ok (.getfield 13, 3) := by decide +kernel
theorem d_M_join_54 : decode b_M_join 54 = .ok (.iload_n 1, 1) := by decide +kernel
theorem d_M_join_55 : decode b_M_join 55 = .ok (.iaload, 1) := by decide +kernel
theorem d_M_join_56 : decode b_M_join 56 = .ok (.if_icmp .ge 40, 3) := by decide +kernel
theorem d_M_join_59 : decode b_M_join 59 = .ok (.aload_n 0, 1) := by decide +kernel
theorem d_M_join_60 : decode b_M_join 60 = .ok (.getfield 7, 3) := by decide +kernel
theorem d_M_join_63 : decode b_M_join 63 = .ok (.bipush 40, 2) := by decide +kernel
theorem d_M_join_65 : decode b_M_join 65 = .ok (.iload_n 2, 1) := by decide +kernel
theorem d_M_join_66 : decode b_M_join 66 = .ok (.imul, 1) := by decide +kernel
theorem d_M_join_67 : decode b_M_join 67 = .ok (.aload_n 0, 1) := by decide +kernel
theorem d_M_join_68 : decode b_M_join 68 = .ok (.getfield 13, 3) := by decide +kernel
theorem d_M_join_71 : decode b_M_join 71 = .ok (.iload_n 2, 1) := by decide +kernel
theorem d_M_join_72 : decode b_M_join 72 = .ok (.iaload, 1) := by decide +kernel
theorem d_M_join_73 : decode b_M_join 73 = .ok (.iadd, 1) := by decide +kernel
theorem d_M_join_74 : decode b_M_join 74 = .ok (.iload 4, 2) := by decide +kernel
theorem d_M_join_76 : decode b_M_join 76 = .ok (.iadd, 1) := by decide +kernel
theorem d_M_join_77 : decode b_M_join 77 = .ok (.aload_n 0, 1) := by decide +kernel
theorem d_M_join_78 : decode b_M_join 78 = .ok (.getfield 7, 3) := by decide +kernel
theorem d_M_join_81 : decode b_M_join 81 = .ok (.bipush 40, 2) := by decide +kernel
theorem d_M_join_83 : decode b_M_join 83 = .ok (.iload_n 1, 1) := by decide +kernel
theorem d_M_join_84 : decode b_M_join 84 = .ok (.imul, 1) := by decide +kernel
theorem d_M_join_85 : decode b_M_join 85 = .ok (.iload 4, 2) := by decide +kernel
theorem d_M_join_87 : decode b_M_join 87 = .ok (.iadd, 1) := by decide +kernel
theorem d_M_join_88 : decode b_M_join 88 = .ok (.iaload, 1) := by decide +kernel
theorem d_M_join_89 : decode b_M_join 89 = .ok (.iastore, 1) := by decide +kernel
theorem d_M_join_90 : decode b_M_join 90 = .ok (.iinc 4 1, 3) := by decide +kernel
theorem d_M_join_93 : decode b_M_join 93 = .ok (.goto (-45), 3) := by decide +kernel
theorem d_M_join_96 : decode b_M_join 96 = .ok (.aload_n 0, 1) := by decide +kernel
theorem d_M_join_97 : decode b_M_join 97 = .ok (.getfield 13, 3) := by decide +kernel
theorem d_M_join_100 : decode b_M_join 100 = .ok (.iload_n 2, 1) := by decide +kernel
theorem d_M_join_101 : decode b_M_join 101 = .ok (.iload_n 3, 1) := by decide +kernel
theorem d_M_join_102 : decode b_M_join 102 = .ok (.iastore, 1) := by decide +kernel
theorem d_M_join_103 : decode b_M_join 103 = .ok (.aload_n 0, 1) := by decide +kernel
theorem d_M_join_104 : decode b_M_join 104 = .ok (.dup, 1) := by decide +kernel
theorem d_M_join_105 : decode b_M_join 105 = .ok (.getfield 20, 3) := by decide +kernel
theorem d_M_join_108 : decode b_M_join 108 = .ok (.iconst 1, 1) := by decide +kernel
theorem d_M_join_109 : decode b_M_join 109 = .ok (.isub, 1) := by decide +kernel
theorem d_M_join_110 : decode b_M_join 110 = .ok (.putfield 20, 3) := by decide +kernel
theorem d_M_join_113 : decode b_M_join 113 = .ok (.iload_n 3, 1) := by decide +kernel
theorem d_M_join_114 : decode b_M_join 114 = .ok (.ireturn, 1) := by decide +kernel
theorem d_M_cut_0 : decode b_M_cut 0 = .ok (.iconst 5, 1) := by decide +kernel
theorem d_M_cut_1 : decode b_M_cut 1 = .ok (.aload_n 0, 1) := by decide +kernel
theorem d_M_cut_2 : decode b_M_cut 2 = .ok (.getfield 20, 3) := by decide +kernel
theorem d_M_cut_5 : decode b_M_cut 5 = .ok (.iadd, 1) := by decide +kernel
theorem d_M_cut_6 : decode b_M_cut 6 = .ok (.istore_n 3, 1) := by decide +kernel
theorem d_M_cut_7 : decode b_M_cut 7 = .ok (.aload_n 0, 1) := by decide +kernel
theorem d_M_cut_8 : decode b_M_cut 8 = .ok (.getfield 13, 3) := by decide +kernel
theorem d_M_cut_11 : decode b_M_cut 11 = .ok (.iload_n 3, 1) := by decide +kernel
theorem d_M_cut_12 : decode b_M_cut 12 = .ok (.iaload, 1) := by decide +kernel
theorem d_M_cut_13 : decode b_M_cut 13 = .ok (.iload_n 1, 1) := by decide +kernel
theorem d_M_cut_14 : decode b_M_cut 14 = .ok (.isub, 1) := by decide +kernel
theorem d_M_cut_15 : decode b_M_cut 15 = .ok (.istore 4, 2) := by decide +kernel
theorem d_M_cut_17 : decode b_M_cut 17 = .ok (.iload 4, 2) := by decide +kernel
theorem d_M_cut_19 : decode b_M_cut 19 = .ok (.ifCond .ge 7, 3) := by decide +kernel
theorem d_M_cut_22 : decode b_M_cut 22 = .ok (.iconst 0, 1) := by decide +kernel
theorem d_M_cut_23 : decode b_M_cut 23 = .ok (.goto 15, 3) := by decide +kernel
theorem d_M_cut_26 : decode b_M_cut 26 = .ok (.iload 4, 2) := by decide +kernel
theorem d_M_cut_28 : decode b_M_cut 28 = .ok (.iload_n 2, 1) := by decide +kernel
theorem d_M_cut_29 : decode b_M_cut 29 = .ok (.if_icmp .ge 8, 3) := by decide +kernel
theorem d_M_cut_32 : decode b_M_cut 32 = .ok (.iload 4, 2) := by decide +kernel
theorem d_M_cut_34 : decode b_M_cut 34 = .ok (.goto 4, 3) := by decide +kernel
theorem d_M_cut_37 : decode b_M_cut 37 = .ok (.iload_n 2, 1) := by decide +kernel
theorem d_M_cut_38 : decode b_M_cut 38 = .ok (.istore 5, 2) := by decide +kernel
theorem d_M_cut_40 : decode b_M_cut 40 = .ok (.iconst 0, 1) := by decide +kernel
theorem d_M_cut_41 : decode b_M_cut 41 = .ok (.istore 6, 2) := by decide +kernel
theorem d_M_cut_43 : decode b_M_cut 43 = .ok (.iload 6, 2) := by decide +kernel
theorem d_M_cut_45 : decode b_M_cut 45 = .ok (.iload 5, 2) := by decide +kernel
theorem d_M_cut_47 : decode b_M_cut 47 = .ok (.if_icmp .ge 35, 3) := by decide +kernel
theorem d_M_cut_50 : decode b_M_cut 50 = .ok (.aload_n 0, 1) := by decide +kernel
theorem d_M_cut_51 : decode b_M_cut 51 = .ok (.getfield 7, 3) := by decide +kernel
theorem d_M_cut_54 : decode b_M_cut 54 = .ok (.bipush 40, 2) := by decide +kernel
theorem d_M_cut_56 : decode b_M_cut 56 = .ok (.iload_n 3, 1) := by decide +kernel
theorem d_M_cut_57 : decode b_M_cut 57 = .ok (.imul, 1) := by decide +kernel
theorem d_M_cut_58 : decode b_M_cut 58 = .ok (.iload 6, 2) := by decide +kernel
theorem d_M_cut_60 : decode b_M_cut 60 = .ok (.iadd, 1) := by decide +kernel
theorem d_M_cut_61 : decode b_M_cut 61 = .ok (.aload_n 0, 1) := by decide +kernel
theorem d_M_cut_62 : decode b_M_cut 62 = .ok (.getfield 7, 3) := by decide +kernel
theorem d_M_cut_65 : decode b_M_cut 65 = .ok (.bipush 40, 2) := by decide +kernel
theorem d_M_cut_67 : decode b_M_cut 67 = .ok (.iload_n 3, 1) := by decide +kernel
theorem d_M_cut_68 : decode b_M_cut 68 = .ok (.imul, 1) := by decide +kernel
theorem d_M_cut_69 : decode b_M_cut 69 = .ok (.iload_n 1, 1) := by decide +kernel
theorem d_M_cut_70 : decode b_M_cut 70 = .ok (.iadd, 1) := by decide +kernel
theorem d_M_cut_71 : decode b_M_cut 71 = .ok (.iload 6, 2) := by decide +kernel
theorem d_M_cut_73 : decode b_M_cut 73 = .ok (.iadd, 1) := by decide +kernel
theorem d_M_cut_74 : decode b_M_cut 74 = .ok (.iaload, 1) := by decide +kernel
theorem d_M_cut_75 : decode b_M_cut 75 = .ok (.iastore, 1) := by decide +kernel
theorem d_M_cut_76 : decode b_M_cut 76 = .ok (.iinc 6 1, 3) := by decide +kernel
theorem d_M_cut_79 : decode b_M_cut 79 = .ok (.goto (-36), 3) := by decide +kernel
theorem d_M_cut_82 : decode b_M_cut 82 = .ok (.aload_n 0, 1) := by decide +kernel
theorem d_M_cut_83 : decode b_M_cut 83 = .ok (.getfield 13, 3) := by decide +kernel
theorem d_M_cut_86 : decode b_M_cut 86 = .ok (.iload_n 3, 1) := by decide +kernel
theorem d_M_cut_87 : decode b_M_cut 87 = .ok (.iload 5, 2) := by decide +kernel
theorem d_M_cut_89 : decode b_M_cut 89 = .ok (.iastore, 1) := by decide +kernel
theorem d_M_cut_90 : decode b_M_cut 90 = .ok (.iload 5, 2) := by decide +kernel
theorem d_M_cut_92 : decode b_M_cut 92 = .ok (.ireturn, 1) := by decide +kernel
theorem d_M_left_0 : decode b_M_left 0 = .ok (.aload_n 0, 1) := by decide +kernel
theorem d_M_left_1 : decode b_M_left 1 = .ok (.iload_n 1, 1) := by decide +kernel
theorem d_M_left_2 : decode b_M_left 2 = .ok (.invokevirtual 16, 3) := by decide +kernel
theorem d_M_left_5 : decode b_M_left 5 = .ok (.ifCond .ne 5, 3) := by decide +kernel
theorem d_M_left_8 : decode b_M_left 8 = .ok (.iconst (-1), 1) := by decide +kernel
theorem d_M_left_9 : decode b_M_left 9 = .ok (.ireturn, 1) := by decide +kernel
theorem d_M_left_10 : decode b_M_left 10 = .ok (.aload_n 0, 1) := by decide +kernel
theorem d_M_left_11 : decode b_M_left 11 = .ok (.getfield 20, 3) := by decide +kernel
theorem d_M_left_14 : decode b_M_left 14 = .ok (.ifCond .ne 8, 3) := by decide +kernel
theorem d_M_left_17 : decode b_M_left 17 = .ok (.bipush (-3), 2) := by decide +kernel
theorem d_M_left_19 : decode b_M_left 19 = .ok (.goto 9, 3) := by decide +kernel
theorem d_M_left_22 : decode b_M_left 22 = .ok (.aload_n 0, 1) := by decide +kernel
theorem d_M_left_23 : decode b_M_left 23 = .ok (.iconst 0, 1) := by decide +kernel
theorem d_M_left_24 : decode b_M_left 24 = .ok (.iload_n 1, 1) := by decide +kernel
theorem d_M_left_25 : decode b_M_left 25 = .ok (.invokevirtual 39, 3) := by decide +kernel
theorem d_M_left_28 : decode b_M_left 28 = .ok (.ireturn, 1) := by decide +kernel
theorem d_M_right_0 : decode b_M_right 0 = .ok (.aload_n 0, 1) := by decide +kernel
theorem d_M_right_1 : decode b_M_right 1 = .ok (.iload_n 1, 1) := by decide +kernel
theorem d_M_right_2 : decode b_M_right 2 = .ok (.invokevirtual 16, 3) := by decide +kernel
theorem d_M_right_5 : decode b_M_right 5 = .ok (.ifCond .ne 5, 3) := by decide +kernel
theorem d_M_right_8 : decode b_M_right 8 = .ok (.iconst (-1), 1) := by decide +kernel
theorem d_M_right_9 : decode b_M_right 9 = .ok (.ireturn, 1) := by decide +kernel
theorem d_M_right_10 : decode b_M_right 10 = .ok (.aload_n 0, 1) := by decide +kernel
theorem d_M_right_11 : decode b_M_right 11 = .ok (.getfield 20, 3) := by decide +kernel
theorem d_M_right_14 : decode b_M_right 14 = .ok (.ifCond .ne 6, 3) := by decide +kernel
theorem d_M_right_17 : decode b_M_right 17 = .ok (.bipush (-3), 2) := by decide +kernel
theorem d_M_right_19 : decode b_M_right 19 = .ok (.ireturn, 1) := by decide +kernel
theorem d_M_right_20 : decode b_M_right 20 = .ok (.aload_n 0, 1) := by decide +kernel
theorem d_M_right_21 : decode b_M_right 21 = .ok (.getfield 13, 3) := by decide +kernel
theorem d_M_right_24 : decode b_M_right 24 = .ok (.iconst 5, 1) := by decide +kernel
theorem d_M_right_25 : decode b_M_right 25 = .ok (.aload_n 0, 1) := by decide +kernel
theorem d_M_right_26 : decode b_M_right 26 = .ok (.getfield 20, 3) := by decide +kernel
theorem d_M_right_29 : decode b_M_right 29 = .ok (.iadd, 1) := by decide +kernel
theorem d_M_right_30 : decode b_M_right 30 = .ok (.iaload, 1) := by decide +kernel
theorem d_M_right_31 : decode b_M_right 31 = .ok (.istore_n 2, 1) := by decide +kernel
theorem d_M_right_32 : decode b_M_right 32 = .ok (.iload_n 1, 1) := by decide +kernel
theorem d_M_right_33 : decode b_M_right 33 = .ok (.iload_n 2, 1) := by decide +kernel
theorem d_M_right_34 : decode b_M_right 34 = .ok (.if_icmp .lt 7, 3) := by decide +kernel
theorem d_M_right_37 : decode b_M_right 37 = .ok (.iload_n 2, 1) := by decide +kernel
theorem d_M_right_38 : decode b_M_right 38 = .ok (.goto 11, 3) := by decide +kernel
theorem d_M_right_41 : decode b_M_right 41 = .ok (.aload_n 0, 1) := by decide +kernel
theorem d_M_right_42 : decode b_M_right 42 = .ok (.iload_n 2, 1) := by decide +kernel
theorem d_M_right_43 : decode b_M_right 43 = .ok (.iload_n 1, 1) := by decide +kernel
theorem d_M_right_44 : decode b_M_right 44 = .ok (.isub, 1) := by decide +kernel
theorem d_M_right_45 : decode b_M_right 45 = .ok (.iload_n 1, 1) := by decide +kernel
theorem d_M_right_46 : decode b_M_right 46 = .ok (.invokevirtual 39, 3) := by decide +kernel
theorem d_M_right_49 : decode b_M_right 49 = .ok (.ireturn, 1) := by decide +kernel
theorem d_M_mid_0 : decode b_M_mid 0 = .ok (.iload_n 1, 1) := by decide +kernel
theorem d_M_mid_1 : decode b_M_mid 1 = .ok (.iconst 1, 1) := by decide +kernel
theorem d_M_mid_2 : decode b_M_mid 2 = .ok (.if_icmp .lt 18, 3) := by decide +kernel
theorem d_M_mid_5 : decode b_M_mid 5 = .ok (.iload_n 1, 1) := by decide +kernel
theorem d_M_mid_6 : decode b_M_mid 6 = .ok (.sipush 255, 3) := by decide +kernel
theorem d_M_mid_9 : decode b_M_mid 9 = .ok (.if_icmp .gt 11, 3) := by decide +kernel
theorem d_M_mid_12 : decode b_M_mid 12 = .ok (.aload_n 0, 1) := by decide +kernel
theorem d_M_mid_13 : decode b_M_mid 13 = .ok (.iload_n 2, 1) := by decide +kernel
theorem d_M_mid_14 : decode b_M_mid 14 = .ok (.invokevirtual 16, 3) := by decide +kernel
theorem d_M_mid_17 : decode b_M_mid 17 = .ok (.ifCond .ne 5, 3) := by decide +kernel
theorem d_M_mid_20 : decode b_M_mid 20 = .ok (.iconst (-1), 1) := by decide +kernel
theorem d_M_mid_21 : decode b_M_mid 21 = .ok (.ireturn, 1) := by decide +kernel
theorem d_M_mid_22 : decode b_M_mid 22 = .ok (.aload_n 0, 1) := by decide +kernel
theorem d_M_mid_23 : decode b_M_mid 23 = .ok (.getfield 20, 3) := by decide +kernel
theorem d_M_mid_26 : decode b_M_mid 26 = .ok (.ifCond .ne 8, 3) := by decide +kernel
theorem d_M_mid_29 : decode b_M_mid 29 = .ok (.bipush (-3), 2) := by decide +kernel
theorem d_M_mid_31 : decode b_M_mid 31 = .ok (.goto 11, 3) := by decide +kernel
theorem d_M_mid_34 : decode b_M_mid 34 = .ok (.aload_n 0, 1) := by decide +kernel
theorem d_M_mid_35 : decode b_M_mid 35 = .ok (.iload_n 1, 1) := by decide +kernel
theorem d_M_mid_36 : decode b_M_mid 36 = .ok (.iconst 1, 1) := by decide +kernel
theorem d_M_mid_37 : decode b_M_mid 37 = .ok (.isub, 1) := by decide +kernel
theorem d_M_mid_38 : decode b_M_mid 38 = .ok (.iload_n 2, 1) := by decide +kernel
theorem d_M_mid_39 : decode b_M_mid 39 = .ok (.invokevirtual 39, 3) := by decide +kernel
theorem d_M_mid_42 : decode b_M_mid 42 = .ok (.ireturn, 1) := by decide +kernel
theorem d_M_repeat_0 : decode b_M_repeat 0 = .ok (.aload_n 0, 1) := by decide +kernel
theorem d_M_repeat_1 : decode b_M_repeat 1 = .ok (.iload_n 1, 1) := by decide +kernel
theorem d_M_repeat_2 : decode b_M_repeat 2 = .ok (.invokevirtual 16, 3) := by decide +kernel
theorem d_M_repeat_5 : decode b_M_repeat 5 = .ok (.ifCond .eq 11, 3) := by decide +kernel
theorem d_M_repeat_8 : decode b_M_repeat 8 = .ok (.aload_n 0, 1) := by decide +kernel
theorem d_M_repeat_9 : decode b_M_repeat 9 = .ok (.iload_n 2, 1) := by decide +kernel
theorem d_M_repeat_10 : decode b_M_repeat 10 = .ok (.invokevirtual 16, 3) := by decide +kernel
theorem d_M_repeat_13 : decode b_M_repeat 13 = .ok (.ifCond .ne 5, 3) := by decide +kernel
theorem d_M_repeat_16 : decode b_M_repeat 16 = .ok (.iconst (-1), 1) := by decide +kernel
theorem d_M_repeat_17 : decode b_M_repeat 17 = .ok (.ireturn, 1) := by decide +kernel
theorem d_M_repeat_18 : decode b_M_repeat 18 = .ok (.aload_n 0, 1) := by decide +kernel
theorem d_M_repeat_19 : decode b_M_repeat 19 = .ok (.getfield 20, 3) := by decide +kernel
theorem d_M_repeat_22 : decode b_M_repeat 22 = .ok (.iconst 4, 1) := by decide +kernel
theorem d_M_repeat_23 : decode b_M_repeat 23 = .ok (.if_icmp .ne 6, 3) := by decide +kernel
theorem d_M_repeat_26 : decode b_M_repeat 26 = .ok (.bipush (-2), 2) := by decide +kernel
theorem d_M_repeat_28 : decode b_M_repeat 28 = .ok (.ireturn, 1) := by decide +kernel
theorem d_M_repeat_29 : decode b_M_repeat 29 = .ok (.iload_n 1, 1) := by decide +kernel
theorem d_M_repeat_30 : decode b_M_repeat 30 = .ok (.bipush 40, 2) := by decide +kernel
theorem d_M_repeat_32 : decode b_M_repeat 32 = .ok (.if_icmp .le 6, 3) := by decide +kernel
theorem d_M_repeat_35 : decode b_M_repeat 35 = .ok (.bipush (-5), 2) := by decide +kernel
theorem d_M_repeat_37 : decode b_M_repeat 37 = .ok (.ireturn, 1) := by decide +kernel
theorem d_M_repeat_38 : decode b_M_repeat 38 = .ok (.aload_n 0, 1) := by decide +kernel
theorem d_M_repeat_39 : decode b_M_repeat 39 = .ok (.invokevirtual 24, 3) := by decide +kernel
theorem d_M_repeat_42 : decode b_M_repeat 42 = .ok (.iload_n 1, 1) := by decide +kernel
theorem d_M_repeat_43 : decode b_M_repeat 43 = .ok (.iadd, 1) := by decide +kernel
theorem d_M_repeat_44 : decode b_M_repeat 44 = .ok (.bipush 100, 2) := by decide +kernel
theorem d_M_repeat_46 : decode b_M_repeat 46 = .ok (.if_icmp .le 6, 3) := by decide +kernel
theorem d_M_repeat_49 : decode b_M_repeat 49 = .ok (.bipush (-2), 2) := by decide +kernel
theorem d_M_repeat_51 : decode b_M_repeat 51 = .ok (.ireturn, 1) := by decide +kernel
theorem d_M_repeat_52 : decode b_M_repeat 52 = .ok (.bipush 6, 2) := by decide +kernel
theorem d_M_repeat_54 : decode b_M_repeat 54 = .ok (.aload_n 0, 1) := by decide +kernel
theorem d_M_repeat_55 : decode b_M_repeat 55 = .ok (.getfield 20, 3) := by decide +kernel
theorem d_M_repeat_58 : decode b_M_repeat 58 = .ok (.iadd, 1) := by decide +kernel
theorem d_M_repeat_59 : decode b_M_repeat 59 = .ok (.istore_n 3, 1) := by decide +kernel
theorem d_M_repeat_60 : decode b_M_repeat 60 = .ok (.iconst 0, 1) := by decide +kernel
theorem d_M_repeat_61 : decode b_M_repeat 61 = .ok (.istore 4, 2) := by decide +kernel
theorem d_M_repeat_63 : decode b_M_repeat 63 = .ok (.iload 4, 2) := by decide +kernel
theorem d_M_repeat_65 : decode b_M_repeat 65 = .ok (.iload_n 1, 1) := by decide +kernel
theorem d_M_repeat_66 : decode b_M_repeat 66 = .ok (.if_icmp .ge 22, 3) := by decide +kernel
theorem d_M_repeat_69 : decode b_M_repeat 69 = .ok (.aload_n 0, 1) := by decide +kernel
theorem d_M_repeat_70 : decode b_M_repeat 70 = .ok (.getfield 7, 3) := by decide +kernel
theorem d_M_repeat_73 : decode b_M_repeat 73 = .ok (.bipush 40, 2) := by decide +kernel
theorem d_M_repeat_75 : decode b_M_repeat 75 = .ok (.iload_n 3, 1) := by decide +kernel
theorem d_M_repeat_76 : decode b_M_repeat 76 = .ok (.imul, 1) := by decide +kernel
theorem d_M_repeat_77 : decode b_M_repeat 77 = .ok (.iload 4, 2) := by decide +kernel
theorem d_M_repeat_79 : decode b_M_repeat 79 = .ok (.iadd, 1) := by decide +kernel
theorem d_M_repeat_80 : decode b_M_repeat 80 = .ok (.iload_n 2, 1) := by decide +kernel
theorem d_M_repeat_81 : decode b_M_repeat 81 = .ok (.iastore, 1) := by decide +kernel
theorem d_M_repeat_82 : decode b_M_repeat 82 = .ok (.iinc 4 1, 3) := by decide +kernel
theorem d_M_repeat_85 : decode b_M_repeat 85 = .ok (.goto (-22), 3) := by decide +kernel
theorem d_M_repeat_88 : decode b_M_repeat 88 = .ok (.aload_n 0, 1) := by decide +kernel
theorem d_M_repeat_89 : decode b_M_repeat 89 = .ok (.getfield 13, 3) := by decide +kernel
theorem d_M_repeat_92 : decode b_M_repeat 92 = .ok (.iload_n 3, 1) := by decide +kernel
theorem d_M_repeat_93 : decode b_M_repeat 93 = .ok (.iload_n 1, 1) := by decide +kernel
theorem d_M_repeat_94 : decode b_M_repeat 94 = .ok (.iastore, 1) := by decide +kernel
theorem d_M_repeat_95 : decode b_M_repeat 95 = .ok (.aload_n 0, 1) := by decide +kernel
theorem d_M_repeat_96 : decode b_M_repeat 96 = .ok (.dup, 1) := by decide +kernel
theorem d_M_repeat_97 : decode b_M_repeat 97 = .ok (.getfield 20, 3) := by decide +kernel
theorem d_M_repeat_100 : decode b_M_repeat 100 = .ok (.iconst 1, 1) := by decide +kernel
theorem d_M_repeat_101 : decode b_M_repeat 101 = .ok (.iadd, 1) := by decide +kernel
theorem d_M_repeat_102 : decode b_M_repeat 102 = .ok (.putfield 20, 3) := by decide +kernel
theorem d_M_repeat_105 : decode b_M_repeat 105 = .ok (.iload_n 1, 1) := by decide +kernel
theorem d_M_repeat_106 : decode b_M_repeat 106 = .ok (.ireturn, 1) := by decide +kernel
theorem d_M_order_0 : decode b_M_order 0 = .ok (.iconst 0, 1) := by decide +kernel
theorem d_M_order_1 : decode b_M_order 1 = .ok (.istore_n 3, 1) := by decide +kernel
theorem d_M_order_2 : decode b_M_order 2 = .ok (.iload_n 3, 1) := by decide +kernel
theorem d_M_order_3 : decode b_M_order 3 = .ok (.aload_n 0, 1) := by decide +kernel
theorem d_M_order_4 : decode b_M_order 4 = .ok (.getfield 13, 3) := by decide +kernel
theorem d_M_order_7 : decode b_M_order 7 = .ok (.iload_n 1, 1) := by decide +kernel
theorem d_M_order_8 : decode b_M_order 8 = .ok (.iaload, 1) := by decide +kernel
theorem d_M_order_9 : decode b_M_order 9 = .ok (.if_icmp .ge 75, 3) := by decide +kernel
theorem d_M_order_12 : decode b_M_order 12 = .ok (.iload_n 3, 1) := by decide +kernel
theorem d_M_order_13 : decode b_M_order 13 = .ok (.aload_n 0, 1) := by decide +kernel
theorem d_M_order_14 : decode b_M_order 14 = .ok (.getfield 13, 3) := by decide +kernel
theorem d_M_order_17 : decode b_M_order 17 = .ok (.iload_n 2, 1) := by decide +kernel
theorem d_M_order_18 : decode b_M_order 18 = .ok (.iaload, 1) := by decide +kernel
theorem d_M_order_19 : decode b_M_order 19 = .ok (.if_icmp .ge 65, 3) := by decide +kernel
theorem d_M_order_22 : decode b_M_order 22 = .ok (.aload_n 0, 1) := by decide +kernel
theorem d_M_order_23 : decode b_M_order 23 = .ok (.getfield 7, 3) := by decide +kernel
theorem d_M_order_26 : decode b_M_order 26 = .ok (.bipush 40, 2) := by decide +kernel
theorem d_M_order_28 : decode b_M_order 28 = .ok (.iload_n 1, 1) := by decide +kernel
theorem d_M_order_29 : decode b_M_order 29 = .ok (.imul, 1) := by decide +kernel
theorem d_M_order_30 : decode b_M_order 30 = .ok (.iload_n 3, 1) := by decide +kernel
theorem d_M_order_31 : decode b_M_order 31 = .ok (.iadd, 1) := by decide +kernel
theorem d_M_order_32 : decode b_M_order 32 = .ok (.iaload, 1) := by decide +kernel
theorem d_M_order_33 : decode b_M_order 33 = .ok (.aload_n 0, 1) := by decide +kernel
theorem d_M_order_34 : decode b_M_order 34 = .ok (.getfield 7, 3) := by decide +kernel
theorem d_M_order_37 : decode b_M_order 37 = .ok (.bipush 40, 2) := by decide +kernel
theorem d_M_order_39 : decode b_M_order 39 = .ok (.iload_n 2, 1) := by decide +kernel
theorem d_M_order_40 : decode b_M_order 40 = .ok (.imul, 1) := by decide +kernel
theorem d_M_order_41 : decode b_M_order 41 = .ok (.iload_n 3, 1) := by decide +kernel
theorem d_M_order_42 : decode b_M_order 42 = .ok (.iadd, 1) := by decide +kernel
theorem d_M_order_43 : decode b_M_order 43 = .ok (.iaload, 1) := by decide +kernel
theorem d_M_order_44 : decode b_M_order 44 = .ok (.if_icmp .eq 34, 3) := by decide +kernel
theorem d_M_order_47 : decode b_M_order 47 = .ok (.aload_n 0, 1) := by decide +kernel
theorem d_M_order_48 : decode b_M_order 48 = .ok (.getfield 7, 3) := by decide +kernel
theorem d_M_order_51 : decode b_M_order 51 = .ok (.bipush 40, 2) := by decide +kernel
theorem d_M_order_53 : decode b_M_order 53 = .ok (.iload_n 1, 1) := by decide +kernel
theorem d_M_order_54 : decode b_M_order 54 = .ok (.imul, 1) := by decide +kernel
theorem d_M_order_55 : decode b_M_order 55 = .ok (.iload_n 3, 1) := by decide +kernel
theorem d_M_order_56 : decode b_M_order 56 = .ok (.iadd, 1) := by decide +kernel
theorem d_M_order_57 : decode b_M_order 57 = .ok (.iaload, 1) := by decide +kernel
theorem d_M_order_58 : decode b_M_order 58 = .ok (.aload_n 0, 1) := by decide +kernel
theorem d_M_order_59 : decode b_M_order 59 = .ok (.getfield 7, 3) := by decide +kernel
theorem d_M_order_62 : decode b_M_order 62 = .ok (.bipush 40, 2) := by decide +kernel
theorem d_M_order_64 : decode b_M_order 64 = .ok (.iload_n 2, 1) := by decide +kernel
theorem d_M_order_65 : decode b_M_order 65 = .ok (.imul, 1) := by decide +kernel
theorem d_M_order_66 : decode b_M_order 66 = .ok (.iload_n 3, 1) := by decide +kernel
theorem d_M_order_67 : decode b_M_order 67 = .ok (.iadd, 1) := by decide +kernel
theorem d_M_order_68 : decode b_M_order 68 = .ok (.iaload, 1) := by decide +kernel
theorem d_M_order_69 : decode b_M_order 69 = .ok (.if_icmp .ge 7, 3) := by decide +kernel
theorem d_M_order_72 : decode b_M_order 72 = .ok (.iconst 1, 1) := by decide +kernel
theorem d_M_order_73 : decode b_M_order 73 = .ok (.goto 4, 3) := by decide +kernel
theorem d_M_order_76 : decode b_M_order 76 = .ok (.iconst 2, 1) := by decide +kernel
theorem d_M_order_77 : decode b_M_order 77 = .ok (.ireturn, 1) := by decide +kernel
theorem d_M_order_78 : decode b_M_order 78 = .ok (.iinc 3 1, 3) := by decide +kernel
theorem d_M_order_81 : decode b_M_order 81 = .ok (.goto (-79), 3) := by decide +kernel
theorem d_M_order_84 : decode b_M_order 84 = .ok (.aload_n 0, 1) := by decide +kernel
theorem d_M_order_85 : decode b_M_order 85 = .ok (.getfield 13, 3) := by decide +kernel
theorem d_M_order_88 : decode b_M_order 88 = .ok (.iload_n 1, 1) := by decide +kernel
theorem d_M_order_89 : decode b_M_order 89 = .ok (.iaload, 1) := by decide +kernel
theorem d_M_order_90 : decode b_M_order 90 = .ok (.aload_n 0, 1) := by decide +kernel
theorem d_M_order_91 : decode b_M_order 91 = .ok (.getfield 13, 3) := by decide +kernel
theorem d_M_order_94 : decode b_M_order 94 = .ok (.iload_n 2, 1) := by decide +kernel
theorem d_M_order_95 : decode b_M_order 95 = .ok (.iaload, 1) := by decide +kernel
theorem d_M_order_96 : decode b_M_order 96 = .ok (.if_icmp .ne 7, 3) := by decide +kernel
theorem d_M_order_99 : decode b_M_order 99 = .ok (.iconst 0, 1) := by decide +kernel
theorem d_M_order_100 : decode b_M_order 100 = .ok (.goto 23, 3) := by decide +kernel
theorem d_M_order_103 : decode b_M_order 103 = .ok (.aload_n 0, 1) := by decide +kernel
theorem d_M_order_104 : decode b_M_order 104 = .ok (.getfield 13, 3) := by decide +kernel
theorem d_M_order_107 : decode b_M_order 107 = .ok (.iload_n 1, 1) := by decide +kernel
theorem d_M_order_108 : decode b_M_order 108 = .ok (.iaload, 1) := by decide +kernel
theorem d_M_order_109 : decode b_M_order 109 = .ok (.aload_n 0, 1) := by decide +kernel
theorem d_M_order_110 : decode b_M_order 110 = .ok (.getfield 13, 3) := by decide +kernel
theorem d_M_order_113 : decode b_M_order 113 = .ok (.iload_n 2, 1) := by decide +kernel
theorem d_M_order_114 : decode b_M_order 114 = .ok (.iaload, 1) := by decide +kernel
theorem d_M_order_115 : decode b_M_order 115 = .ok (.if_icmp .ge 7, 3) := by decide +kernel
theorem d_M_order_118 : decode b_M_order 118 = .ok (.iconst 1, 1) := by decide +kernel
theorem d_M_order_119 : decode b_M_order 119 = .ok (.goto 4, 3) := by decide +kernel
theorem d_M_order_122 : decode b_M_order 122 = .ok (.iconst 2, 1) := by decide +kernel
theorem d_M_order_123 : decode b_M_order 123 = .ok (.ireturn, 1) := by decide +kernel
theorem d_M_compare_0 : decode b_M_compare 0 = .ok (.aload_n 0, 1) := by decide +kernel
theorem d_M_compare_1 : decode b_M_compare 1 = .ok (.getfield 20, 3) := by decide +kernel
theorem d_M_compare_4 : decode b_M_compare 4 = .ok (.iconst 2, 1) := by decide +kernel
theorem d_M_compare_5 : decode b_M_compare 5 = .ok (.if_icmp .ge 6, 3) := by decide +kernel
theorem d_M_compare_8 : decode b_M_compare 8 = .ok (.bipush (-3), 2) := by decide +kernel
theorem d_M_compare_10 : decode b_M_compare 10 = .ok (.ireturn, 1) := by decide +kernel
theorem d_M_compare_11 : decode b_M_compare 11 = .ok (.aload_n 0, 1) := by decide +kernel
theorem d_M_compare_12 : decode b_M_compare 12 = .ok (.aload_n 0, 1) := by decide +kernel
theorem d_M_compare_13 : decode b_M_compare 13 = .ok (.getfield 20, 3) := by decide +kernel
theorem d_M_compare_16 : decode b_M_compare 16 = .ok (.iconst 2, 1) := by decide +kernel
theorem d_M_compare_17 : decode b_M_compare 17 = .ok (.isub, 1) := by decide +kernel
theorem d_M_compare_18 : decode b_M_compare 18 = .ok (.putfield 20, 3) := by decide +kernel
theorem d_M_compare_21 : decode b_M_compare 21 = .ok (.aload_n 0, 1) := by decide +kernel
theorem d_M_compare_22 : decode b_M_compare 22 = .ok (.bipush 6, 2) := by decide +kernel
theorem d_M_compare_24 : decode b_M_compare 24 = .ok (.aload_n 0, 1) := by decide +kernel
theorem d_M_compare_25 : decode b_M_compare 25 = .ok (.getfield 20, 3) := by decide +kernel
theorem d_M_compare_28 : decode b_M_compare 28 = .ok (.iadd, 1) := by decide +kernel
theorem d_M_compare_29 : decode b_M_compare 29 = .ok (.bipush 7, 2) := by decide +kernel
theorem d_M_compare_31 : decode b_M_compare 31 = .ok (.aload_n 0, 1) := by decide +kernel
theorem d_M_compare_32 : decode b_M_compare 32 = .ok (.getfield 20, 3) := by decide +kernel
theorem d_M_compare_35 : decode b_M_compare 35 = .ok (.iadd, 1) := by decide +kernel
theorem d_M_compare_36 : decode b_M_compare 36 = .ok (.invokevirtual 43, 3) := by decide +kernel
theorem d_M_compare_39 : decode b_M_compare 39 = .ok (.ireturn, 1) := by decide +kernel
theorem d_M_begins_0 : decode b_M_begins 0 = .ok (.iload_n 2, 1) := by decide +kernel
theorem d_M_begins_1 : decode b_M_begins 1 = .ok (.aload_n 0, 1) := by decide +kernel
theorem d_M_begins_2 : decode b_M_begins 2 = .ok (.getfield 13, 3) := by decide +kernel
theorem d_M_begins_5 : decode b_M_begins 5 = .ok (.iload_n 3, 1) := by decide +kernel
theorem d_M_begins_6 : decode b_M_begins 6 = .ok (.iaload, 1) := by decide +kernel
theorem d_M_begins_7 : decode b_M_begins 7 = .ok (.iadd, 1) := by decide +kernel
theorem d_M_begins_8 : decode b_M_begins 8 = .ok (.aload_n 0, 1) := by decide +kernel
theorem d_M_begins_9 : decode b_M_begins 9 = .ok (.getfield 13, 3) := by decide +kernel
theorem d_M_begins_12 : decode b_M_begins 12 = .ok (.iload_n 1, 1) := by decide +kernel
theorem d_M_begins_13 : decode b_M_begins 13 = .ok (.iaload, 1) := by decide +kernel
theorem d_M_begins_14 : decode b_M_begins 14 = .ok (.if_icmp .le 5, 3) := by decide +kernel
theorem d_M_begins_17 : decode b_M_begins 17 = .ok (.iconst 0, 1) := by decide +kernel
theorem d_M_begins_18 : decode b_M_begins 18 = .ok (.ireturn, 1) := by decide +kernel
theorem d_M_begins_19 : decode b_M_begins 19 = .ok (.iconst 0, 1) := by decide +kernel
theorem d_M_begins_20 : decode b_M_begins 20 = .ok (.istore 4, 2) := by decide +kernel
theorem d_M_begins_22 : decode b_M_begins 22 = .ok (.iload 4, 2) := by decide +kernel
theorem d_M_begins_24 : decode b_M_begins 24 = .ok (.aload_n 0, 1) := by decide +kernel
theorem d_M_begins_25 : decode b_M_begins 25 = .ok (.getfield 13, 3) := by decide +kernel
theorem d_M_begins_28 : decode b_M_begins 28 = .ok (.iload_n 3, 1) := by decide +kernel
theorem d_M_begins_29 : decode b_M_begins 29 = .ok (.iaload, 1) := by decide +kernel
theorem d_M_begins_30 : decode b_M_begins 30 = .ok (.if_icmp .ge 40, 3) := by decide +kernel
theorem d_M_begins_33 : decode b_M_begins 33 = .ok (.aload_n 0, 1) := by decide +kernel
theorem d_M_begins_34 : decode b_M_begins 34 = .ok (.getfield 7, 3) := by decide +kernel
theorem d_M_begins_37 : decode b_M_begins 37 = .ok (.bipush 40, 2) := by decide +kernel
theorem d_M_begins_39 : decode b_M_begins 39 = .ok (.iload_n 1, 1) := by decide +kernel
theorem d_M_begins_40 : decode b_M_begins 40 = .ok (.imul, 1) := by decide +kernel
theorem d_M_begins_41 : decode b_M_begins 41 = .ok (.iload_n 2, 1) := by decide +kernel
theorem d_M_begins_42 : decode b_M_begins 42 = .ok (.iadd, 1) := by decide +kernel
theorem d_M_begins_43 : decode b_M_begins 43 = .ok (.iload 4, 2) := by decide +kernel
theorem d_M_begins_45 : decode b_M_begins 45 = .ok (.iadd, 1) := by decide +kernel
theorem d_M_begins_46 : decode b_M_begins 46 = .ok (.iaload, 1) := by decide +kernel
theorem d_M_begins_47 : decode b_M_begins 47 = .ok (.aload_n 0, 1) := by decide +kernel
theorem d_M_begins_48 : decode b_M_begins 48 = .ok (.getfield 7, 3) := by decide +kernel
theorem d_M_begins_51 : decode b_M_begins 51 = .ok (.bipush 40, 2) := by decide +kernel
theorem d_M_begins_53 : decode b_M_begins 53 = .ok (.iload_n 3, 1) := by decide +kernel
theorem d_M_begins_54 : decode b_M_begins 54 = .ok (.imul, 1) := by decide +kernel
theorem d_M_begins_55 : decode b_M_begins 55 = .ok (.iload 4, 2) := by decide +kernel
theorem d_M_begins_57 : decode b_M_begins 57 = .ok (.iadd, 1) := by decide +kernel
theorem d_M_begins_58 : decode b_M_begins 58 = .ok (.iaload, 1) := by decide +kernel
theorem d_M_begins_59 : decode b_M_begins 59 = .ok (.if_icmp .eq 5, 3) := by decide +kernel
theorem d_M_begins_62 : decode b_M_begins 62 = .ok (.iconst 0, 1) := by decide +kernel
theorem d_M_begins_63 : decode b_M_begins 63 = .ok (.ireturn, 1) := by decide +kernel
theorem d_M_begins_64 : decode b_M_begins 64 = .ok (.iinc 4 1, 3) := by decide +kernel
theorem d_M_begins_67 : decode b_M_begins 67 = .ok (.goto (-45), 3) := by decide +kernel
theorem d_M_begins_70 : decode b_M_begins 70 = .ok (.iconst 1, 1) := by decide +kernel
theorem d_M_begins_71 : decode b_M_begins 71 = .ok (.ireturn, 1) := by decide +kernel
theorem d_M_find_0 : decode b_M_find 0 = .ok (.aload_n 0, 1) := by decide +kernel
theorem d_M_find_1 : decode b_M_find 1 = .ok (.iload_n 1, 1) := by decide +kernel
theorem d_M_find_2 : decode b_M_find 2 = .ok (.invokevirtual 36, 3) := by decide +kernel
theorem d_M_find_5 : decode b_M_find 5 = .ok (.ifCond .eq 11, 3) := by decide +kernel
theorem d_M_find_8 : decode b_M_find 8 = .ok (.aload_n 0, 1) := by decide +kernel
theorem d_M_find_9 : decode b_M_find 9 = .ok (.iload_n 2, 1) := by decide +kernel
theorem d_M_find_10 : decode b_M_find 10 = .ok (.invokevirtual 36, 3) := by decide +kernel
theorem d_M_find_13 : decode b_M_find 13 = .ok (.ifCond .ne 5, 3) := by decide +kernel
theorem d_M_find_16 : decode b_M_find 16 = .ok (.iconst (-1), 1) := by decide +kernel
theorem d_M_find_17 : decode b_M_find 17 = .ok (.ireturn, 1) := by decide +kernel
theorem d_M_find_18 : decode b_M_find 18 = .ok (.iconst 0, 1) := by decide +kernel
theorem d_M_find_19 : decode b_M_find 19 = .ok (.istore_n 3, 1) := by decide +kernel
theorem d_M_find_20 : decode b_M_find 20 = .ok (.iload_n 3, 1) := by decide +kernel
theorem d_M_find_21 : decode b_M_find 21 = .ok (.aload_n 0, 1) := by decide +kernel
theorem d_M_find_22 : decode b_M_find 22 = .ok (.getfield 13, 3) := by decide +kernel
theorem d_M_find_25 : decode b_M_find 25 = .ok (.iload_n 1, 1) := by decide +kernel
theorem d_M_find_26 : decode b_M_find 26 = .ok (.iaload, 1) := by decide +kernel
theorem d_M_find_27 : decode b_M_find 27 = .ok (.if_icmp .ge 23, 3) := by decide +kernel
theorem d_M_find_30 : decode b_M_find 30 = .ok (.aload_n 0, 1) := by decide +kernel
theorem d_M_find_31 : decode b_M_find 31 = .ok (.iload_n 1, 1) := by decide +kernel
theorem d_M_find_32 : decode b_M_find 32 = .ok (.iload_n 3, 1) := by decide +kernel
theorem d_M_find_33 : decode b_M_find 33 = .ok (.iload_n 2, 1) := by decide +kernel
theorem d_M_find_34 : decode b_M_find 34 = .ok (.invokevirtual 46, 3) := by decide +kernel
theorem d_M_find_37 : decode b_M_find 37 = .ok (.ifCond .eq 7, 3) := by decide +kernel
theorem d_M_find_40 : decode b_M_find 40 = .ok (.iload_n 3, 1) := by decide +kernel
theorem d_M_find_41 : decode b_M_find 41 = .ok (.iconst 1, 1) := by decide +kernel
theorem d_M_find_42 : decode b_M_find 42 = .ok (.iadd, 1) := by decide +kernel
theorem d_M_find_43 : decode b_M_find 43 = .ok (.ireturn, 1) := by decide +kernel
theorem d_M_find_44 : decode b_M_find 44 = .ok (.iinc 3 1, 3) := by decide +kernel
theorem d_M_find_47 : decode b_M_find 47 = .ok (.goto (-27), 3) := by decide +kernel
theorem d_M_find_50 : decode b_M_find 50 = .ok (.iconst 0, 1) := by decide +kernel
theorem d_M_find_51 : decode b_M_find 51 = .ok (.ireturn, 1) := by decide +kernel
theorem d_M_setMid_0 : decode b_M_setMid 0 = .ok (.aload_n 0, 1) := by decide +kernel
theorem d_M_setMid_1 : decode b_M_setMid 1 = .ok (.iload_n 1, 1) := by decide +kernel
theorem d_M_setMid_2 : decode b_M_setMid 2 = .ok (.invokevirtual 36, 3) := by decide +kernel
theorem d_M_setMid_5 : decode b_M_setMid 5 = .ok (.ifCond .eq 15, 3) := by decide +kernel
theorem d_M_setMid_8 : decode b_M_setMid 8 = .ok (.iload_n 2, 1) := by decide +kernel
theorem d_M_setMid_9 : decode b_M_setMid 9 = .ok (.iconst 1, 1) := by decide +kernel
theorem d_M_setMid_10 : decode b_M_setMid 10 = .ok (.if_icmp .lt 10, 3) := by decide +kernel
theorem d_M_setMid_13 : decode b_M_setMid 13 = .ok (.iload_n 2, 1) := by decide +kernel
theorem d_M_setMid_14 : decode b_M_setMid 14 = .ok (.sipush 255, 3) := by decide +kernel
theorem d_M_setMid_17 : decode b_M_setMid 17 = .ok (.if_icmp .le 5, 3) := by decide +kernel
theorem d_M_setMid_20 : decode b_M_setMid 20 = .ok (.iconst (-1), 1) := by decide +kernel
theorem d_M_setMid_21 : decode b_M_setMid 21 = .ok (.ireturn, 1) := by decide +kernel
theorem d_M_setMid_22 : decode b_M_setMid 22 = .ok (.aload_n 0, 1) := by decide +kernel
theorem d_M_setMid_23 : decode b_M_setMid 23 = .ok (.getfield 20, 3) := by decide +kernel
theorem d_M_setMid_26 : decode b_M_setMid 26 = .ok (.ifCond .ne 6, 3) := by decide +kernel
theorem d_M_setMid_29 : decode b_M_setMid 29 = .ok (.bipush (-3), 2) := by decide +kernel
theorem d_M_setMid_31 : decode b_M_setMid 31 = .ok (.ireturn, 1) := by decide +kernel
theorem d_M_setMid_32 : decode b_M_setMid 32 = .ok (.iconst 5, 1) := by decide +kernel
theorem d_M_setMid_33 : decode b_M_setMid 33 = .ok (.aload_n 0, 1) := by decide +kernel
theorem d_M_setMid_34 : decode b_M_setMid 34 = .ok (.getfield 20, 3) := by decide +kernel
theorem d_M_setMid_37 : decode b_M_setMid 37 = .ok (.iadd, 1) := by decide +kernel
theorem d_M_setMid_38 : decode b_M_setMid 38 = .ok (.istore_n 3, 1) := by decide +kernel
theorem d_M_setMid_39 : decode b_M_setMid 39 = .ok (.iconst 0, 1) := by decide +kernel
theorem d_M_setMid_40 : decode b_M_setMid 40 = .ok (.istore 4, 2) := by decide +kernel
theorem d_M_setMid_42 : decode b_M_setMid 42 = .ok (.iconst 0, 1) := by decide +kernel
theorem d_M_setMid_43 : decode b_M_setMid 43 = .ok (.istore 5, 2) := by decide +kernel
theorem d_M_setMid_45 : decode b_M_setMid 45 = .ok (.iload 5, 2) := by decide +kernel
theorem d_M_setMid_47 : decode b_M_setMid 47 = .ok (.aload_n 0, 1) := by decide +kernel
theorem d_M_setMid_48 : decode b_M_setMid 48 = .ok (.getfield 13, 3) := by decide +kernel
theorem d_M_setMid_51 : decode b_M_setMid 51 = .ok (.iload_n 3, 1) := by decide +kernel
theorem d_M_setMid_52 : decode b_M_setMid 52 = .ok (.iaload, 1) := by decide +kernel
theorem d_M_setMid_53 : decode b_M_setMid 53 = .ok (.if_icmp .ge 55, 3) := by decide +kernel
theorem d_M_setMid_56 : decode b_M_setMid 56 = .ok (.iload_n 2, 1) := by decide +kernel
theorem d_M_setMid_57 : decode b_M_setMid 57 = .ok (.iconst 1, 1) := by decide +kernel
theorem d_M_setMid_58 : decode b_M_setMid 58 = .ok (.isub, 1) := by decide +kernel
theorem d_M_setMid_59 : decode b_M_setMid 59 = .ok (.iload 5, 2) := by decide +kernel
theorem d_M_setMid_61 : decode b_M_setMid 61 = .ok (.iadd, 1) := by decide +kernel
theorem d_M_setMid_62 : decode b_M_setMid 62 = .ok (.aload_n 0, 1) := by decide +kernel
theorem d_M_setMid_63 : decode b_M_setMid 63 = .ok (.getfield 13, 3) := by decide +kernel
theorem d_M_setMid_66 : decode b_M_setMid 66 = .ok (.iload_n 1, 1) := by decide +kernel
theorem d_M_setMid_67 : decode b_M_setMid 67 = .ok (.iaload, 1) := by decide +kernel
theorem d_M_setMid_68 : decode b_M_setMid 68 = .ok (.if_icmp .ge 40, 3) := by decide +kernel
theorem d_M_setMid_71 : decode b_M_setMid 71 = .ok (.aload_n 0, 1) := by decide +kernel
theorem d_M_setMid_72 : decode b_M_setMid 72 = .ok (.getfield 7, 3) := by decide +kernel
theorem d_M_setMid_75 : decode b_M_setMid 75 = .ok (.bipush 40, 2) := by decide +kernel
theorem d_M_setMid_77 : decode b_M_setMid 77 = .ok (.iload_n 1, 1) := by decide +kernel
theorem d_M_setMid_78 : decode b_M_setMid 78 = .ok (.imul, 1) := by decide +kernel
theorem d_M_setMid_79 : decode b_M_setMid 79 = .ok (.iload_n 2, 1) := by decide +kernel
theorem d_M_setMid_80 : decode b_M_setMid 80 = .ok (.iadd, 1) := by decide +kernel
theorem d_M_setMid_81 : decode b_M_setMid 81 = .ok (.iconst 1, 1) := by decide +kernel
theorem d_M_setMid_82 : decode b_M_setMid 82 = .ok (.isub, 1) := by decide +kernel
theorem d_M_setMid_83 : decode b_M_setMid 83 = .ok (.iload 5, 2) := by decide +kernel
theorem d_M_setMid_85 : decode b_M_setMid 85 = .ok (.iadd, 1) := by decide +kernel
theorem d_M_setMid_86 : decode b_M_setMid 86 = .ok (.aload_n 0, 1) := by decide +kernel
theorem d_M_setMid_87 : decode b_M_setMid 87 = .ok (.getfield 7, 3) := by decide +kernel
theorem d_M_setMid_90 : decode b_M_setMid 90 = .ok (.bipush 40, 2) := by decide +kernel
theorem d_M_setMid_92 : decode b_M_setMid 92 = .ok (.iload_n 3, 1) := by decide +kernel
theorem d_M_setMid_93 : decode b_M_setMid 93 = .ok (.imul, 1) := by decide +kernel
theorem d_M_setMid_94 : decode b_M_setMid 94 = .ok (.iload 5, 2) := by decide +kernel
theorem d_M_setMid_96 : decode b_M_setMid 96 = .ok (.iadd, 1) := by decide +kernel
theorem d_M_setMid_97 : decode b_M_setMid 97 = .ok (.iaload, 1) := by decide +kernel
theorem d_M_setMid_98 : decode b_M_setMid 98 = .ok (.iastore, 1) := by decide +kernel
theorem d_M_setMid_99 : decode b_M_setMid 99 = .ok (.iinc 4 1, 3) := by decide +kernel
theorem d_M_setMid_102 : decode b_M_setMid 102 = .ok (.iinc 5 1, 3) := by decide +kernel
theorem d_M_setMid_105 : decode b_M_setMid 105 = .ok (.goto (-60), 3) := by decide +kernel
theorem d_M_setMid_108 : decode b_M_setMid 108 = .ok (.aload_n 0, 1) := by decide +kernel
theorem d_M_setMid_109 : decode b_M_setMid 109 = .ok (.dup, 1) := by decide +kernel
theorem d_M_setMid_110 : decode b_M_setMid 110 = .ok (.getfield 20, 3) := by decide +kernel
theorem d_M_setMid_113 : decode b_M_setMid 113 = .ok (.iconst 1, 1) := by decide +kernel
theorem d_M_setMid_114 : decode b_M_setMid 114 = .ok (.isub, 1) := by decide +kernel
theorem d_M_setMid_115 : decode b_M_setMid 115 = .ok (.putfield 20, 3) := by decide +kernel
theorem d_M_setMid_118 : decode b_M_setMid 118 = .ok (.iload 4, 2) := by decide +kernel
theorem d_M_setMid_120 : decode b_M_setMid 120 = .ok (.ireturn, 1) := by decide +kernel
theorem d_M_swap_0 : decode b_M_swap 0 = .ok (.aload_n 0, 1) := by decide +kernel
theorem d_M_swap_1 : decode b_M_swap 1 = .ok (.iload_n 1, 1) := by decide +kernel
theorem d_M_swap_2 : decode b_M_swap 2 = .ok (.invokevirtual 36, 3) := by decide +kernel
theorem d_M_swap_5 : decode b_M_swap 5 = .ok (.ifCond .eq 11, 3) := by decide +kernel
theorem d_M_swap_8 : decode b_M_swap 8 = .ok (.aload_n 0, 1) := by decide +kernel
theorem d_M_swap_9 : decode b_M_swap 9 = .ok (.iload_n 2, 1) := by decide +kernel
theorem d_M_swap_10 : decode b_M_swap 10 = .ok (.invokevirtual 36, 3) := by decide +kernel
theorem d_M_swap_13 : decode b_M_swap 13 = .ok (.ifCond .ne 5, 3) := by decide +kernel
theorem d_M_swap_16 : decode b_M_swap 16 = .ok (.iconst (-1), 1) := by decide +kernel
theorem d_M_swap_17 : decode b_M_swap 17 = .ok (.ireturn, 1) := by decide +kernel
theorem d_M_swap_18 : decode b_M_swap 18 = .ok (.aload_n 0, 1) := by decide +kernel
theorem d_M_swap_19 : decode b_M_swap 19 = .ok (.getfield 13, 3) := by decide +kernel
theorem d_M_swap_22 : decode b_M_swap 22 = .ok (.iload_n 1, 1) := by decide +kernel
theorem d_M_swap_23 : decode b_M_swap 23 = .ok (.iaload, 1) := by decide +kernel
theorem d_M_swap_24 : decode b_M_swap 24 = .ok (.istore_n 3, 1) := by decide +kernel
theorem d_M_swap_25 : decode b_M_swap 25 = .ok (.aload_n 0, 1) := by decide +kernel
theorem d_M_swap_26 : decode b_M_swap 26 = .ok (.getfield 13, 3) := by decide +kernel
theorem d_M_swap_29 : decode b_M_swap 29 = .ok (.iload_n 1, 1) := by decide +kernel
theorem d_M_swap_30 : decode b_M_swap 30 = .ok (.aload_n 0, 1) := by decide +kernel
theorem d_M_swap_31 : decode b_M_swap 31 = .ok (.getfield 13, 3) := by decide +kernel
theorem d_M_swap_34 : decode b_M_swap 34 = .ok (.iload_n 2, 1) := by decide +kernel
theorem d_M_swap_35 : decode b_M_swap 35 = .ok (.iaload, 1) := by decide +kernel
theorem d_M_swap_36 : decode b_M_swap 36 = .ok (.iastore, 1) := by decide +kernel
theorem d_M_swap_37 : decode b_M_swap 37 = .ok (.aload_n 0, 1) := by decide +kernel
theorem d_M_swap_38 : decode b_M_swap 38 = .ok (.getfield 13, 3) := by decide +kernel
theorem d_M_swap_41 : decode b_M_swap 41 = .ok (.iload_n 2, 1) := by decide +kernel
theorem d_M_swap_42 : decode b_M_swap 42 = .ok (.iload_n 3, 1) := by decide +kernel
theorem d_M_swap_43 : decode b_M_swap 43 = .ok (.iastore, 1) := by decide +kernel
theorem d_M_swap_44 : decode b_M_swap 44 = .ok (.iconst 0, 1) := by decide +kernel
theorem d_M_swap_45 : decode b_M_swap 45 = .ok (.istore 4, 2) := by decide +kernel
theorem d_M_swap_47 : decode b_M_swap 47 = .ok (.iload 4, 2) := by decide +kernel
theorem d_M_swap_49 : decode b_M_swap 49 = .ok (.bipush 40, 2) := by decide +kernel
theorem d_M_swap_51 : decode b_M_swap 51 = .ok (.if_icmp .ge 61, 3) := by decide +kernel
theorem d_M_swap_54 : decode b_M_swap 54 = .ok (.aload_n 0, 1) := by decide +kernel
theorem d_M_swap_55 : decode b_M_swap 55 = .ok (.getfield 7, 3) := by decide +kernel
theorem d_M_swap_58 : decode b_M_swap 58 = .ok (.bipush 40, 2) := by decide +kernel
theorem d_M_swap_60 : decode b_M_swap 60 = .ok (.iload_n 1, 1) := by decide +kernel
theorem d_M_swap_61 : decode b_M_swap 61 = .ok (.imul, 1) := by decide +kernel
theorem d_M_swap_62 : decode b_M_swap 62 = .ok (.iload 4, 2) := by decide +kernel
theorem d_M_swap_64 : decode b_M_swap 64 = .ok (.iadd, 1) := by decide +kernel
theorem d_M_swap_65 : decode b_M_swap 65 = .ok (.iaload, 1) := by decide +kernel
theorem d_M_swap_66 : decode b_M_swap 66 = .ok (.istore 5, 2) := by decide +kernel
theorem d_M_swap_68 : decode b_M_swap 68 = .ok (.aload_n 0, 1) := by decide +kernel
theorem d_M_swap_69 : decode b_M_swap 69 = .ok (.getfield 7, 3) := by decide +kernel
theorem d_M_swap_72 : decode b_M_swap 72 = .ok (.bipush 40, 2) := by decide +kernel
theorem d_M_swap_74 : decode b_M_swap 74 = .ok (.iload_n 1, 1) := by decide +kernel
theorem d_M_swap_75 : decode b_M_swap 75 = .ok (.imul, 1) := by decide +kernel
theorem d_M_swap_76 : decode b_M_swap 76 = .ok (.iload 4, 2) := by decide +kernel
theorem d_M_swap_78 : decode b_M_swap 78 = .ok (.iadd, 1) := by decide +kernel
theorem d_M_swap_79 : decode b_M_swap 79 = .ok (.aload_n 0, 1) := by decide +kernel
theorem d_M_swap_80 : decode b_M_swap 80 = .ok (.getfield 7, 3) := by decide +kernel
theorem d_M_swap_83 : decode b_M_swap 83 = .ok (.bipush 40, 2) := by decide +kernel
theorem d_M_swap_85 : decode b_M_swap 85 = .ok (.iload_n 2, 1) := by decide +kernel
theorem d_M_swap_86 : decode b_M_swap 86 = .ok (.imul, 1) := by decide +kernel
theorem d_M_swap_87 : decode b_M_swap 87 = .ok (.iload 4, 2) := by decide +kernel
theorem d_M_swap_89 : decode b_M_swap 89 = .ok (.iadd, 1) := by decide +kernel
theorem d_M_swap_90 : decode b_M_swap 90 = .ok (.iaload, 1) := by decide +kernel
theorem d_M_swap_91 : decode b_M_swap 91 = .ok (.iastore, 1) := by decide +kernel
theorem d_M_swap_92 : decode b_M_swap 92 = .ok (.aload_n 0, 1) := by decide +kernel
theorem d_M_swap_93 : decode b_M_swap 93 = .ok (.getfield 7, 3) := by decide +kernel
theorem d_M_swap_96 : decode b_M_swap 96 = .ok (.bipush 40, 2) := by decide +kernel
theorem d_M_swap_98 : decode b_M_swap 98 = .ok (.iload_n 2, 1) := by decide +kernel
theorem d_M_swap_99 : decode b_M_swap 99 = .ok (.imul, 1) := by decide +kernel
theorem d_M_swap_100 : decode b_M_swap 100 = .ok (.iload 4, 2) := by decide +kernel
theorem d_M_swap_102 : decode b_M_swap 102 = .ok (.iadd, 1) := by decide +kernel
theorem d_M_swap_103 : decode b_M_swap 103 = .ok (.iload 5, 2) := by decide +kernel
theorem d_M_swap_105 : decode b_M_swap 105 = .ok (.iastore, 1) := by decide +kernel
theorem d_M_swap_106 : decode b_M_swap 106 = .ok (.iinc 4 1, 3) := by decide +kernel
theorem d_M_swap_109 : decode b_M_swap 109 = .ok (.goto (-62), 3) := by decide +kernel
theorem d_M_swap_112 : decode b_M_swap 112 = .ok (.iconst 0, 1) := by decide +kernel
theorem d_M_swap_113 : decode b_M_swap 113 = .ok (.ireturn, 1) := by decide +kernel
theorem d_M_length_0 : decode b_M_length 0 = .ok (.aload_n 0, 1) := by decide +kernel
theorem d_M_length_1 : decode b_M_length 1 = .ok (.iload_n 1, 1) := by decide +kernel
theorem d_M_length_2 : decode b_M_length 2 = .ok (.invokevirtual 36, 3) := by decide +kernel
theorem d_M_length_5 : decode b_M_length 5 = .ok (.ifCond .eq 12, 3) := by decide +kernel
theorem d_M_length_8 : decode b_M_length 8 = .ok (.aload_n 0, 1) := by decide +kernel
theorem d_M_length_9 : decode b_M_length 9 = .ok (.getfield 13, 3) := by decide +kernel
theorem d_M_length_12 : decode b_M_length 12 = .ok (.iload_n 1, 1) := by decide +kernel
theorem d_M_length_13 : decode b_M_length 13 = .ok (.iaload, 1) := by decide +kernel
theorem d_M_length_14 : decode b_M_length 14 = .ok (.goto 4, 3) := by decide +kernel
theorem d_M_length_17 : decode b_M_length 17 = .ok (.iconst (-1), 1) := by decide +kernel
theorem d_M_length_18 : decode b_M_length 18 = .ok (.ireturn, 1) := by decide +kernel
theorem d_M_at_0 : decode b_M_at 0 = .ok (.aload_n 0, 1) := by decide +kernel
theorem d_M_at_1 : decode b_M_at 1 = .ok (.iload_n 1, 1) := by decide +kernel
theorem d_M_at_2 : decode b_M_at 2 = .ok (.invokevirtual 36, 3) := by decide +kernel
theorem d_M_at_5 : decode b_M_at 5 = .ok (.ifCond .eq 34, 3) := by decide +kernel
theorem d_M_at_8 : decode b_M_at 8 = .ok (.iload_n 2, 1) := by decide +kernel
theorem d_M_at_9 : decode b_M_at 9 = .ok (.iconst 1, 1) := by decide +kernel
theorem d_M_at_10 : decode b_M_at 10 = .ok (.if_icmp .lt 29, 3) := by decide +kernel
theorem d_M_at_13 : decode b_M_at 13 = .ok (.iload_n 2, 1) := by decide +kernel
theorem d_M_at_14 : decode b_M_at 14 = .ok (.aload_n 0, 1) := by decide +kernel
theorem d_M_at_15 : decode b_M_at 15 = .ok (.getfield 13, 3) := by decide +kernel
theorem d_M_at_18 : decode b_M_at 18 = .ok (.iload_n 1, 1) := by decide +kernel
theorem d_M_at_19 : decode b_M_at 19 = .ok (.iaload, 1) := by decide +kernel
theorem d_M_at_20 : decode b_M_at 20 = .ok (.if_icmp .gt 19, 3) := by decide +kernel
theorem d_M_at_23 : decode b_M_at 23 = .ok (.aload_n 0, 1) := by decide +kernel
theorem d_M_at_24 : decode b_M_at 24 = .ok (.getfield 7, 3) := by decide +kernel
theorem d_M_at_27 : decode b_M_at 27 = .ok (.bipush 40, 2) := by decide +kernel
theorem d_M_at_29 : decode b_M_at 29 = .ok (.iload_n 1, 1) := by decide +kernel
theorem d_M_at_30 : decode b_M_at 30 = .ok (.imul, 1) := by decide +kernel
theorem d_M_at_31 : decode b_M_at 31 = .ok (.iload_n 2, 1) := by decide +kernel
theorem d_M_at_32 : decode b_M_at 32 = .ok (.iadd, 1) := by decide +kernel
theorem d_M_at_33 : decode b_M_at 33 = .ok (.iconst 1, 1) := by decide +kernel
theorem d_M_at_34 : decode b_M_at 34 = .ok (.isub, 1) := by decide +kernel
theorem d_M_at_35 : decode b_M_at 35 = .ok (.iaload, 1) := by decide +kernel
theorem d_M_at_36 : decode b_M_at 36 = .ok (.goto 4, 3) := by decide +kernel
theorem d_M_at_39 : decode b_M_at 39 = .ok (.iconst 0, 1) := by decide +kernel
theorem d_M_at_40 : decode b_M_at 40 = .ok (.ireturn, 1) := by decide +kernel
theorem d_M_pile_0 : decode b_M_pile 0 = .ok (.aload_n 0, 1) := by decide +kernel
theorem d_M_pile_1 : decode b_M_pile 1 = .ok (.getfield 20, 3) := by decide +kernel
theorem d_M_pile_4 : decode b_M_pile 4 = .ok (.ireturn, 1) := by decide +kernel
theorem d_M_topLength_0 : decode b_M_topLength 0 = .ok (.aload_n 0, 1) := by decide +kernel
theorem d_M_topLength_1 : decode b_M_topLength 1 = .ok (.getfield 20, 3) := by decide +kernel
theorem d_M_topLength_4 : decode b_M_topLength 4 = .ok (.ifCond .ne 8, 3) := by decide +kernel
theorem d_M_topLength_7 : decode b_M_topLength 7 = .ok (.bipush (-3), 2) := by decide +kernel
theorem d_M_topLength_9 : decode b_M_topLength 9 = .ok (.goto 14, 3) := by decide +kernel
theorem d_M_topLength_12 : decode b_M_topLength 12 = .ok (.aload_n 0, 1) := by decide +kernel
theorem d_M_topLength_13 : decode b_M_topLength 13 = .ok (.getfield 13, 3) := by decide +kernel
theorem d_M_topLength_16 : decode b_M_topLength 16 = .ok (.iconst 5, 1) := by decide +kernel
theorem d_M_topLength_17 : decode b_M_topLength 17 = .ok (.aload_n 0, 1) := by decide +kernel
theorem d_M_topLength_18 : decode b_M_topLength 18 = .ok (.getfield 20, 3) := by decide +kernel
theorem d_M_topLength_21 : decode b_M_topLength 21 = .ok (.iadd, 1) := by decide +kernel
theorem d_M_topLength_22 : decode b_M_topLength 22 = .ok (.iaload, 1) := by decide +kernel
theorem d_M_topLength_23 : decode b_M_topLength 23 = .ok (.ireturn, 1) := by decide +kernel
theorem d_M_topAt_0 : decode b_M_topAt 0 = .ok (.aload_n 0, 1) := by decide +kernel
theorem d_M_topAt_1 : decode b_M_topAt 1 = .ok (.getfield 20, 3) := by decide +kernel
theorem d_M_topAt_4 : decode b_M_topAt 4 = .ok (.ifCond .le 44, 3) := by decide +kernel
theorem d_M_topAt_7 : decode b_M_topAt 7 = .ok (.iload_n 1, 1) := by decide +kernel
theorem d_M_topAt_8 : decode b_M_topAt 8 = .ok (.iconst 1, 1) := by decide +kernel
theorem d_M_topAt_9 : decode b_M_topAt 9 = .ok (.if_icmp .lt 39, 3) := by decide +kernel
theorem d_M_topAt_12 : decode b_M_topAt 12 = .ok (.iload_n 1, 1) := by decide +kernel
theorem d_M_topAt_13 : decode b_M_topAt 13 = .ok (.aload_n 0, 1) := by decide +kernel
theorem d_M_topAt_14 : decode b_M_topAt 14 = .ok (.getfield 13, 3) := by decide +kernel
theorem d_M_topAt_17 : decode b_M_topAt 17 = .ok (.iconst 5, 1) := by decide +kernel
theorem d_M_topAt_18 : decode b_M_topAt 18 = .ok (.aload_n 0, 1) := by decide +kernel
theorem d_M_topAt_19 : decode b_M_topAt 19 = .ok (.getfield 20, 3) := by decide +kernel
theorem d_M_topAt_22 : decode b_M_topAt 22 = .ok (.iadd, 1) := by decide +kernel
theorem d_M_topAt_23 : decode b_M_topAt 23 = .ok (.iaload, 1) := by decide +kernel
theorem d_M_topAt_24 : decode b_M_topAt 24 = .ok (.if_icmp .gt 24, 3) := by decide +kernel
theorem d_M_topAt_27 : decode b_M_topAt 27 = .ok (.aload_n 0, 1) := by decide +kernel
theorem d_M_topAt_28 : decode b_M_topAt 28 = .ok (.getfield 7, 3) := by decide +kernel
theorem d_M_topAt_31 : decode b_M_topAt 31 = .ok (.bipush 40, 2) := by decide +kernel
theorem d_M_topAt_33 : decode b_M_topAt 33 = .ok (.iconst 5, 1) := by decide +kernel
theorem d_M_topAt_34 : decode b_M_topAt 34 = .ok (.aload_n 0, 1) := by decide +kernel
theorem d_M_topAt_35 : decode b_M_topAt 35 = .ok (.getfield 20, 3) := by decide +kernel
theorem d_M_topAt_38 : decode b_M_topAt 38 = .ok (.iadd, 1) := by decide +kernel
theorem d_M_topAt_39 : decode b_M_topAt 39 = .ok (.imul, 1) := by decide +kernel
theorem d_M_topAt_40 : decode b_M_topAt 40 = .ok (.iload_n 1, 1) := by decide +kernel
theorem d_M_topAt_41 : decode b_M_topAt 41 = .ok (.iadd, 1) := by decide +kernel
theorem d_M_topAt_42 : decode b_M_topAt 42 = .ok (.iconst 1, 1) := by decide +kernel
theorem d_M_topAt_43 : decode b_M_topAt 43 = .ok (.isub, 1) := by decide +kernel
theorem d_M_topAt_44 : decode b_M_topAt 44 = .ok (.iaload, 1) := by decide +kernel
theorem d_M_topAt_45 : decode b_M_topAt 45 = .ok (.goto 4, 3) := by decide +kernel
theorem d_M_topAt_48 : decode b_M_topAt 48 = .ok (.iconst 0, 1) := by decide +kernel
theorem d_M_topAt_49 : decode b_M_topAt 49 = .ok (.ireturn, 1) := by decide +kernel
theorem d_M_used_0 : decode b_M_used 0 = .ok (.iconst 0, 1) := by decide +kernel
theorem d_M_used_1 : decode b_M_used 1 = .ok (.istore_n 1, 1) := by decide +kernel
theorem d_M_used_2 : decode b_M_used 2 = .ok (.iconst 0, 1) := by decide +kernel
theorem d_M_used_3 : decode b_M_used 3 = .ok (.istore_n 2, 1) := by decide +kernel
theorem d_M_used_4 : decode b_M_used 4 = .ok (.iload_n 2, 1) := by decide +kernel
theorem d_M_used_5 : decode b_M_used 5 = .ok (.bipush 6, 2) := by decide +kernel
theorem d_M_used_7 : decode b_M_used 7 = .ok (.aload_n 0, 1) := by decide +kernel
theorem d_M_used_8 : decode b_M_used 8 = .ok (.getfield 20, 3) := by decide +kernel
theorem d_M_used_11 : decode b_M_used 11 = .ok (.iadd, 1) := by decide +kernel
theorem d_M_used_12 : decode b_M_used 12 = .ok (.if_icmp .ge 18, 3) := by decide +kernel
theorem d_M_used_15 : decode b_M_used 15 = .ok (.iload_n 1, 1) := by decide +kernel
theorem d_M_used_16 : decode b_M_used 16 = .ok (.aload_n 0, 1) := by decide +kernel
theorem d_M_used_17 : decode b_M_used 17 = .ok (.getfield 13, 3) := by decide +kernel
theorem d_M_used_20 : decode b_M_used 20 = .ok (.iload_n 2, 1) := by decide +kernel
theorem d_M_used_21 : decode b_M_used 21 = .ok (.iaload, 1) := by decide +kernel
theorem d_M_used_22 : decode b_M_used 22 = .ok (.iadd, 1) := by decide +kernel
theorem d_M_used_23 : decode b_M_used 23 = .ok (.istore_n 1, 1) := by decide +kernel
theorem d_M_used_24 : decode b_M_used 24 = .ok (.iinc 2 1, 3) := by decide +kernel
theorem d_M_used_27 : decode b_M_used 27 = .ok (.goto (-23), 3) := by decide +kernel
theorem d_M_used_30 : decode b_M_used 30 = .ok (.iload_n 1, 1) := by decide +kernel
theorem d_M_used_31 : decode b_M_used 31 = .ok (.ireturn, 1) := by decide +kernel
end
section
theorem d_law_0 : decode code 0 = .ok (.new 7, 3) := by decide +kernel
theorem d_law_3 : decode code 3 = .ok (.dup, 1) := by decide +kernel
theorem d_law_4 : decode code 4 = .ok (.invokespecial 9, 3) := by decide +kernel
theorem d_law_7 : decode code 7 = .ok (.astore_n 1, 1) := by decide +kernel
theorem d_law_8 : decode code 8 = .ok (.new 10, 3) := by decide +kernel
theorem d_law_11 : decode code 11 = .ok (.dup, 1) := by decide +kernel
theorem d_law_12 : decode code 12 = .ok (.invokespecial 12, 3) := by decide +kernel
theorem d_law_15 : decode code 15 = .ok (.astore_n 2, 1) := by decide +kernel
theorem d_law_16 : decode code 16 = .ok (.iconst 0, 1) := by decide +kernel
theorem d_law_17 : decode code 17 = .ok (.istore_n 3, 1) := by decide +kernel
theorem d_law_18 : decode code 18 = .ok (.iload_n 3, 1) := by decide +kernel
theorem d_law_19 : decode code 19 = .ok (.aload_n 0, 1) := by decide +kernel
theorem d_law_20 : decode code 20 = .ok (.arraylength, 1) := by decide +kernel
theorem d_law_21 : decode code 21 = .ok (.iconst 3, 1) := by decide +kernel
theorem d_law_22 : decode code 22 = .ok (.isub, 1) := by decide +kernel
theorem d_law_23 : decode code 23 = .ok (.if_icmp .gt 576, 3) := by decide +kernel
theorem d_law_26 : decode code 26 = .ok (.aload_n 0, 1) := by decide +kernel
theorem d_law_27 : decode code 27 = .ok (.iload_n 3, 1) := by decide +kernel
theorem d_law_28 : decode code 28 = .ok (.iaload, 1) := by decide +kernel
theorem d_law_29 : decode code 29 = .ok (.bipush 31, 2) := by decide +kernel
theorem d_law_31 : decode code 31 = .ok (.iand, 1) := by decide +kernel
theorem d_law_32 : decode code 32 = .ok (.tableswitch 561 0 20 #[100, 123, 134, 147, 170, 193, 206, 219, 242, 265, 298, 331, 344, 377, 410, 443, 466, 499, 512, 525, 548], 100) := by decide +kernel
theorem d_law_132 : decode code 132 = .ok (.aload_n 1, 1) := by decide +kernel
theorem d_law_133 : decode code 133 = .ok (.aload_n 0, 1) := by decide +kernel
theorem d_law_134 : decode code 134 = .ok (.iload_n 3, 1) := by decide +kernel
theorem d_law_135 : decode code 135 = .ok (.iconst 1, 1) := by decide +kernel
theorem d_law_136 : decode code 136 = .ok (.iadd, 1) := by decide +kernel
theorem d_law_137 : decode code 137 = .ok (.iaload, 1) := by decide +kernel
theorem d_law_138 : decode code 138 = .ok (.invokevirtual 13, 3) := by decide +kernel
theorem d_law_141 : decode code 141 = .ok (.aload_n 2, 1) := by decide +kernel
theorem d_law_142 : decode code 142 = .ok (.aload_n 0, 1) := by decide +kernel
theorem d_law_143 : decode code 143 = .ok (.iload_n 3, 1) := by decide +kernel
theorem d_law_144 : decode code 144 = .ok (.iconst 1, 1) := by decide +kernel
theorem d_law_145 : decode code 145 = .ok (.iadd, 1) := by decide +kernel
theorem d_law_146 : decode code 146 = .ok (.iaload, 1) := by decide +kernel
theorem d_law_147 : decode code 147 = .ok (.invokevirtual 17, 3) := by decide +kernel
theorem d_law_150 : decode code 150 = .ok (.if_icmp .eq 443, 3) := by decide +kernel
theorem d_law_153 : decode code 153 = .ok (.iconst 0, 1) := by decide +kernel
theorem d_law_154 : decode code 154 = .ok (.ireturn, 1) := by decide +kernel
theorem d_law_155 : decode code 155 = .ok (.aload_n 1, 1) := by decide +kernel
theorem d_law_156 : decode code 156 = .ok (.invokevirtual 18, 3) := by decide +kernel
theorem d_law_159 : decode code 159 = .ok (.aload_n 2, 1) := by decide +kernel
theorem d_law_160 : decode code 160 = .ok (.invokevirtual 21, 3) := by decide +kernel
theorem d_law_163 : decode code 163 = .ok (.goto 430, 3) := by decide +kernel
theorem d_law_166 : decode code 166 = .ok (.aload_n 1, 1) := by decide +kernel
theorem d_law_167 : decode code 167 = .ok (.invokevirtual 22, 3) := by decide +kernel
theorem d_law_170 : decode code 170 = .ok (.aload_n 2, 1) := by decide +kernel
theorem d_law_171 : decode code 171 = .ok (.invokevirtual 26, 3) := by decide +kernel
theorem d_law_174 : decode code 174 = .ok (.if_icmp .eq 419, 3) := by decide +kernel
theorem d_law_177 : decode code 177 = .ok (.iconst 0, 1) := by decide +kernel
theorem d_law_178 : decode code 178 = .ok (.ireturn, 1) := by decide +kernel
theorem d_law_179 : decode code 179 = .ok (.aload_n 1, 1) := by decide +kernel
theorem d_law_180 : decode code 180 = .ok (.aload_n 0, 1) := by decide +kernel
theorem d_law_181 : decode code 181 = .ok (.iload_n 3, 1) := by decide +kernel
theorem d_law_182 : decode code 182 = .ok (.iconst 1, 1) := by decide +kernel
theorem d_law_183 : decode code 183 = .ok (.iadd, 1) := by decide +kernel
theorem d_law_184 : decode code 184 = .ok (.iaload, 1) := by decide +kernel
theorem d_law_185 : decode code 185 = .ok (.invokevirtual 27, 3) := by decide +kernel
theorem d_law_188 : decode code 188 = .ok (.aload_n 2, 1) := by decide +kernel
theorem d_law_189 : decode code 189 = .ok (.aload_n 0, 1) := by decide +kernel
theorem d_law_190 : decode code 190 = .ok (.iload_n 3, 1) := by decide +kernel
theorem d_law_191 : decode code 191 = .ok (.iconst 1, 1) := by decide +kernel
theorem d_law_192 : decode code 192 = .ok (.iadd, 1) := by decide +kernel
theorem d_law_193 : decode code 193 = .ok (.iaload, 1) := by decide +kernel
theorem d_law_194 : decode code 194 = .ok (.invokevirtual 30, 3) := by decide +kernel
theorem d_law_197 : decode code 197 = .ok (.if_icmp .eq 396, 3) := by decide +kernel
theorem d_law_200 : decode code 200 = .ok (.iconst 0, 1) := by decide +kernel
theorem d_law_201 : decode code 201 = .ok (.ireturn, 1) := by decide +kernel
theorem d_law_202 : decode code 202 = .ok (.aload_n 1, 1) := by decide +kernel
theorem d_law_203 : decode code 203 = .ok (.aload_n 0, 1) := by decide +kernel
theorem d_law_204 : decode code 204 = .ok (.iload_n 3, 1) := by decide +kernel
theorem d_law_205 : decode code 205 = .ok (.iconst 1, 1) := by decide +kernel
theorem d_law_206 : decode code 206 = .ok (.iadd, 1) := by decide +kernel
theorem d_law_207 : decode code 207 = .ok (.iaload, 1) := by decide +kernel
theorem d_law_208 : decode code 208 = .ok (.invokevirtual 31, 3) := by decide +kernel
theorem d_law_211 : decode code 211 = .ok (.aload_n 2, 1) := by decide +kernel
theorem d_law_212 : decode code 212 = .ok (.aload_n 0, 1) := by decide +kernel
theorem d_law_213 : decode code 213 = .ok (.iload_n 3, 1) := by decide +kernel
theorem d_law_214 : decode code 214 = .ok (.iconst 1, 1) := by decide +kernel
theorem d_law_215 : decode code 215 = .ok (.iadd, 1) := by decide +kernel
theorem d_law_216 : decode code 216 = .ok (.iaload, 1) := by decide +kernel
theorem d_law_217 : decode code 217 = .ok (.invokevirtual 34, 3) := by decide +kernel
theorem d_law_220 : decode code 220 = .ok (.if_icmp .eq 373, 3) := by decide +kernel
theorem d_law_223 : decode code 223 = .ok (.iconst 0, 1) := by decide +kernel
theorem d_law_224 : decode code 224 = .ok (.ireturn, 1) := by decide +kernel
theorem d_law_225 : decode code 225 = .ok (.aload_n 1, 1) := by decide +kernel
theorem d_law_226 : decode code 226 = .ok (.invokevirtual 35, 3) := by decide +kernel
theorem d_law_229 : decode code 229 = .ok (.aload_n 2, 1) := by decide +kernel
theorem d_law_230 : decode code 230 = .ok (.invokevirtual 38, 3) := by decide +kernel
theorem d_law_233 : decode code 233 = .ok (.if_icmp .eq 360, 3) := by decide +kernel
theorem d_law_236 : decode code 236 = .ok (.iconst 0, 1) := by decide +kernel
theorem d_law_237 : decode code 237 = .ok (.ireturn, 1) := by decide +kernel
theorem d_law_238 : decode code 238 = .ok (.aload_n 1, 1) := by decide +kernel
theorem d_law_239 : decode code 239 = .ok (.invokevirtual 39, 3) := by decide +kernel
theorem d_law_242 : decode code 242 = .ok (.aload_n 2, 1) := by decide +kernel
theorem d_law_243 : decode code 243 = .ok (.invokevirtual 42, 3) := by decide +kernel
theorem d_law_246 : decode code 246 = .ok (.if_icmp .eq 347, 3) := by decide +kernel
theorem d_law_249 : decode code 249 = .ok (.iconst 0, 1) := by decide +kernel
theorem d_law_250 : decode code 250 = .ok (.ireturn, 1) := by decide +kernel
theorem d_law_251 : decode code 251 = .ok (.aload_n 1, 1) := by decide +kernel
theorem d_law_252 : decode code 252 = .ok (.aload_n 0, 1) := by decide +kernel
theorem d_law_253 : decode code 253 = .ok (.iload_n 3, 1) := by decide +kernel
theorem d_law_254 : decode code 254 = .ok (.iconst 1, 1) := by decide +kernel
theorem d_law_255 : decode code 255 = .ok (.iadd, 1) := by decide +kernel
theorem d_law_256 : decode code 256 = .ok (.iaload, 1) := by decide +kernel
theorem d_law_257 : decode code 257 = .ok (.invokevirtual 43, 3) := by decide +kernel
theorem d_law_260 : decode code 260 = .ok (.aload_n 2, 1) := by decide +kernel
theorem d_law_261 : decode code 261 = .ok (.aload_n 0, 1) := by decide +kernel
theorem d_law_262 : decode code 262 = .ok (.iload_n 3, 1) := by decide +kernel
theorem d_law_263 : decode code 263 = .ok (.iconst 1, 1) := by decide +kernel
theorem d_law_264 : decode code 264 = .ok (.iadd, 1) := by decide +kernel
theorem d_law_265 : decode code 265 = .ok (.iaload, 1) := by decide +kernel
theorem d_law_266 : decode code 266 = .ok (.invokevirtual 46, 3) := by decide +kernel
theorem d_law_269 : decode code 269 = .ok (.if_icmp .eq 324, 3) := by decide +kernel
theorem d_law_272 : decode code 272 = .ok (.iconst 0, 1) := by decide +kernel
theorem d_law_273 : decode code 273 = .ok (.ireturn, 1) := by decide +kernel
theorem d_law_274 : decode code 274 = .ok (.aload_n 1, 1) := by decide +kernel
theorem d_law_275 : decode code 275 = .ok (.aload_n 0, 1) := by decide +kernel
theorem d_law_276 : decode code 276 = .ok (.iload_n 3, 1) := by decide +kernel
theorem d_law_277 : decode code 277 = .ok (.iconst 1, 1) := by decide +kernel
theorem d_law_278 : decode code 278 = .ok (.iadd, 1) := by decide +kernel
theorem d_law_279 : decode code 279 = .ok (.iaload, 1) := by decide +kernel
theorem d_law_280 : decode code 280 = .ok (.invokevirtual 47, 3) := by decide +kernel
theorem d_law_283 : decode code 283 = .ok (.aload_n 2, 1) := by decide +kernel
theorem d_law_284 : decode code 284 = .ok (.aload_n 0, 1) := by decide +kernel
theorem d_law_285 : decode code 285 = .ok (.iload_n 3, 1) := by decide +kernel
theorem d_law_286 : decode code 286 = .ok (.iconst 1, 1) := by decide +kernel
theorem d_law_287 : decode code 287 = .ok (.iadd, 1) := by decide +kernel
theorem d_law_288 : decode code 288 = .ok (.iaload, 1) := by decide +kernel
theorem d_law_289 : decode code 289 = .ok (.invokevirtual 50, 3) := by decide +kernel
theorem d_law_292 : decode code 292 = .ok (.if_icmp .eq 301, 3) := by decide +kernel
theorem d_law_295 : decode code 295 = .ok (.iconst 0, 1) := by decide +kernel
theorem d_law_296 : decode code 296 = .ok (.ireturn, 1) := by decide +kernel
theorem d_law_297 : decode code 297 = .ok (.aload_n 1, 1) := by decide +kernel
theorem d_law_298 : decode code 298 = .ok (.aload_n 0, 1) := by decide +kernel
theorem d_law_299 : decode code 299 = .ok (.iload_n 3, 1) := by decide +kernel
theorem d_law_300 : decode code 300 = .ok (.iconst 1, 1) := by decide +kernel
theorem d_law_301 : decode code 301 = .ok (.iadd, 1) := by decide +kernel
theorem d_law_302 : decode code 302 = .ok (.iaload, 1) := by decide +kernel
theorem d_law_303 : decode code 303 = .ok (.aload_n 0, 1) := by decide +kernel
theorem d_law_304 : decode code 304 = .ok (.iload_n 3, 1) := by decide +kernel
theorem d_law_305 : decode code 305 = .ok (.iconst 2, 1) := by decide +kernel
theorem d_law_306 : decode code 306 = .ok (.iadd, 1) := by decide +kernel
theorem d_law_307 : decode code 307 = .ok (.iaload, 1) := by decide +kernel
theorem d_law_308 : decode code 308 = .ok (.invokevirtual 51, 3) := by decide +kernel
theorem d_law_311 : decode code 311 = .ok (.aload_n 2, 1) := by decide +kernel
theorem d_law_312 : decode code 312 = .ok (.aload_n 0, 1) := by decide +kernel
theorem d_law_313 : decode code 313 = .ok (.iload_n 3, 1) := by decide +kernel
theorem d_law_314 : decode code 314 = .ok (.iconst 1, 1) := by decide +kernel
theorem d_law_315 : decode code 315 = .ok (.iadd, 1) := by decide +kernel
theorem d_law_316 : decode code 316 = .ok (.iaload, 1) := by decide +kernel
theorem d_law_317 : decode code 317 = .ok (.aload_n 0, 1) := by decide +kernel
theorem d_law_318 : decode code 318 = .ok (.iload_n 3, 1) := by decide +kernel
theorem d_law_319 : decode code 319 = .ok (.iconst 2, 1) := by decide +kernel
theorem d_law_320 : decode code 320 = .ok (.iadd, 1) := by decide +kernel
theorem d_law_321 : decode code 321 = .ok (.iaload, 1) := by decide +kernel
theorem d_law_322 : decode code 322 = .ok (.invokevirtual 55, 3) := by decide +kernel
theorem d_law_325 : decode code 325 = .ok (.if_icmp .eq 268, 3) := by decide +kernel
theorem d_law_328 : decode code 328 = .ok (.iconst 0, 1) := by decide +kernel
theorem d_law_329 : decode code 329 = .ok (.ireturn, 1) := by decide +kernel
theorem d_law_330 : decode code 330 = .ok (.aload_n 1, 1) := by decide +kernel
theorem d_law_331 : decode code 331 = .ok (.aload_n 0, 1) := by decide +kernel
theorem d_law_332 : decode code 332 = .ok (.iload_n 3, 1) := by decide +kernel
theorem d_law_333 : decode code 333 = .ok (.iconst 1, 1) := by decide +kernel
theorem d_law_334 : decode code 334 = .ok (.iadd, 1) := by decide +kernel
theorem d_law_335 : decode code 335 = .ok (.iaload, 1) := by decide +kernel
theorem d_law_336 : decode code 336 = .ok (.aload_n 0, 1) := by decide +kernel
theorem d_law_337 : decode code 337 = .ok (.iload_n 3, 1) := by decide +kernel
theorem d_law_338 : decode code 338 = .ok (.iconst 2, 1) := by decide +kernel
theorem d_law_339 : decode code 339 = .ok (.iadd, 1) := by decide +kernel
theorem d_law_340 : decode code 340 = .ok (.iaload, 1) := by decide +kernel
theorem d_law_341 : decode code 341 = .ok (.invokevirtual 56, 3) := by decide +kernel
theorem d_law_344 : decode code 344 = .ok (.aload_n 2, 1) := by decide +kernel
theorem d_law_345 : decode code 345 = .ok (.aload_n 0, 1) := by decide +kernel
theorem d_law_346 : decode code 346 = .ok (.iload_n 3, 1) := by decide +kernel
theorem d_law_347 : decode code 347 = .ok (.iconst 1, 1) := by decide +kernel
theorem d_law_348 : decode code 348 = .ok (.iadd, 1) := by decide +kernel
theorem d_law_349 : decode code 349 = .ok (.iaload, 1) := by decide +kernel
theorem d_law_350 : decode code 350 = .ok (.aload_n 0, 1) := by decide +kernel
theorem d_law_351 : decode code 351 = .ok (.iload_n 3, 1) := by decide +kernel
theorem d_law_352 : decode code 352 = .ok (.iconst 2, 1) := by decide +kernel
theorem d_law_353 : decode code 353 = .ok (.iadd, 1) := by decide +kernel
theorem d_law_354 : decode code 354 = .ok (.iaload, 1) := by decide +kernel
theorem d_law_355 : decode code 355 = .ok (.invokevirtual 59, 3) := by decide +kernel
theorem d_law_358 : decode code 358 = .ok (.if_icmp .eq 235, 3) := by decide +kernel
theorem d_law_361 : decode code 361 = .ok (.iconst 0, 1) := by decide +kernel
theorem d_law_362 : decode code 362 = .ok (.ireturn, 1) := by decide +kernel
theorem d_law_363 : decode code 363 = .ok (.aload_n 1, 1) := by decide +kernel
theorem d_law_364 : decode code 364 = .ok (.invokevirtual 60, 3) := by decide +kernel
theorem d_law_367 : decode code 367 = .ok (.aload_n 2, 1) := by decide +kernel
theorem d_law_368 : decode code 368 = .ok (.invokevirtual 63, 3) := by decide +kernel
theorem d_law_371 : decode code 371 = .ok (.if_icmp .eq 222, 3) := by decide +kernel
theorem d_law_374 : decode code 374 = .ok (.iconst 0, 1) := by decide +kernel
theorem d_law_375 : decode code 375 = .ok (.ireturn, 1) := by decide +kernel
theorem d_law_376 : decode code 376 = .ok (.aload_n 1, 1) := by decide +kernel
theorem d_law_377 : decode code 377 = .ok (.aload_n 0, 1) := by decide +kernel
theorem d_law_378 : decode code 378 = .ok (.iload_n 3, 1) := by decide +kernel
theorem d_law_379 : decode code 379 = .ok (.iconst 1, 1) := by decide +kernel
theorem d_law_380 : decode code 380 = .ok (.iadd, 1) := by decide +kernel
theorem d_law_381 : decode code 381 = .ok (.iaload, 1) := by decide +kernel
theorem d_law_382 : decode code 382 = .ok (.aload_n 0, 1) := by decide +kernel
theorem d_law_383 : decode code 383 = .ok (.iload_n 3, 1) := by decide +kernel
theorem d_law_384 : decode code 384 = .ok (.iconst 2, 1) := by decide +kernel
theorem d_law_385 : decode code 385 = .ok (.iadd, 1) := by decide +kernel
theorem d_law_386 : decode code 386 = .ok (.iaload, 1) := by decide +kernel
theorem d_law_387 : decode code 387 = .ok (.invokevirtual 64, 3) := by decide +kernel
theorem d_law_390 : decode code 390 = .ok (.aload_n 2, 1) := by decide +kernel
theorem d_law_391 : decode code 391 = .ok (.aload_n 0, 1) := by decide +kernel
theorem d_law_392 : decode code 392 = .ok (.iload_n 3, 1) := by decide +kernel
theorem d_law_393 : decode code 393 = .ok (.iconst 1, 1) := by decide +kernel
theorem d_law_394 : decode code 394 = .ok (.iadd, 1) := by decide +kernel
theorem d_law_395 : decode code 395 = .ok (.iaload, 1) := by decide +kernel
theorem d_law_396 : decode code 396 = .ok (.aload_n 0, 1) := by decide +kernel
theorem d_law_397 : decode code 397 = .ok (.iload_n 3, 1) := by decide +kernel
theorem d_law_398 : decode code 398 = .ok (.iconst 2, 1) := by decide +kernel
theorem d_law_399 : decode code 399 = .ok (.iadd, 1) := by decide +kernel
theorem d_law_400 : decode code 400 = .ok (.iaload, 1) := by decide +kernel
theorem d_law_401 : decode code 401 = .ok (.invokevirtual 67, 3) := by decide +kernel
theorem d_law_404 : decode code 404 = .ok (.if_icmp .eq 189, 3) := by decide +kernel
theorem d_law_407 : decode code 407 = .ok (.iconst 0, 1) := by decide +kernel
theorem d_law_408 : decode code 408 = .ok (.ireturn, 1) := by decide +kernel
theorem d_law_409 : decode code 409 = .ok (.aload_n 1, 1) := by decide +kernel
theorem d_law_410 : decode code 410 = .ok (.aload_n 0, 1) := by decide +kernel
theorem d_law_411 : decode code 411 = .ok (.iload_n 3, 1) := by decide +kernel
theorem d_law_412 : decode code 412 = .ok (.iconst 1, 1) := by decide +kernel
theorem d_law_413 : decode code 413 = .ok (.iadd, 1) := by decide +kernel
theorem d_law_414 : decode code 414 = .ok (.iaload, 1) := by decide +kernel
theorem d_law_415 : decode code 415 = .ok (.aload_n 0, 1) := by decide +kernel
theorem d_law_416 : decode code 416 = .ok (.iload_n 3, 1) := by decide +kernel
theorem d_law_417 : decode code 417 = .ok (.iconst 2, 1) := by decide +kernel
theorem d_law_418 : decode code 418 = .ok (.iadd, 1) := by decide +kernel
theorem d_law_419 : decode code 419 = .ok (.iaload, 1) := by decide +kernel
theorem d_law_420 : decode code 420 = .ok (.invokevirtual 68, 3) := by decide +kernel
theorem d_law_423 : decode code 423 = .ok (.aload_n 2, 1) := by decide +kernel
theorem d_law_424 : decode code 424 = .ok (.aload_n 0, 1) := by decide +kernel
theorem d_law_425 : decode code 425 = .ok (.iload_n 3, 1) := by decide +kernel
theorem d_law_426 : decode code 426 = .ok (.iconst 1, 1) := by decide +kernel
theorem d_law_427 : decode code 427 = .ok (.iadd, 1) := by decide +kernel
theorem d_law_428 : decode code 428 = .ok (.iaload, 1) := by decide +kernel
theorem d_law_429 : decode code 429 = .ok (.aload_n 0, 1) := by decide +kernel
theorem d_law_430 : decode code 430 = .ok (.iload_n 3, 1) := by decide +kernel
theorem d_law_431 : decode code 431 = .ok (.iconst 2, 1) := by decide +kernel
theorem d_law_432 : decode code 432 = .ok (.iadd, 1) := by decide +kernel
theorem d_law_433 : decode code 433 = .ok (.iaload, 1) := by decide +kernel
theorem d_law_434 : decode code 434 = .ok (.invokevirtual 71, 3) := by decide +kernel
theorem d_law_437 : decode code 437 = .ok (.if_icmp .eq 156, 3) := by decide +kernel
theorem d_law_440 : decode code 440 = .ok (.iconst 0, 1) := by decide +kernel
theorem d_law_441 : decode code 441 = .ok (.ireturn, 1) := by decide +kernel
theorem d_law_442 : decode code 442 = .ok (.aload_n 1, 1) := by decide +kernel
theorem d_law_443 : decode code 443 = .ok (.aload_n 0, 1) := by decide +kernel
theorem d_law_444 : decode code 444 = .ok (.iload_n 3, 1) := by decide +kernel
theorem d_law_445 : decode code 445 = .ok (.iconst 1, 1) := by decide +kernel
theorem d_law_446 : decode code 446 = .ok (.iadd, 1) := by decide +kernel
theorem d_law_447 : decode code 447 = .ok (.iaload, 1) := by decide +kernel
theorem d_law_448 : decode code 448 = .ok (.aload_n 0, 1) := by decide +kernel
theorem d_law_449 : decode code 449 = .ok (.iload_n 3, 1) := by decide +kernel
theorem d_law_450 : decode code 450 = .ok (.iconst 2, 1) := by decide +kernel
theorem d_law_451 : decode code 451 = .ok (.iadd, 1) := by decide +kernel
theorem d_law_452 : decode code 452 = .ok (.iaload, 1) := by decide +kernel
theorem d_law_453 : decode code 453 = .ok (.invokevirtual 72, 3) := by decide +kernel
theorem d_law_456 : decode code 456 = .ok (.aload_n 2, 1) := by decide +kernel
theorem d_law_457 : decode code 457 = .ok (.aload_n 0, 1) := by decide +kernel
theorem d_law_458 : decode code 458 = .ok (.iload_n 3, 1) := by decide +kernel
theorem d_law_459 : decode code 459 = .ok (.iconst 1, 1) := by decide +kernel
theorem d_law_460 : decode code 460 = .ok (.iadd, 1) := by decide +kernel
theorem d_law_461 : decode code 461 = .ok (.iaload, 1) := by decide +kernel
theorem d_law_462 : decode code 462 = .ok (.aload_n 0, 1) := by decide +kernel
theorem d_law_463 : decode code 463 = .ok (.iload_n 3, 1) := by decide +kernel
theorem d_law_464 : decode code 464 = .ok (.iconst 2, 1) := by decide +kernel
theorem d_law_465 : decode code 465 = .ok (.iadd, 1) := by decide +kernel
theorem d_law_466 : decode code 466 = .ok (.iaload, 1) := by decide +kernel
theorem d_law_467 : decode code 467 = .ok (.invokevirtual 75, 3) := by decide +kernel
theorem d_law_470 : decode code 470 = .ok (.if_icmp .eq 123, 3) := by decide +kernel
theorem d_law_473 : decode code 473 = .ok (.iconst 0, 1) := by decide +kernel
theorem d_law_474 : decode code 474 = .ok (.ireturn, 1) := by decide +kernel
theorem d_law_475 : decode code 475 = .ok (.aload_n 1, 1) := by decide +kernel
theorem d_law_476 : decode code 476 = .ok (.aload_n 0, 1) := by decide +kernel
theorem d_law_477 : decode code 477 = .ok (.iload_n 3, 1) := by decide +kernel
theorem d_law_478 : decode code 478 = .ok (.iconst 1, 1) := by decide +kernel
theorem d_law_479 : decode code 479 = .ok (.iadd, 1) := by decide +kernel
theorem d_law_480 : decode code 480 = .ok (.iaload, 1) := by decide +kernel
theorem d_law_481 : decode code 481 = .ok (.invokevirtual 76, 3) := by decide +kernel
theorem d_law_484 : decode code 484 = .ok (.aload_n 2, 1) := by decide +kernel
theorem d_law_485 : decode code 485 = .ok (.aload_n 0, 1) := by decide +kernel
theorem d_law_486 : decode code 486 = .ok (.iload_n 3, 1) := by decide +kernel
theorem d_law_487 : decode code 487 = .ok (.iconst 1, 1) := by decide +kernel
theorem d_law_488 : decode code 488 = .ok (.iadd, 1) := by decide +kernel
theorem d_law_489 : decode code 489 = .ok (.iaload, 1) := by decide +kernel
theorem d_law_490 : decode code 490 = .ok (.invokevirtual 79, 3) := by decide +kernel
theorem d_law_493 : decode code 493 = .ok (.if_icmp .eq 100, 3) := by decide +kernel
theorem d_law_496 : decode code 496 = .ok (.iconst 0, 1) := by decide +kernel
theorem d_law_497 : decode code 497 = .ok (.ireturn, 1) := by decide +kernel
theorem d_law_498 : decode code 498 = .ok (.aload_n 1, 1) := by decide +kernel
theorem d_law_499 : decode code 499 = .ok (.aload_n 0, 1) := by decide +kernel
theorem d_law_500 : decode code 500 = .ok (.iload_n 3, 1) := by decide +kernel
theorem d_law_501 : decode code 501 = .ok (.iconst 1, 1) := by decide +kernel
theorem d_law_502 : decode code 502 = .ok (.iadd, 1) := by decide +kernel
theorem d_law_503 : decode code 503 = .ok (.iaload, 1) := by decide +kernel
theorem d_law_504 : decode code 504 = .ok (.aload_n 0, 1) := by decide +kernel
theorem d_law_505 : decode code 505 = .ok (.iload_n 3, 1) := by decide +kernel
theorem d_law_506 : decode code 506 = .ok (.iconst 2, 1) := by decide +kernel
theorem d_law_507 : decode code 507 = .ok (.iadd, 1) := by decide +kernel
theorem d_law_508 : decode code 508 = .ok (.iaload, 1) := by decide +kernel
theorem d_law_509 : decode code 509 = .ok (.invokevirtual 80, 3) := by decide +kernel
theorem d_law_512 : decode code 512 = .ok (.aload_n 2, 1) := by decide +kernel
theorem d_law_513 : decode code 513 = .ok (.aload_n 0, 1) := by decide +kernel
theorem d_law_514 : decode code 514 = .ok (.iload_n 3, 1) := by decide +kernel
theorem d_law_515 : decode code 515 = .ok (.iconst 1, 1) := by decide +kernel
theorem d_law_516 : decode code 516 = .ok (.iadd, 1) := by decide +kernel
theorem d_law_517 : decode code 517 = .ok (.iaload, 1) := by decide +kernel
theorem d_law_518 : decode code 518 = .ok (.aload_n 0, 1) := by decide +kernel
theorem d_law_519 : decode code 519 = .ok (.iload_n 3, 1) := by decide +kernel
theorem d_law_520 : decode code 520 = .ok (.iconst 2, 1) := by decide +kernel
theorem d_law_521 : decode code 521 = .ok (.iadd, 1) := by decide +kernel
theorem d_law_522 : decode code 522 = .ok (.iaload, 1) := by decide +kernel
theorem d_law_523 : decode code 523 = .ok (.invokevirtual 83, 3) := by decide +kernel
theorem d_law_526 : decode code 526 = .ok (.if_icmp .eq 67, 3) := by decide +kernel
theorem d_law_529 : decode code 529 = .ok (.iconst 0, 1) := by decide +kernel
theorem d_law_530 : decode code 530 = .ok (.ireturn, 1) := by decide +kernel
theorem d_law_531 : decode code 531 = .ok (.aload_n 1, 1) := by decide +kernel
theorem d_law_532 : decode code 532 = .ok (.invokevirtual 84, 3) := by decide +kernel
theorem d_law_535 : decode code 535 = .ok (.aload_n 2, 1) := by decide +kernel
theorem d_law_536 : decode code 536 = .ok (.invokevirtual 87, 3) := by decide +kernel
theorem d_law_539 : decode code 539 = .ok (.if_icmp .eq 54, 3) := by decide +kernel
theorem d_law_542 : decode code 542 = .ok (.iconst 0, 1) := by decide +kernel
theorem d_law_543 : decode code 543 = .ok (.ireturn, 1) := by decide +kernel
theorem d_law_544 : decode code 544 = .ok (.aload_n 1, 1) := by decide +kernel
theorem d_law_545 : decode code 545 = .ok (.invokevirtual 88, 3) := by decide +kernel
theorem d_law_548 : decode code 548 = .ok (.aload_n 2, 1) := by decide +kernel
theorem d_law_549 : decode code 549 = .ok (.invokevirtual 91, 3) := by decide +kernel
theorem d_law_552 : decode code 552 = .ok (.if_icmp .eq 41, 3) := by decide +kernel
theorem d_law_555 : decode code 555 = .ok (.iconst 0, 1) := by decide +kernel
theorem d_law_556 : decode code 556 = .ok (.ireturn, 1) := by decide +kernel
theorem d_law_557 : decode code 557 = .ok (.aload_n 1, 1) := by decide +kernel
theorem d_law_558 : decode code 558 = .ok (.aload_n 0, 1) := by decide +kernel
theorem d_law_559 : decode code 559 = .ok (.iload_n 3, 1) := by decide +kernel
theorem d_law_560 : decode code 560 = .ok (.iconst 1, 1) := by decide +kernel
theorem d_law_561 : decode code 561 = .ok (.iadd, 1) := by decide +kernel
theorem d_law_562 : decode code 562 = .ok (.iaload, 1) := by decide +kernel
theorem d_law_563 : decode code 563 = .ok (.invokevirtual 92, 3) := by decide +kernel
theorem d_law_566 : decode code 566 = .ok (.aload_n 2, 1) := by decide +kernel
theorem d_law_567 : decode code 567 = .ok (.aload_n 0, 1) := by decide +kernel
theorem d_law_568 : decode code 568 = .ok (.iload_n 3, 1) := by decide +kernel
theorem d_law_569 : decode code 569 = .ok (.iconst 1, 1) := by decide +kernel
theorem d_law_570 : decode code 570 = .ok (.iadd, 1) := by decide +kernel
theorem d_law_571 : decode code 571 = .ok (.iaload, 1) := by decide +kernel
theorem d_law_572 : decode code 572 = .ok (.invokevirtual 95, 3) := by decide +kernel
theorem d_law_575 : decode code 575 = .ok (.if_icmp .eq 18, 3) := by decide +kernel
theorem d_law_578 : decode code 578 = .ok (.iconst 0, 1) := by decide +kernel
theorem d_law_579 : decode code 579 = .ok (.ireturn, 1) := by decide +kernel
theorem d_law_580 : decode code 580 = .ok (.aload_n 1, 1) := by decide +kernel
theorem d_law_581 : decode code 581 = .ok (.invokevirtual 96, 3) := by decide +kernel
theorem d_law_584 : decode code 584 = .ok (.aload_n 2, 1) := by decide +kernel
theorem d_law_585 : decode code 585 = .ok (.invokevirtual 99, 3) := by decide +kernel
theorem d_law_588 : decode code 588 = .ok (.if_icmp .eq 5, 3) := by decide +kernel
theorem d_law_591 : decode code 591 = .ok (.iconst 0, 1) := by decide +kernel
theorem d_law_592 : decode code 592 = .ok (.ireturn, 1) := by decide +kernel
theorem d_law_593 : decode code 593 = .ok (.iinc 3 3, 3) := by decide +kernel
theorem d_law_596 : decode code 596 = .ok (.goto (-578), 3) := by decide +kernel
theorem d_law_599 : decode code 599 = .ok (.iconst 1, 1) := by decide +kernel
theorem d_law_600 : decode code 600 = .ok (.ireturn, 1) := by decide +kernel
end
section
/-! ===== THE CALCULUS J: a method's walk over pure data ===== -/
abbrev jE : Type := Program × Launch × Env × Room × State × MethodId × Array Value × List Frame × Method × Code × va_G × ClassId × ClassId × (Nat → Prop) × Nat × Nat
abbrev eP (E : jE) : Program := E.1
abbrev eL (E : jE) : Launch := E.2.1
abbrev eE (E : jE) : Env := E.2.2.1
abbrev eR (E : jE) : Room := E.2.2.2.1
abbrev eS (E : jE) : State := E.2.2.2.2.1
abbrev eM (E : jE) : MethodId := E.2.2.2.2.2.1
abbrev eA (E : jE) : Array Value := E.2.2.2.2.2.2.1
abbrev eB (E : jE) : List Frame := E.2.2.2.2.2.2.2.1
abbrev eT (E : jE) : Method := E.2.2.2.2.2.2.2.2.1
abbrev eC (E : jE) : Code := E.2.2.2.2.2.2.2.2.2.1
abbrev eD (E : jE) : va_G := E.2.2.2.2.2.2.2.2.2.2.1
abbrev eI (E : jE) : ClassId := E.2.2.2.2.2.2.2.2.2.2.2.1
abbrev eZ (E : jE) : ClassId := E.2.2.2.2.2.2.2.2.2.2.2.2.1
abbrev eF (E : jE) : Nat → Prop := E.2.2.2.2.2.2.2.2.2.2.2.2.2.1
abbrev eX (E : jE) : Nat := E.2.2.2.2.2.2.2.2.2.2.2.2.2.2.1
abbrev eY (E : jE) : Nat := E.2.2.2.2.2.2.2.2.2.2.2.2.2.2.2
abbrev tyz (cI cZ : ClassId) : List (ClassId × FieldType) := [(cI, .int), (cZ, .boolean)]
def jS (E : jE) (ws : va_W) (H : Heap) (locs : List Loc) : Prop := va_P (eD E) classes ws H ∧ va_D (eF E) ws ∧ va_S (eF E) (eS E).heap H locs
/-- what stays through a walk: the machine, the code, the words, the tables, the room of k calls -/
def jC (E : jE) (cc : ByteArray) (own : String) (nL k : Nat) : Prop := (eP E).tables.exec = Jvm.exec ∧ (eC E).code = cc ∧ (eC E).maxLocals = nL ∧ (eS E).vm.findClass own = some (eM E).cls ∧ (∀ w ∈ wT, w.before (eA E) (eS E) = true) ∧ va_K (eD E) classes (tyz (eI E) (eZ E)) (eS E) ∧ (∀ q, (eS E).heap.size ≤ q → eF E q) ∧ (eT E).locks = false ∧ (k ≤ (eR E).frames ∧ 27 * k ≤ (eR E).locals ∧ eX E ≤ (eR E).cells ∧ eY E ≤ (eR E).slots)
def hL (ls : Array Slot) (nL : Nat) (L : Nat → Option Value) : Prop := ls.size = nL ∧ lv_wf ls ∧ ∀ i v, L i = some v → ls[i]? = some (.val v) ∧ v.category = 1
def m8 (l0 l1 l2 l3 l4 l5 l6 l7 : Option Value) : Nat → Option Value := fun i => match i with
  | 0 => l0
  | 1 => l1
  | 2 => l2
  | 3 => l3
  | 4 => l4
  | 5 => l5
  | 6 => l6
  | 7 => l7
  | _ => none
def lst (L : Nat → Option Value) : List (Nat × Value) := (List.range 8).filterMap (fun i => (L i).map (fun v => (i, v)))
theorem lst_mem {L : Nat → Option Value} {i : Nat} {v : Value} : (i, v) ∈ lst L ↔ i < 8 ∧ L i = some v := by
  unfold lst
  rw [List.mem_filterMap]
  constructor
  · rintro ⟨a, ha, h⟩
    cases hL : L a with
    | none => rw [hL] at h; cases h
    | some w =>
      rw [hL] at h
      cases h
      exact ⟨List.mem_range.mp ha, hL⟩
  · rintro ⟨h1, h2⟩
    exact ⟨i, List.mem_range.mpr h1, by rw [h2]; rfl⟩
theorem hL_has {ls : Array Slot} {nL : Nat} {L : Nat → Option Value} (h : hL ls nL L) : lv_has ls nL (lst L) := ⟨h.1, h.2.1, fun q hq => (h.2.2 q.1 q.2 (lst_mem.mp hq).2).1⟩
theorem hL_put {ls ls' : Array Slot} {nL i : Nat} {v : Value} {L L' : Nat → Option Value} (h : hL ls nL L) (hv : v.category = 1) (h8 : ∀ j, 8 ≤ j → L j = none)
    (h' : lv_has ls' nL ((i, v) :: (lst L).filter (fun q => !(q.1 == i) && !(q.1 + 1 == i && q.2.category == 2)))) (hL' : ∀ j, L' j = if j = i then some v else L j) : hL ls' nL L' := by
  refine ⟨h'.1, h'.2.1, fun j w hj => ?_⟩
  rw [hL' j] at hj
  by_cases hji : j = i
  · rw [if_pos hji] at hj
    cases hj
    subst hji
    exact ⟨h'.2.2 (j, v) List.mem_cons_self, hv⟩
  · rw [if_neg hji] at hj
    have hc := (h.2.2 j w hj).2
    refine ⟨h'.2.2 (j, w) (List.mem_cons_of_mem _ (List.mem_filter.mpr ⟨lst_mem.mpr ⟨?_, hj⟩, ?_⟩)), hc⟩
    · rcases Nat.lt_or_ge j 8 with q | q
      · exact q
      · rw [h8 j q] at hj; cases hj
    · simp [hji, hc]
theorem m8_none {l0 l1 l2 l3 l4 l5 l6 l7 : Option Value} : ∀ j, 8 ≤ j → m8 l0 l1 l2 l3 l4 l5 l6 l7 j = none := by
  intro j hj
  match j, hj with
  | j + 8, _ => rfl
def J (E : jE) (Q : State → Prop) (ws : va_W) (l0 l1 l2 l3 l4 l5 l6 l7 : Option Value) (pc : Nat) (st : List Value) : Prop :=
  ∀ (H : Heap) (locs : List Loc) (ls : Array Slot), jS E ws H locs → hL ls (eC E).maxLocals (m8 l0 l1 l2 l3 l4 l5 l6 l7) → W (eP E) (eL E) (eE E) (eR E) (eS E) (eM E) (eA E) (eB E) (eT E) (eC E) H locs (eX E) (eY E) Q (F0 (eM E) pc ls st)
section JR
variable {E : jE} {Q : State → Prop} {ws : va_W} {l0 l1 l2 l3 l4 l5 l6 l7 : Option Value} {pc : Nat} {st : List Value} {cc : ByteArray} {own : String} {nL kR : Nat}
theorem j_iconst (hC : jC E cc own nL kR) {n : Int} {v : Int32} (hv : Int32.ofInt n = v) (hdg : decode cc pc = .ok (.iconst n, 1)) (k : J E Q ws l0 l1 l2 l3 l4 l5 l6 l7 (pc + 1) (.int v :: st)) : J E Q ws l0 l1 l2 l3 l4 l5 l6 l7 pc st := fun H locs ls hS hl => lv_iconst hC.1 hC.2.1 hdg hv (k H locs ls hS hl)
theorem j_bipush (hC : jC E cc own nL kR) {n : Int} {v : Int32} (hv : (Int8.ofInt n).toInt32 = v) (hdg : decode cc pc = .ok (.bipush n, 2)) (k : J E Q ws l0 l1 l2 l3 l4 l5 l6 l7 (pc + 2) (.int v :: st)) : J E Q ws l0 l1 l2 l3 l4 l5 l6 l7 pc st := fun H locs ls hS hl => lv_bipush hC.1 hC.2.1 hdg hv (k H locs ls hS hl)
theorem j_sipush (hC : jC E cc own nL kR) {n : Int} {v : Int32} (hv : (Int16.ofInt n).toInt32 = v) (hdg : decode cc pc = .ok (.sipush n, 3)) (k : J E Q ws l0 l1 l2 l3 l4 l5 l6 l7 (pc + 3) (.int v :: st)) : J E Q ws l0 l1 l2 l3 l4 l5 l6 l7 pc st := fun H locs ls hS hl => lv_sipush hC.1 hC.2.1 hdg hv (k H locs ls hS hl)
theorem j_iload_0 (hC : jC E cc own nL kR) {x : Int32} (hdg : decode cc pc = .ok (.iload_n 0, 1)) (k : J E Q ws (some (.int x)) l1 l2 l3 l4 l5 l6 l7 (pc + 1) (.int x :: st)) : J E Q ws (some (.int x)) l1 l2 l3 l4 l5 l6 l7 pc st := fun H locs ls hS hl => lv_iload_n hC.1 hC.2.1 hdg rfl (hl.2.2 0 (.int x) rfl).1 (k H locs ls hS hl)
theorem j_aload_0 (hC : jC E cc own nL kR) {x : Nat} (hdg : decode cc pc = .ok (.aload_n 0, 1)) (k : J E Q ws (some (.ref x)) l1 l2 l3 l4 l5 l6 l7 (pc + 1) (.ref x :: st)) : J E Q ws (some (.ref x)) l1 l2 l3 l4 l5 l6 l7 pc st := fun H locs ls hS hl => lv_aload_n hC.1 hC.2.1 hdg rfl (hl.2.2 0 (.ref x) rfl).1 (k H locs ls hS hl)
theorem j_iload_1 (hC : jC E cc own nL kR) {x : Int32} (hdg : decode cc pc = .ok (.iload_n 1, 1)) (k : J E Q ws l0 (some (.int x)) l2 l3 l4 l5 l6 l7 (pc + 1) (.int x :: st)) : J E Q ws l0 (some (.int x)) l2 l3 l4 l5 l6 l7 pc st := fun H locs ls hS hl => lv_iload_n hC.1 hC.2.1 hdg rfl (hl.2.2 1 (.int x) rfl).1 (k H locs ls hS hl)
theorem j_aload_1 (hC : jC E cc own nL kR) {x : Nat} (hdg : decode cc pc = .ok (.aload_n 1, 1)) (k : J E Q ws l0 (some (.ref x)) l2 l3 l4 l5 l6 l7 (pc + 1) (.ref x :: st)) : J E Q ws l0 (some (.ref x)) l2 l3 l4 l5 l6 l7 pc st := fun H locs ls hS hl => lv_aload_n hC.1 hC.2.1 hdg rfl (hl.2.2 1 (.ref x) rfl).1 (k H locs ls hS hl)
theorem j_iload_2 (hC : jC E cc own nL kR) {x : Int32} (hdg : decode cc pc = .ok (.iload_n 2, 1)) (k : J E Q ws l0 l1 (some (.int x)) l3 l4 l5 l6 l7 (pc + 1) (.int x :: st)) : J E Q ws l0 l1 (some (.int x)) l3 l4 l5 l6 l7 pc st := fun H locs ls hS hl => lv_iload_n hC.1 hC.2.1 hdg rfl (hl.2.2 2 (.int x) rfl).1 (k H locs ls hS hl)
theorem j_aload_2 (hC : jC E cc own nL kR) {x : Nat} (hdg : decode cc pc = .ok (.aload_n 2, 1)) (k : J E Q ws l0 l1 (some (.ref x)) l3 l4 l5 l6 l7 (pc + 1) (.ref x :: st)) : J E Q ws l0 l1 (some (.ref x)) l3 l4 l5 l6 l7 pc st := fun H locs ls hS hl => lv_aload_n hC.1 hC.2.1 hdg rfl (hl.2.2 2 (.ref x) rfl).1 (k H locs ls hS hl)
theorem j_iload_3 (hC : jC E cc own nL kR) {x : Int32} (hdg : decode cc pc = .ok (.iload_n 3, 1)) (k : J E Q ws l0 l1 l2 (some (.int x)) l4 l5 l6 l7 (pc + 1) (.int x :: st)) : J E Q ws l0 l1 l2 (some (.int x)) l4 l5 l6 l7 pc st := fun H locs ls hS hl => lv_iload_n hC.1 hC.2.1 hdg rfl (hl.2.2 3 (.int x) rfl).1 (k H locs ls hS hl)
theorem j_aload_3 (hC : jC E cc own nL kR) {x : Nat} (hdg : decode cc pc = .ok (.aload_n 3, 1)) (k : J E Q ws l0 l1 l2 (some (.ref x)) l4 l5 l6 l7 (pc + 1) (.ref x :: st)) : J E Q ws l0 l1 l2 (some (.ref x)) l4 l5 l6 l7 pc st := fun H locs ls hS hl => lv_aload_n hC.1 hC.2.1 hdg rfl (hl.2.2 3 (.ref x) rfl).1 (k H locs ls hS hl)
theorem j_iload_4 (hC : jC E cc own nL kR) {x : Int32} (hdg : decode cc pc = .ok (.iload 4, 2)) (k : J E Q ws l0 l1 l2 l3 (some (.int x)) l5 l6 l7 (pc + 2) (.int x :: st)) : J E Q ws l0 l1 l2 l3 (some (.int x)) l5 l6 l7 pc st := fun H locs ls hS hl => lv_iload hC.1 hC.2.1 hdg (hl.2.2 4 (.int x) rfl).1 (k H locs ls hS hl)
theorem j_aload_4 (hC : jC E cc own nL kR) {x : Nat} (hdg : decode cc pc = .ok (.aload 4, 2)) (k : J E Q ws l0 l1 l2 l3 (some (.ref x)) l5 l6 l7 (pc + 2) (.ref x :: st)) : J E Q ws l0 l1 l2 l3 (some (.ref x)) l5 l6 l7 pc st := fun H locs ls hS hl => lv_aload hC.1 hC.2.1 hdg (hl.2.2 4 (.ref x) rfl).1 (k H locs ls hS hl)
theorem j_iload_5 (hC : jC E cc own nL kR) {x : Int32} (hdg : decode cc pc = .ok (.iload 5, 2)) (k : J E Q ws l0 l1 l2 l3 l4 (some (.int x)) l6 l7 (pc + 2) (.int x :: st)) : J E Q ws l0 l1 l2 l3 l4 (some (.int x)) l6 l7 pc st := fun H locs ls hS hl => lv_iload hC.1 hC.2.1 hdg (hl.2.2 5 (.int x) rfl).1 (k H locs ls hS hl)
theorem j_aload_5 (hC : jC E cc own nL kR) {x : Nat} (hdg : decode cc pc = .ok (.aload 5, 2)) (k : J E Q ws l0 l1 l2 l3 l4 (some (.ref x)) l6 l7 (pc + 2) (.ref x :: st)) : J E Q ws l0 l1 l2 l3 l4 (some (.ref x)) l6 l7 pc st := fun H locs ls hS hl => lv_aload hC.1 hC.2.1 hdg (hl.2.2 5 (.ref x) rfl).1 (k H locs ls hS hl)
theorem j_iload_6 (hC : jC E cc own nL kR) {x : Int32} (hdg : decode cc pc = .ok (.iload 6, 2)) (k : J E Q ws l0 l1 l2 l3 l4 l5 (some (.int x)) l7 (pc + 2) (.int x :: st)) : J E Q ws l0 l1 l2 l3 l4 l5 (some (.int x)) l7 pc st := fun H locs ls hS hl => lv_iload hC.1 hC.2.1 hdg (hl.2.2 6 (.int x) rfl).1 (k H locs ls hS hl)
theorem j_aload_6 (hC : jC E cc own nL kR) {x : Nat} (hdg : decode cc pc = .ok (.aload 6, 2)) (k : J E Q ws l0 l1 l2 l3 l4 l5 (some (.ref x)) l7 (pc + 2) (.ref x :: st)) : J E Q ws l0 l1 l2 l3 l4 l5 (some (.ref x)) l7 pc st := fun H locs ls hS hl => lv_aload hC.1 hC.2.1 hdg (hl.2.2 6 (.ref x) rfl).1 (k H locs ls hS hl)
theorem j_iload_7 (hC : jC E cc own nL kR) {x : Int32} (hdg : decode cc pc = .ok (.iload 7, 2)) (k : J E Q ws l0 l1 l2 l3 l4 l5 l6 (some (.int x)) (pc + 2) (.int x :: st)) : J E Q ws l0 l1 l2 l3 l4 l5 l6 (some (.int x)) pc st := fun H locs ls hS hl => lv_iload hC.1 hC.2.1 hdg (hl.2.2 7 (.int x) rfl).1 (k H locs ls hS hl)
theorem j_aload_7 (hC : jC E cc own nL kR) {x : Nat} (hdg : decode cc pc = .ok (.aload 7, 2)) (k : J E Q ws l0 l1 l2 l3 l4 l5 l6 (some (.ref x)) (pc + 2) (.ref x :: st)) : J E Q ws l0 l1 l2 l3 l4 l5 l6 (some (.ref x)) pc st := fun H locs ls hS hl => lv_aload hC.1 hC.2.1 hdg (hl.2.2 7 (.ref x) rfl).1 (k H locs ls hS hl)
theorem j_istore_0 (hC : jC E cc own nL kR) {x : Int32} (hn : 0 < nL) (hdg : decode cc pc = .ok (.istore_n 0, 1)) (k : J E Q ws (some (.int x)) l1 l2 l3 l4 l5 l6 l7 (pc + 1) st) : J E Q ws l0 l1 l2 l3 l4 l5 l6 l7 pc (.int x :: st) := fun H locs ls hS hl => lv_istore_n hC.1 hC.2.1 hdg rfl (hL_has hl) (by rw [hC.2.2.1]; exact hn) rfl (fun ls2 h2 => k H locs ls2 hS (hL_put hl rfl m8_none h2 (fun j => by match j with
    | 0 => rfl
    | 1 => rfl
    | 2 => rfl
    | 3 => rfl
    | 4 => rfl
    | 5 => rfl
    | 6 => rfl
    | 7 => rfl
    | j + 8 => rfl)))
theorem j_istore_1 (hC : jC E cc own nL kR) {x : Int32} (hn : 1 < nL) (hdg : decode cc pc = .ok (.istore_n 1, 1)) (k : J E Q ws l0 (some (.int x)) l2 l3 l4 l5 l6 l7 (pc + 1) st) : J E Q ws l0 l1 l2 l3 l4 l5 l6 l7 pc (.int x :: st) := fun H locs ls hS hl => lv_istore_n hC.1 hC.2.1 hdg rfl (hL_has hl) (by rw [hC.2.2.1]; exact hn) rfl (fun ls2 h2 => k H locs ls2 hS (hL_put hl rfl m8_none h2 (fun j => by match j with
    | 0 => rfl
    | 1 => rfl
    | 2 => rfl
    | 3 => rfl
    | 4 => rfl
    | 5 => rfl
    | 6 => rfl
    | 7 => rfl
    | j + 8 => rfl)))
theorem j_astore_1 (hC : jC E cc own nL kR) {x : Nat} (hn : 1 < nL) (hdg : decode cc pc = .ok (.astore_n 1, 1)) (k : J E Q ws l0 (some (.ref x)) l2 l3 l4 l5 l6 l7 (pc + 1) st) : J E Q ws l0 l1 l2 l3 l4 l5 l6 l7 pc (.ref x :: st) := fun H locs ls hS hl => lv_astore_n hC.1 hC.2.1 hdg rfl (hL_has hl) (by rw [hC.2.2.1]; exact hn) rfl (fun ls2 h2 => k H locs ls2 hS (hL_put hl rfl m8_none h2 (fun j => by match j with
    | 0 => rfl
    | 1 => rfl
    | 2 => rfl
    | 3 => rfl
    | 4 => rfl
    | 5 => rfl
    | 6 => rfl
    | 7 => rfl
    | j + 8 => rfl)))
theorem j_istore_2 (hC : jC E cc own nL kR) {x : Int32} (hn : 2 < nL) (hdg : decode cc pc = .ok (.istore_n 2, 1)) (k : J E Q ws l0 l1 (some (.int x)) l3 l4 l5 l6 l7 (pc + 1) st) : J E Q ws l0 l1 l2 l3 l4 l5 l6 l7 pc (.int x :: st) := fun H locs ls hS hl => lv_istore_n hC.1 hC.2.1 hdg rfl (hL_has hl) (by rw [hC.2.2.1]; exact hn) rfl (fun ls2 h2 => k H locs ls2 hS (hL_put hl rfl m8_none h2 (fun j => by match j with
    | 0 => rfl
    | 1 => rfl
    | 2 => rfl
    | 3 => rfl
    | 4 => rfl
    | 5 => rfl
    | 6 => rfl
    | 7 => rfl
    | j + 8 => rfl)))
theorem j_astore_2 (hC : jC E cc own nL kR) {x : Nat} (hn : 2 < nL) (hdg : decode cc pc = .ok (.astore_n 2, 1)) (k : J E Q ws l0 l1 (some (.ref x)) l3 l4 l5 l6 l7 (pc + 1) st) : J E Q ws l0 l1 l2 l3 l4 l5 l6 l7 pc (.ref x :: st) := fun H locs ls hS hl => lv_astore_n hC.1 hC.2.1 hdg rfl (hL_has hl) (by rw [hC.2.2.1]; exact hn) rfl (fun ls2 h2 => k H locs ls2 hS (hL_put hl rfl m8_none h2 (fun j => by match j with
    | 0 => rfl
    | 1 => rfl
    | 2 => rfl
    | 3 => rfl
    | 4 => rfl
    | 5 => rfl
    | 6 => rfl
    | 7 => rfl
    | j + 8 => rfl)))
theorem j_istore_3 (hC : jC E cc own nL kR) {x : Int32} (hn : 3 < nL) (hdg : decode cc pc = .ok (.istore_n 3, 1)) (k : J E Q ws l0 l1 l2 (some (.int x)) l4 l5 l6 l7 (pc + 1) st) : J E Q ws l0 l1 l2 l3 l4 l5 l6 l7 pc (.int x :: st) := fun H locs ls hS hl => lv_istore_n hC.1 hC.2.1 hdg rfl (hL_has hl) (by rw [hC.2.2.1]; exact hn) rfl (fun ls2 h2 => k H locs ls2 hS (hL_put hl rfl m8_none h2 (fun j => by match j with
    | 0 => rfl
    | 1 => rfl
    | 2 => rfl
    | 3 => rfl
    | 4 => rfl
    | 5 => rfl
    | 6 => rfl
    | 7 => rfl
    | j + 8 => rfl)))
theorem j_istore_4 (hC : jC E cc own nL kR) {x : Int32} (hn : 4 < nL) (hdg : decode cc pc = .ok (.istore 4, 2)) (k : J E Q ws l0 l1 l2 l3 (some (.int x)) l5 l6 l7 (pc + 2) st) : J E Q ws l0 l1 l2 l3 l4 l5 l6 l7 pc (.int x :: st) := fun H locs ls hS hl => lv_istore hC.1 hC.2.1 hdg (hL_has hl) (by rw [hC.2.2.1]; exact hn) rfl (fun ls2 h2 => k H locs ls2 hS (hL_put hl rfl m8_none h2 (fun j => by match j with
    | 0 => rfl
    | 1 => rfl
    | 2 => rfl
    | 3 => rfl
    | 4 => rfl
    | 5 => rfl
    | 6 => rfl
    | 7 => rfl
    | j + 8 => rfl)))
theorem j_istore_5 (hC : jC E cc own nL kR) {x : Int32} (hn : 5 < nL) (hdg : decode cc pc = .ok (.istore 5, 2)) (k : J E Q ws l0 l1 l2 l3 l4 (some (.int x)) l6 l7 (pc + 2) st) : J E Q ws l0 l1 l2 l3 l4 l5 l6 l7 pc (.int x :: st) := fun H locs ls hS hl => lv_istore hC.1 hC.2.1 hdg (hL_has hl) (by rw [hC.2.2.1]; exact hn) rfl (fun ls2 h2 => k H locs ls2 hS (hL_put hl rfl m8_none h2 (fun j => by match j with
    | 0 => rfl
    | 1 => rfl
    | 2 => rfl
    | 3 => rfl
    | 4 => rfl
    | 5 => rfl
    | 6 => rfl
    | 7 => rfl
    | j + 8 => rfl)))
theorem j_istore_6 (hC : jC E cc own nL kR) {x : Int32} (hn : 6 < nL) (hdg : decode cc pc = .ok (.istore 6, 2)) (k : J E Q ws l0 l1 l2 l3 l4 l5 (some (.int x)) l7 (pc + 2) st) : J E Q ws l0 l1 l2 l3 l4 l5 l6 l7 pc (.int x :: st) := fun H locs ls hS hl => lv_istore hC.1 hC.2.1 hdg (hL_has hl) (by rw [hC.2.2.1]; exact hn) rfl (fun ls2 h2 => k H locs ls2 hS (hL_put hl rfl m8_none h2 (fun j => by match j with
    | 0 => rfl
    | 1 => rfl
    | 2 => rfl
    | 3 => rfl
    | 4 => rfl
    | 5 => rfl
    | 6 => rfl
    | 7 => rfl
    | j + 8 => rfl)))
theorem j_istore_7 (hC : jC E cc own nL kR) {x : Int32} (hn : 7 < nL) (hdg : decode cc pc = .ok (.istore 7, 2)) (k : J E Q ws l0 l1 l2 l3 l4 l5 l6 (some (.int x)) (pc + 2) st) : J E Q ws l0 l1 l2 l3 l4 l5 l6 l7 pc (.int x :: st) := fun H locs ls hS hl => lv_istore hC.1 hC.2.1 hdg (hL_has hl) (by rw [hC.2.2.1]; exact hn) rfl (fun ls2 h2 => k H locs ls2 hS (hL_put hl rfl m8_none h2 (fun j => by match j with
    | 0 => rfl
    | 1 => rfl
    | 2 => rfl
    | 3 => rfl
    | 4 => rfl
    | 5 => rfl
    | 6 => rfl
    | 7 => rfl
    | j + 8 => rfl)))
theorem lst_at {L : Nat → Option Value} {i : Nat} {v : Value} (hi : i < 8) (h : L i = some v) : ∃ k : Nat, (lst L)[k]? = some (i, v) := List.getElem?_of_mem (lst_mem.mpr ⟨hi, h⟩)
theorem j_iinc_1 (hC : jC E cc own nL kR) {x v : Int32} {n : Int} (hv : x + Int32.ofInt n = v) (hn : 1 < nL) (hdg : decode cc pc = .ok (.iinc 1 n, 3)) (k : J E Q ws l0 (some (.int v)) l2 l3 l4 l5 l6 l7 (pc + 3) st) : J E Q ws l0 (some (.int x)) l2 l3 l4 l5 l6 l7 pc st := fun H locs ls hS hl => by
  obtain ⟨kk, hk⟩ := lst_at (L := m8 l0 (some (.int x)) l2 l3 l4 l5 l6 l7) (i := 1) (v := .int x) (by decide) rfl
  exact lv_iinc hC.1 hC.2.1 hdg (hL_has hl) hk hv (by rw [hC.2.2.1]; exact hn) rfl (fun ls2 h2 => k H locs ls2 hS (hL_put hl rfl m8_none h2 (fun j => by match j with
    | 0 => rfl
    | 1 => rfl
    | 2 => rfl
    | 3 => rfl
    | 4 => rfl
    | 5 => rfl
    | 6 => rfl
    | 7 => rfl
    | j + 8 => rfl)))
theorem j_iinc_2 (hC : jC E cc own nL kR) {x v : Int32} {n : Int} (hv : x + Int32.ofInt n = v) (hn : 2 < nL) (hdg : decode cc pc = .ok (.iinc 2 n, 3)) (k : J E Q ws l0 l1 (some (.int v)) l3 l4 l5 l6 l7 (pc + 3) st) : J E Q ws l0 l1 (some (.int x)) l3 l4 l5 l6 l7 pc st := fun H locs ls hS hl => by
  obtain ⟨kk, hk⟩ := lst_at (L := m8 l0 l1 (some (.int x)) l3 l4 l5 l6 l7) (i := 2) (v := .int x) (by decide) rfl
  exact lv_iinc hC.1 hC.2.1 hdg (hL_has hl) hk hv (by rw [hC.2.2.1]; exact hn) rfl (fun ls2 h2 => k H locs ls2 hS (hL_put hl rfl m8_none h2 (fun j => by match j with
    | 0 => rfl
    | 1 => rfl
    | 2 => rfl
    | 3 => rfl
    | 4 => rfl
    | 5 => rfl
    | 6 => rfl
    | 7 => rfl
    | j + 8 => rfl)))
theorem j_iinc_3 (hC : jC E cc own nL kR) {x v : Int32} {n : Int} (hv : x + Int32.ofInt n = v) (hn : 3 < nL) (hdg : decode cc pc = .ok (.iinc 3 n, 3)) (k : J E Q ws l0 l1 l2 (some (.int v)) l4 l5 l6 l7 (pc + 3) st) : J E Q ws l0 l1 l2 (some (.int x)) l4 l5 l6 l7 pc st := fun H locs ls hS hl => by
  obtain ⟨kk, hk⟩ := lst_at (L := m8 l0 l1 l2 (some (.int x)) l4 l5 l6 l7) (i := 3) (v := .int x) (by decide) rfl
  exact lv_iinc hC.1 hC.2.1 hdg (hL_has hl) hk hv (by rw [hC.2.2.1]; exact hn) rfl (fun ls2 h2 => k H locs ls2 hS (hL_put hl rfl m8_none h2 (fun j => by match j with
    | 0 => rfl
    | 1 => rfl
    | 2 => rfl
    | 3 => rfl
    | 4 => rfl
    | 5 => rfl
    | 6 => rfl
    | 7 => rfl
    | j + 8 => rfl)))
theorem j_iinc_4 (hC : jC E cc own nL kR) {x v : Int32} {n : Int} (hv : x + Int32.ofInt n = v) (hn : 4 < nL) (hdg : decode cc pc = .ok (.iinc 4 n, 3)) (k : J E Q ws l0 l1 l2 l3 (some (.int v)) l5 l6 l7 (pc + 3) st) : J E Q ws l0 l1 l2 l3 (some (.int x)) l5 l6 l7 pc st := fun H locs ls hS hl => by
  obtain ⟨kk, hk⟩ := lst_at (L := m8 l0 l1 l2 l3 (some (.int x)) l5 l6 l7) (i := 4) (v := .int x) (by decide) rfl
  exact lv_iinc hC.1 hC.2.1 hdg (hL_has hl) hk hv (by rw [hC.2.2.1]; exact hn) rfl (fun ls2 h2 => k H locs ls2 hS (hL_put hl rfl m8_none h2 (fun j => by match j with
    | 0 => rfl
    | 1 => rfl
    | 2 => rfl
    | 3 => rfl
    | 4 => rfl
    | 5 => rfl
    | 6 => rfl
    | 7 => rfl
    | j + 8 => rfl)))
theorem j_iinc_5 (hC : jC E cc own nL kR) {x v : Int32} {n : Int} (hv : x + Int32.ofInt n = v) (hn : 5 < nL) (hdg : decode cc pc = .ok (.iinc 5 n, 3)) (k : J E Q ws l0 l1 l2 l3 l4 (some (.int v)) l6 l7 (pc + 3) st) : J E Q ws l0 l1 l2 l3 l4 (some (.int x)) l6 l7 pc st := fun H locs ls hS hl => by
  obtain ⟨kk, hk⟩ := lst_at (L := m8 l0 l1 l2 l3 l4 (some (.int x)) l6 l7) (i := 5) (v := .int x) (by decide) rfl
  exact lv_iinc hC.1 hC.2.1 hdg (hL_has hl) hk hv (by rw [hC.2.2.1]; exact hn) rfl (fun ls2 h2 => k H locs ls2 hS (hL_put hl rfl m8_none h2 (fun j => by match j with
    | 0 => rfl
    | 1 => rfl
    | 2 => rfl
    | 3 => rfl
    | 4 => rfl
    | 5 => rfl
    | 6 => rfl
    | 7 => rfl
    | j + 8 => rfl)))
theorem j_iinc_6 (hC : jC E cc own nL kR) {x v : Int32} {n : Int} (hv : x + Int32.ofInt n = v) (hn : 6 < nL) (hdg : decode cc pc = .ok (.iinc 6 n, 3)) (k : J E Q ws l0 l1 l2 l3 l4 l5 (some (.int v)) l7 (pc + 3) st) : J E Q ws l0 l1 l2 l3 l4 l5 (some (.int x)) l7 pc st := fun H locs ls hS hl => by
  obtain ⟨kk, hk⟩ := lst_at (L := m8 l0 l1 l2 l3 l4 l5 (some (.int x)) l7) (i := 6) (v := .int x) (by decide) rfl
  exact lv_iinc hC.1 hC.2.1 hdg (hL_has hl) hk hv (by rw [hC.2.2.1]; exact hn) rfl (fun ls2 h2 => k H locs ls2 hS (hL_put hl rfl m8_none h2 (fun j => by match j with
    | 0 => rfl
    | 1 => rfl
    | 2 => rfl
    | 3 => rfl
    | 4 => rfl
    | 5 => rfl
    | 6 => rfl
    | 7 => rfl
    | j + 8 => rfl)))
theorem j_iadd (hC : jC E cc own nL kR) {x y : Int32} (hdg : decode cc pc = .ok (.iadd, 1)) (k : J E Q ws l0 l1 l2 l3 l4 l5 l6 l7 (pc + 1) (.int (x + y) :: st)) : J E Q ws l0 l1 l2 l3 l4 l5 l6 l7 pc (.int y :: .int x :: st) := fun H locs ls hS hl => lv_iadd hC.1 hC.2.1 hdg (k H locs ls hS hl)
theorem j_isub (hC : jC E cc own nL kR) {x y : Int32} (hdg : decode cc pc = .ok (.isub, 1)) (k : J E Q ws l0 l1 l2 l3 l4 l5 l6 l7 (pc + 1) (.int (x - y) :: st)) : J E Q ws l0 l1 l2 l3 l4 l5 l6 l7 pc (.int y :: .int x :: st) := fun H locs ls hS hl => lv_isub hC.1 hC.2.1 hdg (k H locs ls hS hl)
theorem j_imul (hC : jC E cc own nL kR) {x y : Int32} (hdg : decode cc pc = .ok (.imul, 1)) (k : J E Q ws l0 l1 l2 l3 l4 l5 l6 l7 (pc + 1) (.int (x * y) :: st)) : J E Q ws l0 l1 l2 l3 l4 l5 l6 l7 pc (.int y :: .int x :: st) := fun H locs ls hS hl => lv_imul hC.1 hC.2.1 hdg (k H locs ls hS hl)
theorem j_iand (hC : jC E cc own nL kR) {x y : Int32} (hdg : decode cc pc = .ok (.iand, 1)) (k : J E Q ws l0 l1 l2 l3 l4 l5 l6 l7 (pc + 1) (.int (x &&& y) :: st)) : J E Q ws l0 l1 l2 l3 l4 l5 l6 l7 pc (.int y :: .int x :: st) := fun H locs ls hS hl => lv_iand hC.1 hC.2.1 hdg (k H locs ls hS hl)
theorem j_addN (hC : jC E cc own nL kR) {a b : Nat} (hdg : decode cc pc = .ok (.iadd, 1)) (k : J E Q ws l0 l1 l2 l3 l4 l5 l6 l7 (pc + 1) (.int (nI (a + b)) :: st)) : J E Q ws l0 l1 l2 l3 l4 l5 l6 l7 pc (.int (nI b) :: .int (nI a) :: st) := j_iadd hC hdg (by rw [nI_add]; exact k)
theorem j_subN (hC : jC E cc own nL kR) {a b : Nat} (h : b ≤ a) (hdg : decode cc pc = .ok (.isub, 1)) (k : J E Q ws l0 l1 l2 l3 l4 l5 l6 l7 (pc + 1) (.int (nI (a - b)) :: st)) : J E Q ws l0 l1 l2 l3 l4 l5 l6 l7 pc (.int (nI b) :: .int (nI a) :: st) := j_isub hC hdg (by rw [pk_sub h]; exact k)
theorem j_mulN (hC : jC E cc own nL kR) {a b : Nat} (hdg : decode cc pc = .ok (.imul, 1)) (k : J E Q ws l0 l1 l2 l3 l4 l5 l6 l7 (pc + 1) (.int (nI (a * b)) :: st)) : J E Q ws l0 l1 l2 l3 l4 l5 l6 l7 pc (.int (nI b) :: .int (nI a) :: st) := j_imul hC hdg (by rw [pk_mul]; exact k)
theorem j_dup (hC : jC E cc own nL kR) {v : Value} (hv : v.category = 1) (hdg : decode cc pc = .ok (.dup, 1)) (k : J E Q ws l0 l1 l2 l3 l4 l5 l6 l7 (pc + 1) (v :: v :: st)) : J E Q ws l0 l1 l2 l3 l4 l5 l6 l7 pc (v :: st) := fun H locs ls hS hl => lv_dup hC.1 hC.2.1 hdg hv (k H locs ls hS hl)
theorem j_dup2 (hC : jC E cc own nL kR) {v w : Value} (hv : v.category = 1) (hw : w.category = 1) (hdg : decode cc pc = .ok (.dup2, 1)) (k : J E Q ws l0 l1 l2 l3 l4 l5 l6 l7 (pc + 1) (v :: w :: v :: w :: st)) : J E Q ws l0 l1 l2 l3 l4 l5 l6 l7 pc (v :: w :: st) := fun H locs ls hS hl => lv_dup2_11 hC.1 hC.2.1 hdg hv hw (k H locs ls hS hl)
theorem j_goto (hC : jC E cc own nL kR) {off : Int} (tgt : Nat) (ht : (pc : Int) + off = (tgt : Int)) (hdg : decode cc pc = .ok (.goto off, 3)) (k : J E Q ws l0 l1 l2 l3 l4 l5 l6 l7 tgt st) : J E Q ws l0 l1 l2 l3 l4 l5 l6 l7 pc st := fun H locs ls hS hl => lv_goto hC.1 hC.2.1 hdg ht (k H locs ls hS hl)
theorem j_if_eq (hC : jC E cc own nL kR) {x : Int32} {off : Int} (tgt : Nat) (ht : (pc : Int) + off = (tgt : Int)) (hdg : decode cc pc = .ok (.ifCond .eq off, 3)) (kt : x = 0 → J E Q ws l0 l1 l2 l3 l4 l5 l6 l7 tgt st) (kf : ¬ x = 0 → J E Q ws l0 l1 l2 l3 l4 l5 l6 l7 (pc + 3) st) : J E Q ws l0 l1 l2 l3 l4 l5 l6 l7 pc (.int x :: st) := fun H locs ls hS hl => lv_if_eq hC.1 hC.2.1 hdg ht (fun c => kt c H locs ls hS hl) (fun c => kf c H locs ls hS hl)
theorem j_icmp_eq (hC : jC E cc own nL kR) {x y : Int32} {off : Int} (tgt : Nat) (ht : (pc : Int) + off = (tgt : Int)) (hdg : decode cc pc = .ok (.if_icmp .eq off, 3)) (kt : x = y → J E Q ws l0 l1 l2 l3 l4 l5 l6 l7 tgt st) (kf : ¬ x = y → J E Q ws l0 l1 l2 l3 l4 l5 l6 l7 (pc + 3) st) : J E Q ws l0 l1 l2 l3 l4 l5 l6 l7 pc (.int y :: .int x :: st) := fun H locs ls hS hl => lv_icmp_eq hC.1 hC.2.1 hdg ht (fun c => kt c H locs ls hS hl) (fun c => kf c H locs ls hS hl)
theorem j_if_ne (hC : jC E cc own nL kR) {x : Int32} {off : Int} (tgt : Nat) (ht : (pc : Int) + off = (tgt : Int)) (hdg : decode cc pc = .ok (.ifCond .ne off, 3)) (kt : ¬ x = 0 → J E Q ws l0 l1 l2 l3 l4 l5 l6 l7 tgt st) (kf : x = 0 → J E Q ws l0 l1 l2 l3 l4 l5 l6 l7 (pc + 3) st) : J E Q ws l0 l1 l2 l3 l4 l5 l6 l7 pc (.int x :: st) := fun H locs ls hS hl => lv_if_ne hC.1 hC.2.1 hdg ht (fun c => kt c H locs ls hS hl) (fun c => kf c H locs ls hS hl)
theorem j_icmp_ne (hC : jC E cc own nL kR) {x y : Int32} {off : Int} (tgt : Nat) (ht : (pc : Int) + off = (tgt : Int)) (hdg : decode cc pc = .ok (.if_icmp .ne off, 3)) (kt : ¬ x = y → J E Q ws l0 l1 l2 l3 l4 l5 l6 l7 tgt st) (kf : x = y → J E Q ws l0 l1 l2 l3 l4 l5 l6 l7 (pc + 3) st) : J E Q ws l0 l1 l2 l3 l4 l5 l6 l7 pc (.int y :: .int x :: st) := fun H locs ls hS hl => lv_icmp_ne hC.1 hC.2.1 hdg ht (fun c => kt c H locs ls hS hl) (fun c => kf c H locs ls hS hl)
theorem j_if_lt (hC : jC E cc own nL kR) {x : Int32} {off : Int} (tgt : Nat) (ht : (pc : Int) + off = (tgt : Int)) (hdg : decode cc pc = .ok (.ifCond .lt off, 3)) (kt : x < 0 → J E Q ws l0 l1 l2 l3 l4 l5 l6 l7 tgt st) (kf : ¬ x < 0 → J E Q ws l0 l1 l2 l3 l4 l5 l6 l7 (pc + 3) st) : J E Q ws l0 l1 l2 l3 l4 l5 l6 l7 pc (.int x :: st) := fun H locs ls hS hl => lv_if_lt hC.1 hC.2.1 hdg ht (fun c => kt c H locs ls hS hl) (fun c => kf c H locs ls hS hl)
theorem j_icmp_lt (hC : jC E cc own nL kR) {x y : Int32} {off : Int} (tgt : Nat) (ht : (pc : Int) + off = (tgt : Int)) (hdg : decode cc pc = .ok (.if_icmp .lt off, 3)) (kt : x < y → J E Q ws l0 l1 l2 l3 l4 l5 l6 l7 tgt st) (kf : ¬ x < y → J E Q ws l0 l1 l2 l3 l4 l5 l6 l7 (pc + 3) st) : J E Q ws l0 l1 l2 l3 l4 l5 l6 l7 pc (.int y :: .int x :: st) := fun H locs ls hS hl => lv_icmp_lt hC.1 hC.2.1 hdg ht (fun c => kt c H locs ls hS hl) (fun c => kf c H locs ls hS hl)
theorem j_if_ge (hC : jC E cc own nL kR) {x : Int32} {off : Int} (tgt : Nat) (ht : (pc : Int) + off = (tgt : Int)) (hdg : decode cc pc = .ok (.ifCond .ge off, 3)) (kt : 0 ≤ x → J E Q ws l0 l1 l2 l3 l4 l5 l6 l7 tgt st) (kf : ¬ 0 ≤ x → J E Q ws l0 l1 l2 l3 l4 l5 l6 l7 (pc + 3) st) : J E Q ws l0 l1 l2 l3 l4 l5 l6 l7 pc (.int x :: st) := fun H locs ls hS hl => lv_if_ge hC.1 hC.2.1 hdg ht (fun c => kt c H locs ls hS hl) (fun c => kf c H locs ls hS hl)
theorem j_icmp_ge (hC : jC E cc own nL kR) {x y : Int32} {off : Int} (tgt : Nat) (ht : (pc : Int) + off = (tgt : Int)) (hdg : decode cc pc = .ok (.if_icmp .ge off, 3)) (kt : y ≤ x → J E Q ws l0 l1 l2 l3 l4 l5 l6 l7 tgt st) (kf : ¬ y ≤ x → J E Q ws l0 l1 l2 l3 l4 l5 l6 l7 (pc + 3) st) : J E Q ws l0 l1 l2 l3 l4 l5 l6 l7 pc (.int y :: .int x :: st) := fun H locs ls hS hl => lv_icmp_ge hC.1 hC.2.1 hdg ht (fun c => kt c H locs ls hS hl) (fun c => kf c H locs ls hS hl)
theorem j_if_gt (hC : jC E cc own nL kR) {x : Int32} {off : Int} (tgt : Nat) (ht : (pc : Int) + off = (tgt : Int)) (hdg : decode cc pc = .ok (.ifCond .gt off, 3)) (kt : 0 < x → J E Q ws l0 l1 l2 l3 l4 l5 l6 l7 tgt st) (kf : ¬ 0 < x → J E Q ws l0 l1 l2 l3 l4 l5 l6 l7 (pc + 3) st) : J E Q ws l0 l1 l2 l3 l4 l5 l6 l7 pc (.int x :: st) := fun H locs ls hS hl => lv_if_gt hC.1 hC.2.1 hdg ht (fun c => kt c H locs ls hS hl) (fun c => kf c H locs ls hS hl)
theorem j_icmp_gt (hC : jC E cc own nL kR) {x y : Int32} {off : Int} (tgt : Nat) (ht : (pc : Int) + off = (tgt : Int)) (hdg : decode cc pc = .ok (.if_icmp .gt off, 3)) (kt : y < x → J E Q ws l0 l1 l2 l3 l4 l5 l6 l7 tgt st) (kf : ¬ y < x → J E Q ws l0 l1 l2 l3 l4 l5 l6 l7 (pc + 3) st) : J E Q ws l0 l1 l2 l3 l4 l5 l6 l7 pc (.int y :: .int x :: st) := fun H locs ls hS hl => lv_icmp_gt hC.1 hC.2.1 hdg ht (fun c => kt c H locs ls hS hl) (fun c => kf c H locs ls hS hl)
theorem j_if_le (hC : jC E cc own nL kR) {x : Int32} {off : Int} (tgt : Nat) (ht : (pc : Int) + off = (tgt : Int)) (hdg : decode cc pc = .ok (.ifCond .le off, 3)) (kt : x ≤ 0 → J E Q ws l0 l1 l2 l3 l4 l5 l6 l7 tgt st) (kf : ¬ x ≤ 0 → J E Q ws l0 l1 l2 l3 l4 l5 l6 l7 (pc + 3) st) : J E Q ws l0 l1 l2 l3 l4 l5 l6 l7 pc (.int x :: st) := fun H locs ls hS hl => lv_if_le hC.1 hC.2.1 hdg ht (fun c => kt c H locs ls hS hl) (fun c => kf c H locs ls hS hl)
theorem j_icmp_le (hC : jC E cc own nL kR) {x y : Int32} {off : Int} (tgt : Nat) (ht : (pc : Int) + off = (tgt : Int)) (hdg : decode cc pc = .ok (.if_icmp .le off, 3)) (kt : x ≤ y → J E Q ws l0 l1 l2 l3 l4 l5 l6 l7 tgt st) (kf : ¬ x ≤ y → J E Q ws l0 l1 l2 l3 l4 l5 l6 l7 (pc + 3) st) : J E Q ws l0 l1 l2 l3 l4 l5 l6 l7 pc (.int y :: .int x :: st) := fun H locs ls hS hl => lv_icmp_le hC.1 hC.2.1 hdg ht (fun c => kt c H locs ls hS hl) (fun c => kf c H locs ls hS hl)
end JR
end
section
section JN
variable {E : jE} {Q : State → Prop} {ws : va_W} {l0 l1 l2 l3 l4 l5 l6 l7 : Option Value} {pc : Nat} {st : List Value} {cc : ByteArray} {own : String} {nL kR : Nat}
theorem j_geN (hC : jC E cc own nL kR) {a b : Nat} {off : Int} (tgt : Nat) (ht : (pc : Int) + off = (tgt : Int)) (ha : a < 2147483648) (hb : b < 2147483648) (hdg : decode cc pc = .ok (.if_icmp .ge off, 3)) (kt : b ≤ a → J E Q ws l0 l1 l2 l3 l4 l5 l6 l7 tgt st) (kf : a < b → J E Q ws l0 l1 l2 l3 l4 l5 l6 l7 (pc + 3) st) : J E Q ws l0 l1 l2 l3 l4 l5 l6 l7 pc (.int (nI b) :: .int (nI a) :: st) := j_icmp_ge hC tgt ht hdg (fun c => kt ((nI_leI hb ha).mp c)) (fun c => kf (Nat.lt_of_not_le fun h => c ((nI_leI hb ha).mpr h)))
theorem j_gtN (hC : jC E cc own nL kR) {a b : Nat} {off : Int} (tgt : Nat) (ht : (pc : Int) + off = (tgt : Int)) (ha : a < 2147483648) (hb : b < 2147483648) (hdg : decode cc pc = .ok (.if_icmp .gt off, 3)) (kt : b < a → J E Q ws l0 l1 l2 l3 l4 l5 l6 l7 tgt st) (kf : a ≤ b → J E Q ws l0 l1 l2 l3 l4 l5 l6 l7 (pc + 3) st) : J E Q ws l0 l1 l2 l3 l4 l5 l6 l7 pc (.int (nI b) :: .int (nI a) :: st) := j_icmp_gt hC tgt ht hdg (fun c => kt ((nI_ltI hb ha).mp c)) (fun c => kf (Nat.le_of_not_lt fun h => c ((nI_ltI hb ha).mpr h)))
theorem j_leN (hC : jC E cc own nL kR) {a b : Nat} {off : Int} (tgt : Nat) (ht : (pc : Int) + off = (tgt : Int)) (ha : a < 2147483648) (hb : b < 2147483648) (hdg : decode cc pc = .ok (.if_icmp .le off, 3)) (kt : a ≤ b → J E Q ws l0 l1 l2 l3 l4 l5 l6 l7 tgt st) (kf : b < a → J E Q ws l0 l1 l2 l3 l4 l5 l6 l7 (pc + 3) st) : J E Q ws l0 l1 l2 l3 l4 l5 l6 l7 pc (.int (nI b) :: .int (nI a) :: st) := j_icmp_le hC tgt ht hdg (fun c => kt ((nI_leI ha hb).mp c)) (fun c => kf (Nat.lt_of_not_le fun h => c ((nI_leI ha hb).mpr h)))
theorem j_ltN (hC : jC E cc own nL kR) {a b : Nat} {off : Int} (tgt : Nat) (ht : (pc : Int) + off = (tgt : Int)) (ha : a < 2147483648) (hb : b < 2147483648) (hdg : decode cc pc = .ok (.if_icmp .lt off, 3)) (kt : a < b → J E Q ws l0 l1 l2 l3 l4 l5 l6 l7 tgt st) (kf : b ≤ a → J E Q ws l0 l1 l2 l3 l4 l5 l6 l7 (pc + 3) st) : J E Q ws l0 l1 l2 l3 l4 l5 l6 l7 pc (.int (nI b) :: .int (nI a) :: st) := j_icmp_lt hC tgt ht hdg (fun c => kt ((nI_ltI ha hb).mp c)) (fun c => kf (Nat.le_of_not_lt fun h => c ((nI_ltI ha hb).mpr h)))
theorem j_eqN (hC : jC E cc own nL kR) {a b : Nat} {off : Int} (tgt : Nat) (ht : (pc : Int) + off = (tgt : Int)) (ha : a < 2147483648) (hb : b < 2147483648) (hdg : decode cc pc = .ok (.if_icmp .eq off, 3)) (kt : a = b → J E Q ws l0 l1 l2 l3 l4 l5 l6 l7 tgt st) (kf : a ≠ b → J E Q ws l0 l1 l2 l3 l4 l5 l6 l7 (pc + 3) st) : J E Q ws l0 l1 l2 l3 l4 l5 l6 l7 pc (.int (nI b) :: .int (nI a) :: st) := j_icmp_eq hC tgt ht hdg (fun c => kt ((nI_eq ha hb).mp c)) (fun c => kf (fun h => c ((nI_eq ha hb).mpr h)))
theorem j_neN (hC : jC E cc own nL kR) {a b : Nat} {off : Int} (tgt : Nat) (ht : (pc : Int) + off = (tgt : Int)) (ha : a < 2147483648) (hb : b < 2147483648) (hdg : decode cc pc = .ok (.if_icmp .ne off, 3)) (kt : a ≠ b → J E Q ws l0 l1 l2 l3 l4 l5 l6 l7 tgt st) (kf : a = b → J E Q ws l0 l1 l2 l3 l4 l5 l6 l7 (pc + 3) st) : J E Q ws l0 l1 l2 l3 l4 l5 l6 l7 pc (.int (nI b) :: .int (nI a) :: st) := j_icmp_ne hC tgt ht hdg (fun c => kt (fun h => c ((nI_eq ha hb).mpr h))) (fun c => kf ((nI_eq ha hb).mp c))
theorem nI_eq0 {a : Nat} (ha : a < 2147483648) : nI a = 0 ↔ a = 0 := by rw [← nI_0]; exact nI_eq ha (by decide)
theorem nI_le0 {a : Nat} (ha : a < 2147483648) : nI a ≤ 0 ↔ a = 0 := by rw [← nI_0, nI_leI ha (by decide)]; omega
theorem j_eqzN (hC : jC E cc own nL kR) {a : Nat} {off : Int} (tgt : Nat) (ht : (pc : Int) + off = (tgt : Int)) (ha : a < 2147483648) (hdg : decode cc pc = .ok (.ifCond .eq off, 3)) (kt : a = 0 → J E Q ws l0 l1 l2 l3 l4 l5 l6 l7 tgt st) (kf : a ≠ 0 → J E Q ws l0 l1 l2 l3 l4 l5 l6 l7 (pc + 3) st) : J E Q ws l0 l1 l2 l3 l4 l5 l6 l7 pc (.int (nI a) :: st) := j_if_eq hC tgt ht hdg (fun c => kt ((nI_eq0 ha).mp c)) (fun c => kf (fun h => c ((nI_eq0 ha).mpr h)))
theorem j_nezN (hC : jC E cc own nL kR) {a : Nat} {off : Int} (tgt : Nat) (ht : (pc : Int) + off = (tgt : Int)) (ha : a < 2147483648) (hdg : decode cc pc = .ok (.ifCond .ne off, 3)) (kt : a ≠ 0 → J E Q ws l0 l1 l2 l3 l4 l5 l6 l7 tgt st) (kf : a = 0 → J E Q ws l0 l1 l2 l3 l4 l5 l6 l7 (pc + 3) st) : J E Q ws l0 l1 l2 l3 l4 l5 l6 l7 pc (.int (nI a) :: st) := j_if_ne hC tgt ht hdg (fun c => kt (fun h => c ((nI_eq0 ha).mpr h))) (fun c => kf ((nI_eq0 ha).mp c))
theorem j_lezN (hC : jC E cc own nL kR) {a : Nat} {off : Int} (tgt : Nat) (ht : (pc : Int) + off = (tgt : Int)) (ha : a < 2147483648) (hdg : decode cc pc = .ok (.ifCond .le off, 3)) (kt : a = 0 → J E Q ws l0 l1 l2 l3 l4 l5 l6 l7 tgt st) (kf : 0 < a → J E Q ws l0 l1 l2 l3 l4 l5 l6 l7 (pc + 3) st) : J E Q ws l0 l1 l2 l3 l4 l5 l6 l7 pc (.int (nI a) :: st) := j_if_le hC tgt ht hdg (fun c => kt ((nI_le0 ha).mp c)) (fun c => kf (Nat.pos_of_ne_zero fun h => c ((nI_le0 ha).mpr h)))
theorem j_gezN (hC : jC E cc own nL kR) {a : Nat} {off : Int} (tgt : Nat) (ht : (pc : Int) + off = (tgt : Int)) (ha : a < 2147483648) (hdg : decode cc pc = .ok (.ifCond .ge off, 3)) (kt : J E Q ws l0 l1 l2 l3 l4 l5 l6 l7 tgt st) : J E Q ws l0 l1 l2 l3 l4 l5 l6 l7 pc (.int (nI a) :: st) := j_if_ge hC tgt ht hdg (fun _ => kt) (fun c => absurd (nI_pos' ha) c)
theorem j_ltzN (hC : jC E cc own nL kR) {a : Nat} {off : Int} (tgt : Nat) (ht : (pc : Int) + off = (tgt : Int)) (ha : a < 2147483648) (hdg : decode cc pc = .ok (.ifCond .lt off, 3)) (kf : J E Q ws l0 l1 l2 l3 l4 l5 l6 l7 (pc + 3) st) : J E Q ws l0 l1 l2 l3 l4 l5 l6 l7 pc (.int (nI a) :: st) := j_if_lt hC tgt ht hdg (fun c => absurd c (nI_pos ha)) (fun _ => kf)
theorem inc1 {a : Nat} : nI a + Int32.ofInt 1 = nI (a + 1) := nI_1 a
end JN
-- worlds
abbrev SX : Type := Nat × (Nat → Int32) × Nat × (Nat → Nat) × (Nat → Nat) × Nat × (Nat → Int32) × (Nat → Int32) × (Nat → Nat)
abbrev SM : Type := (Nat → Int32) × (Nat → Nat) × Nat
def nF (f : Nat → Nat) : Nat → Int32 := fun k => nI (f k)
def upN (f : Nat → Nat) (k x : Nat) : Nat → Nat := fun j => if j = k then x else f j
theorem upN_s {f : Nat → Nat} {k x : Nat} : upN f k x k = x := if_pos rfl
theorem upN_n {f : Nat → Nat} {k j x : Nat} (h : j ≠ k) : upN f k x j = f j := if_neg h
theorem nF_up {f : Nat → Nat} {k x : Nat} : upd (nF f) k (nI x) = nF (upN f k x) := by
  funext j
  by_cases h : j = k
  · simp [upd, nF, upN, h]
  · simp [upd, nF, upN, h]
/-- the component: (keyed, line, piled, length, body, bottom, store, wanted, target) -/
def wX (cI cZ : ClassId) (q : Nat → Nat) (u : SX) : va_W := [(q 0, .inr (0, [.int (nI u.1), .ref (q 1), .int (nI u.2.2.1), .ref (q 2), .ref (q 3), .int (nI u.2.2.2.2.2.1), .ref (q 4), .ref (q 5), .ref (q 6)])), (q 1, .inl (cI, 40, .inl u.2.1)), (q 2, .inl (cI, 10, .inl (nF u.2.2.2.1))), (q 3, .inl (cI, 10, .inl (nF u.2.2.2.2.1))), (q 4, .inl (cI, 144, .inl u.2.2.2.2.2.2.1)), (q 5, .inl (cZ, 144, .inl u.2.2.2.2.2.2.2.1)), (q 6, .inl (cI, 144, .inl (nF u.2.2.2.2.2.2.2.2)))]
/-- the reference: (chars, lengths, piled) -/
def wM (cI _cZ : ClassId) (q : Nat → Nat) (u : SM) : va_W := [(q 0, .inr (1, [.ref (q 1), .ref (q 2), .int (nI u.2.2)])), (q 1, .inl (cI, 440, .inl u.1)), (q 2, .inl (cI, 11, .inl (nF u.2.1)))]
section JF
variable {E : jE} {Q : State → Prop} {ws : va_W} {l0 l1 l2 l3 l4 l5 l6 l7 : Option Value} {pc : Nat} {st : List Value} {cc : ByteArray} {own : String} {nL kR : Nat}
variable {q : Nat → Nat} {kd pi bo pl : Nat} {li sr wa ch : Nat → Int32} {le bd ta ln : Nat → Nat}
theorem x_get_keyed (hC : jC E cc R_X nL kR) (hdg : decode cc pc = .ok (.getfield 53, 3)) (kk : J E Q (wX (eI E) (eZ E) q (kd, li, pi, le, bd, bo, sr, wa, ta)) l0 l1 l2 l3 l4 l5 l6 l7 (pc + 3) (.int (nI kd) :: st)) : J E Q (wX (eI E) (eZ E) q (kd, li, pi, le, bd, bo, sr, wa, ta)) l0 l1 l2 l3 l4 l5 l6 l7 pc (.ref (q 0) :: st) := fun H locs ls hS hl => va_get (D := eD E) (ci := 0) (v := .int (nI kd)) (C := R_X) (T := F_X) (N := 9) hC.1 hC.2.1 hC.2.2.2.2.1 iT_X hC.2.2.2.1 hC.2.2.2.2.2.1 hS.1 0 rfl rfl 0 (by decide) (hC.2.2.2.2.1 _ f_X_53) (fun _ h => h) rfl hdg (kk H locs ls hS hl)
theorem x_get_line (hC : jC E cc R_X nL kR) (hdg : decode cc pc = .ok (.getfield 7, 3)) (kk : J E Q (wX (eI E) (eZ E) q (kd, li, pi, le, bd, bo, sr, wa, ta)) l0 l1 l2 l3 l4 l5 l6 l7 (pc + 3) (.ref (q 1) :: st)) : J E Q (wX (eI E) (eZ E) q (kd, li, pi, le, bd, bo, sr, wa, ta)) l0 l1 l2 l3 l4 l5 l6 l7 pc (.ref (q 0) :: st) := fun H locs ls hS hl => va_get (D := eD E) (ci := 0) (v := .ref (q 1)) (C := R_X) (T := F_X) (N := 9) hC.1 hC.2.1 hC.2.2.2.2.1 iT_X hC.2.2.2.1 hC.2.2.2.2.2.1 hS.1 0 rfl rfl 1 (by decide) (hC.2.2.2.2.1 _ f_X_7) (fun _ h => h) rfl hdg (kk H locs ls hS hl)
theorem x_get_piled (hC : jC E cc R_X nL kR) (hdg : decode cc pc = .ok (.getfield 33, 3)) (kk : J E Q (wX (eI E) (eZ E) q (kd, li, pi, le, bd, bo, sr, wa, ta)) l0 l1 l2 l3 l4 l5 l6 l7 (pc + 3) (.int (nI pi) :: st)) : J E Q (wX (eI E) (eZ E) q (kd, li, pi, le, bd, bo, sr, wa, ta)) l0 l1 l2 l3 l4 l5 l6 l7 pc (.ref (q 0) :: st) := fun H locs ls hS hl => va_get (D := eD E) (ci := 0) (v := .int (nI pi)) (C := R_X) (T := F_X) (N := 9) hC.1 hC.2.1 hC.2.2.2.2.1 iT_X hC.2.2.2.1 hC.2.2.2.2.2.1 hS.1 0 rfl rfl 2 (by decide) (hC.2.2.2.2.1 _ f_X_33) (fun _ h => h) rfl hdg (kk H locs ls hS hl)
theorem x_get_length (hC : jC E cc R_X nL kR) (hdg : decode cc pc = .ok (.getfield 13, 3)) (kk : J E Q (wX (eI E) (eZ E) q (kd, li, pi, le, bd, bo, sr, wa, ta)) l0 l1 l2 l3 l4 l5 l6 l7 (pc + 3) (.ref (q 2) :: st)) : J E Q (wX (eI E) (eZ E) q (kd, li, pi, le, bd, bo, sr, wa, ta)) l0 l1 l2 l3 l4 l5 l6 l7 pc (.ref (q 0) :: st) := fun H locs ls hS hl => va_get (D := eD E) (ci := 0) (v := .ref (q 2)) (C := R_X) (T := F_X) (N := 9) hC.1 hC.2.1 hC.2.2.2.2.1 iT_X hC.2.2.2.1 hC.2.2.2.2.2.1 hS.1 0 rfl rfl 3 (by decide) (hC.2.2.2.2.1 _ f_X_13) (fun _ h => h) rfl hdg (kk H locs ls hS hl)
theorem x_get_body (hC : jC E cc R_X nL kR) (hdg : decode cc pc = .ok (.getfield 16, 3)) (kk : J E Q (wX (eI E) (eZ E) q (kd, li, pi, le, bd, bo, sr, wa, ta)) l0 l1 l2 l3 l4 l5 l6 l7 (pc + 3) (.ref (q 3) :: st)) : J E Q (wX (eI E) (eZ E) q (kd, li, pi, le, bd, bo, sr, wa, ta)) l0 l1 l2 l3 l4 l5 l6 l7 pc (.ref (q 0) :: st) := fun H locs ls hS hl => va_get (D := eD E) (ci := 0) (v := .ref (q 3)) (C := R_X) (T := F_X) (N := 9) hC.1 hC.2.1 hC.2.2.2.2.1 iT_X hC.2.2.2.1 hC.2.2.2.2.2.1 hS.1 0 rfl rfl 4 (by decide) (hC.2.2.2.2.1 _ f_X_16) (fun _ h => h) rfl hdg (kk H locs ls hS hl)
theorem x_get_bottom (hC : jC E cc R_X nL kR) (hdg : decode cc pc = .ok (.getfield 29, 3)) (kk : J E Q (wX (eI E) (eZ E) q (kd, li, pi, le, bd, bo, sr, wa, ta)) l0 l1 l2 l3 l4 l5 l6 l7 (pc + 3) (.int (nI bo) :: st)) : J E Q (wX (eI E) (eZ E) q (kd, li, pi, le, bd, bo, sr, wa, ta)) l0 l1 l2 l3 l4 l5 l6 l7 pc (.ref (q 0) :: st) := fun H locs ls hS hl => va_get (D := eD E) (ci := 0) (v := .int (nI bo)) (C := R_X) (T := F_X) (N := 9) hC.1 hC.2.1 hC.2.2.2.2.1 iT_X hC.2.2.2.1 hC.2.2.2.2.2.1 hS.1 0 rfl rfl 5 (by decide) (hC.2.2.2.2.1 _ f_X_29) (fun _ h => h) rfl hdg (kk H locs ls hS hl)
theorem x_get_store (hC : jC E cc R_X nL kR) (hdg : decode cc pc = .ok (.getfield 19, 3)) (kk : J E Q (wX (eI E) (eZ E) q (kd, li, pi, le, bd, bo, sr, wa, ta)) l0 l1 l2 l3 l4 l5 l6 l7 (pc + 3) (.ref (q 4) :: st)) : J E Q (wX (eI E) (eZ E) q (kd, li, pi, le, bd, bo, sr, wa, ta)) l0 l1 l2 l3 l4 l5 l6 l7 pc (.ref (q 0) :: st) := fun H locs ls hS hl => va_get (D := eD E) (ci := 0) (v := .ref (q 4)) (C := R_X) (T := F_X) (N := 9) hC.1 hC.2.1 hC.2.2.2.2.1 iT_X hC.2.2.2.1 hC.2.2.2.2.2.1 hS.1 0 rfl rfl 6 (by decide) (hC.2.2.2.2.1 _ f_X_19) (fun _ h => h) rfl hdg (kk H locs ls hS hl)
theorem x_get_wanted (hC : jC E cc R_X nL kR) (hdg : decode cc pc = .ok (.getfield 22, 3)) (kk : J E Q (wX (eI E) (eZ E) q (kd, li, pi, le, bd, bo, sr, wa, ta)) l0 l1 l2 l3 l4 l5 l6 l7 (pc + 3) (.ref (q 5) :: st)) : J E Q (wX (eI E) (eZ E) q (kd, li, pi, le, bd, bo, sr, wa, ta)) l0 l1 l2 l3 l4 l5 l6 l7 pc (.ref (q 0) :: st) := fun H locs ls hS hl => va_get (D := eD E) (ci := 0) (v := .ref (q 5)) (C := R_X) (T := F_X) (N := 9) hC.1 hC.2.1 hC.2.2.2.2.1 iT_X hC.2.2.2.1 hC.2.2.2.2.2.1 hS.1 0 rfl rfl 7 (by decide) (hC.2.2.2.2.1 _ f_X_22) (fun _ h => h) rfl hdg (kk H locs ls hS hl)
theorem x_get_target (hC : jC E cc R_X nL kR) (hdg : decode cc pc = .ok (.getfield 26, 3)) (kk : J E Q (wX (eI E) (eZ E) q (kd, li, pi, le, bd, bo, sr, wa, ta)) l0 l1 l2 l3 l4 l5 l6 l7 (pc + 3) (.ref (q 6) :: st)) : J E Q (wX (eI E) (eZ E) q (kd, li, pi, le, bd, bo, sr, wa, ta)) l0 l1 l2 l3 l4 l5 l6 l7 pc (.ref (q 0) :: st) := fun H locs ls hS hl => va_get (D := eD E) (ci := 0) (v := .ref (q 6)) (C := R_X) (T := F_X) (N := 9) hC.1 hC.2.1 hC.2.2.2.2.1 iT_X hC.2.2.2.1 hC.2.2.2.2.2.1 hS.1 0 rfl rfl 8 (by decide) (hC.2.2.2.2.1 _ f_X_26) (fun _ h => h) rfl hdg (kk H locs ls hS hl)
theorem x_put_keyed (hC : jC E cc R_X nL kR) {z : Nat} (hdg : decode cc pc = .ok (.putfield 53, 3)) (kk : J E Q (wX (eI E) (eZ E) q (z, li, pi, le, bd, bo, sr, wa, ta)) l0 l1 l2 l3 l4 l5 l6 l7 (pc + 3) st) : J E Q (wX (eI E) (eZ E) q (kd, li, pi, le, bd, bo, sr, wa, ta)) l0 l1 l2 l3 l4 l5 l6 l7 pc (.int (nI z) :: .ref (q 0) :: st) := fun H locs ls hS hl => va_put (D := eD E) (ci := 0) (v := .int (nI z)) (ty := .int) (C := R_X) (T := F_X) (N := 9) hC.1 hC.2.1 hC.2.2.2.2.1 iT_X t_X t_X_ok n_X hC.2.2.2.1 hC.2.2.2.2.2.1 hS.1 hS.2.1 hS.2.2 0 rfl rfl 0 (by decide) (hC.2.2.2.2.1 _ f_X_53) (fun _ h => h) rfl (by decide +kernel) rfl rfl (Nat.le_of_ble_eq_true rfl) hdg (fun H1 locs1 h1 h2 h3 => kk H1 locs1 ls ⟨h1, h2, h3⟩ hl)
theorem x_put_piled (hC : jC E cc R_X nL kR) {z : Nat} (hdg : decode cc pc = .ok (.putfield 33, 3)) (kk : J E Q (wX (eI E) (eZ E) q (kd, li, z, le, bd, bo, sr, wa, ta)) l0 l1 l2 l3 l4 l5 l6 l7 (pc + 3) st) : J E Q (wX (eI E) (eZ E) q (kd, li, pi, le, bd, bo, sr, wa, ta)) l0 l1 l2 l3 l4 l5 l6 l7 pc (.int (nI z) :: .ref (q 0) :: st) := fun H locs ls hS hl => va_put (D := eD E) (ci := 0) (v := .int (nI z)) (ty := .int) (C := R_X) (T := F_X) (N := 9) hC.1 hC.2.1 hC.2.2.2.2.1 iT_X t_X t_X_ok n_X hC.2.2.2.1 hC.2.2.2.2.2.1 hS.1 hS.2.1 hS.2.2 0 rfl rfl 2 (by decide) (hC.2.2.2.2.1 _ f_X_33) (fun _ h => h) rfl (by decide +kernel) rfl rfl (Nat.le_of_ble_eq_true rfl) hdg (fun H1 locs1 h1 h2 h3 => kk H1 locs1 ls ⟨h1, h2, h3⟩ hl)
theorem x_put_bottom (hC : jC E cc R_X nL kR) {z : Nat} (hdg : decode cc pc = .ok (.putfield 29, 3)) (kk : J E Q (wX (eI E) (eZ E) q (kd, li, pi, le, bd, z, sr, wa, ta)) l0 l1 l2 l3 l4 l5 l6 l7 (pc + 3) st) : J E Q (wX (eI E) (eZ E) q (kd, li, pi, le, bd, bo, sr, wa, ta)) l0 l1 l2 l3 l4 l5 l6 l7 pc (.int (nI z) :: .ref (q 0) :: st) := fun H locs ls hS hl => va_put (D := eD E) (ci := 0) (v := .int (nI z)) (ty := .int) (C := R_X) (T := F_X) (N := 9) hC.1 hC.2.1 hC.2.2.2.2.1 iT_X t_X t_X_ok n_X hC.2.2.2.1 hC.2.2.2.2.2.1 hS.1 hS.2.1 hS.2.2 0 rfl rfl 5 (by decide) (hC.2.2.2.2.1 _ f_X_29) (fun _ h => h) rfl (by decide +kernel) rfl rfl (Nat.le_of_ble_eq_true rfl) hdg (fun H1 locs1 h1 h2 h3 => kk H1 locs1 ls ⟨h1, h2, h3⟩ hl)
theorem m_get_chars (hC : jC E cc R_M nL kR) (hdg : decode cc pc = .ok (.getfield 7, 3)) (kk : J E Q (wM (eI E) (eZ E) q (ch, ln, pl)) l0 l1 l2 l3 l4 l5 l6 l7 (pc + 3) (.ref (q 1) :: st)) : J E Q (wM (eI E) (eZ E) q (ch, ln, pl)) l0 l1 l2 l3 l4 l5 l6 l7 pc (.ref (q 0) :: st) := fun H locs ls hS hl => va_get (D := eD E) (ci := 1) (v := .ref (q 1)) (C := R_M) (T := F_M) (N := 3) hC.1 hC.2.1 hC.2.2.2.2.1 iT_M hC.2.2.2.1 hC.2.2.2.2.2.1 hS.1 0 rfl rfl 0 (by decide) (hC.2.2.2.2.1 _ f_M_7) (fun _ h => h) rfl hdg (kk H locs ls hS hl)
theorem m_get_lengths (hC : jC E cc R_M nL kR) (hdg : decode cc pc = .ok (.getfield 13, 3)) (kk : J E Q (wM (eI E) (eZ E) q (ch, ln, pl)) l0 l1 l2 l3 l4 l5 l6 l7 (pc + 3) (.ref (q 2) :: st)) : J E Q (wM (eI E) (eZ E) q (ch, ln, pl)) l0 l1 l2 l3 l4 l5 l6 l7 pc (.ref (q 0) :: st) := fun H locs ls hS hl => va_get (D := eD E) (ci := 1) (v := .ref (q 2)) (C := R_M) (T := F_M) (N := 3) hC.1 hC.2.1 hC.2.2.2.2.1 iT_M hC.2.2.2.1 hC.2.2.2.2.2.1 hS.1 0 rfl rfl 1 (by decide) (hC.2.2.2.2.1 _ f_M_13) (fun _ h => h) rfl hdg (kk H locs ls hS hl)
theorem m_get_piled (hC : jC E cc R_M nL kR) (hdg : decode cc pc = .ok (.getfield 20, 3)) (kk : J E Q (wM (eI E) (eZ E) q (ch, ln, pl)) l0 l1 l2 l3 l4 l5 l6 l7 (pc + 3) (.int (nI pl) :: st)) : J E Q (wM (eI E) (eZ E) q (ch, ln, pl)) l0 l1 l2 l3 l4 l5 l6 l7 pc (.ref (q 0) :: st) := fun H locs ls hS hl => va_get (D := eD E) (ci := 1) (v := .int (nI pl)) (C := R_M) (T := F_M) (N := 3) hC.1 hC.2.1 hC.2.2.2.2.1 iT_M hC.2.2.2.1 hC.2.2.2.2.2.1 hS.1 0 rfl rfl 2 (by decide) (hC.2.2.2.2.1 _ f_M_20) (fun _ h => h) rfl hdg (kk H locs ls hS hl)
theorem m_put_piled (hC : jC E cc R_M nL kR) {z : Nat} (hdg : decode cc pc = .ok (.putfield 20, 3)) (kk : J E Q (wM (eI E) (eZ E) q (ch, ln, z)) l0 l1 l2 l3 l4 l5 l6 l7 (pc + 3) st) : J E Q (wM (eI E) (eZ E) q (ch, ln, pl)) l0 l1 l2 l3 l4 l5 l6 l7 pc (.int (nI z) :: .ref (q 0) :: st) := fun H locs ls hS hl => va_put (D := eD E) (ci := 1) (v := .int (nI z)) (ty := .int) (C := R_M) (T := F_M) (N := 3) hC.1 hC.2.1 hC.2.2.2.2.1 iT_M t_M t_M_ok n_M hC.2.2.2.1 hC.2.2.2.2.2.1 hS.1 hS.2.1 hS.2.2 0 rfl rfl 2 (by decide) (hC.2.2.2.2.1 _ f_M_20) (fun _ h => h) rfl (by decide +kernel) rfl rfl (Nat.le_of_ble_eq_true rfl) hdg (fun H1 locs1 h1 h2 h3 => kk H1 locs1 ls ⟨h1, h2, h3⟩ hl)
theorem x_ld_line (hC : jC E cc R_X nL kR) {d : Nat} (hd : d < 40) (hdg : decode cc pc = .ok (.iaload, 1)) (kk : J E Q (wX (eI E) (eZ E) q (kd, li, pi, le, bd, bo, sr, wa, ta)) l0 l1 l2 l3 l4 l5 l6 l7 (pc + 1) (.int (li d) :: st)) : J E Q (wX (eI E) (eZ E) q (kd, li, pi, le, bd, bo, sr, wa, ta)) l0 l1 l2 l3 l4 l5 l6 l7 pc (.int (nI d) :: .ref (q 1) :: st) := fun H locs ls hS hl => va_iald hC.1 hC.2.1 hC.2.2.2.2.2.1 hS.1 1 0 rfl rfl (vp_in_nI hd (by decide)) hdg (by rw [nI_clamp (n := d) (by omega)]; exact kk H locs ls hS hl)
theorem x_ld_length (hC : jC E cc R_X nL kR) {d : Nat} (hd : d < 10) (hdg : decode cc pc = .ok (.iaload, 1)) (kk : J E Q (wX (eI E) (eZ E) q (kd, li, pi, le, bd, bo, sr, wa, ta)) l0 l1 l2 l3 l4 l5 l6 l7 (pc + 1) (.int (nI (le d)) :: st)) : J E Q (wX (eI E) (eZ E) q (kd, li, pi, le, bd, bo, sr, wa, ta)) l0 l1 l2 l3 l4 l5 l6 l7 pc (.int (nI d) :: .ref (q 2) :: st) := fun H locs ls hS hl => va_iald hC.1 hC.2.1 hC.2.2.2.2.2.1 hS.1 2 0 rfl rfl (vp_in_nI hd (by decide)) hdg (by rw [nI_clamp (n := d) (by omega)]; exact kk H locs ls hS hl)
theorem x_ld_body (hC : jC E cc R_X nL kR) {d : Nat} (hd : d < 10) (hdg : decode cc pc = .ok (.iaload, 1)) (kk : J E Q (wX (eI E) (eZ E) q (kd, li, pi, le, bd, bo, sr, wa, ta)) l0 l1 l2 l3 l4 l5 l6 l7 (pc + 1) (.int (nI (bd d)) :: st)) : J E Q (wX (eI E) (eZ E) q (kd, li, pi, le, bd, bo, sr, wa, ta)) l0 l1 l2 l3 l4 l5 l6 l7 pc (.int (nI d) :: .ref (q 3) :: st) := fun H locs ls hS hl => va_iald hC.1 hC.2.1 hC.2.2.2.2.2.1 hS.1 3 0 rfl rfl (vp_in_nI hd (by decide)) hdg (by rw [nI_clamp (n := d) (by omega)]; exact kk H locs ls hS hl)
theorem x_ld_store (hC : jC E cc R_X nL kR) {d : Nat} (hd : d < 144) (hdg : decode cc pc = .ok (.iaload, 1)) (kk : J E Q (wX (eI E) (eZ E) q (kd, li, pi, le, bd, bo, sr, wa, ta)) l0 l1 l2 l3 l4 l5 l6 l7 (pc + 1) (.int (sr d) :: st)) : J E Q (wX (eI E) (eZ E) q (kd, li, pi, le, bd, bo, sr, wa, ta)) l0 l1 l2 l3 l4 l5 l6 l7 pc (.int (nI d) :: .ref (q 4) :: st) := fun H locs ls hS hl => va_iald hC.1 hC.2.1 hC.2.2.2.2.2.1 hS.1 4 0 rfl rfl (vp_in_nI hd (by decide)) hdg (by rw [nI_clamp (n := d) (by omega)]; exact kk H locs ls hS hl)
theorem x_ld_wanted (hC : jC E cc R_X nL kR) {d : Nat} (hd : d < 144) (hdg : decode cc pc = .ok (.baload, 1)) (kk : J E Q (wX (eI E) (eZ E) q (kd, li, pi, le, bd, bo, sr, wa, ta)) l0 l1 l2 l3 l4 l5 l6 l7 (pc + 1) (.int (wa d) :: st)) : J E Q (wX (eI E) (eZ E) q (kd, li, pi, le, bd, bo, sr, wa, ta)) l0 l1 l2 l3 l4 l5 l6 l7 pc (.int (nI d) :: .ref (q 5) :: st) := fun H locs ls hS hl => va_zald hC.1 hC.2.1 hC.2.2.2.2.2.1 hS.1 5 1 rfl rfl (vp_in_nI hd (by decide)) hdg (by rw [nI_clamp (n := d) (by omega)]; exact kk H locs ls hS hl)
theorem x_ld_target (hC : jC E cc R_X nL kR) {d : Nat} (hd : d < 144) (hdg : decode cc pc = .ok (.iaload, 1)) (kk : J E Q (wX (eI E) (eZ E) q (kd, li, pi, le, bd, bo, sr, wa, ta)) l0 l1 l2 l3 l4 l5 l6 l7 (pc + 1) (.int (nI (ta d)) :: st)) : J E Q (wX (eI E) (eZ E) q (kd, li, pi, le, bd, bo, sr, wa, ta)) l0 l1 l2 l3 l4 l5 l6 l7 pc (.int (nI d) :: .ref (q 6) :: st) := fun H locs ls hS hl => va_iald hC.1 hC.2.1 hC.2.2.2.2.2.1 hS.1 6 0 rfl rfl (vp_in_nI hd (by decide)) hdg (by rw [nI_clamp (n := d) (by omega)]; exact kk H locs ls hS hl)
theorem m_ld_chars (hC : jC E cc R_M nL kR) {d : Nat} (hd : d < 440) (hdg : decode cc pc = .ok (.iaload, 1)) (kk : J E Q (wM (eI E) (eZ E) q (ch, ln, pl)) l0 l1 l2 l3 l4 l5 l6 l7 (pc + 1) (.int (ch d) :: st)) : J E Q (wM (eI E) (eZ E) q (ch, ln, pl)) l0 l1 l2 l3 l4 l5 l6 l7 pc (.int (nI d) :: .ref (q 1) :: st) := fun H locs ls hS hl => va_iald hC.1 hC.2.1 hC.2.2.2.2.2.1 hS.1 1 0 rfl rfl (vp_in_nI hd (by decide)) hdg (by rw [nI_clamp (n := d) (by omega)]; exact kk H locs ls hS hl)
theorem m_ld_lengths (hC : jC E cc R_M nL kR) {d : Nat} (hd : d < 11) (hdg : decode cc pc = .ok (.iaload, 1)) (kk : J E Q (wM (eI E) (eZ E) q (ch, ln, pl)) l0 l1 l2 l3 l4 l5 l6 l7 (pc + 1) (.int (nI (ln d)) :: st)) : J E Q (wM (eI E) (eZ E) q (ch, ln, pl)) l0 l1 l2 l3 l4 l5 l6 l7 pc (.int (nI d) :: .ref (q 2) :: st) := fun H locs ls hS hl => va_iald hC.1 hC.2.1 hC.2.2.2.2.2.1 hS.1 2 0 rfl rfl (vp_in_nI hd (by decide)) hdg (by rw [nI_clamp (n := d) (by omega)]; exact kk H locs ls hS hl)
theorem x_st_line (hC : jC E cc R_X nL kR) {d : Nat} {z : Int32} (hd : d < 40) (hdg : decode cc pc = .ok (.iastore, 1)) (kk : J E Q (wX (eI E) (eZ E) q (kd, upd li d z, pi, le, bd, bo, sr, wa, ta)) l0 l1 l2 l3 l4 l5 l6 l7 (pc + 1) st) : J E Q (wX (eI E) (eZ E) q (kd, li, pi, le, bd, bo, sr, wa, ta)) l0 l1 l2 l3 l4 l5 l6 l7 pc (.int z :: .int (nI d) :: .ref (q 1) :: st) := fun H locs ls hS hl => va_iast hC.1 hC.2.1 hC.2.2.2.2.2.1 hS.1 hS.2.1 hS.2.2 1 0 rfl rfl (vp_in_nI hd (by decide)) hdg (fun H1 locs1 h1 h2 h3 => by
  rw [nI_clamp (n := d) (by omega)] at h1 h2
  exact kk H1 locs1 ls ⟨h1, h2, h3⟩ hl)
theorem x_st_length (hC : jC E cc R_X nL kR) {d z : Nat} (hd : d < 10) (hdg : decode cc pc = .ok (.iastore, 1)) (kk : J E Q (wX (eI E) (eZ E) q (kd, li, pi, upN le d z, bd, bo, sr, wa, ta)) l0 l1 l2 l3 l4 l5 l6 l7 (pc + 1) st) : J E Q (wX (eI E) (eZ E) q (kd, li, pi, le, bd, bo, sr, wa, ta)) l0 l1 l2 l3 l4 l5 l6 l7 pc (.int (nI z) :: .int (nI d) :: .ref (q 2) :: st) := fun H locs ls hS hl => va_iast hC.1 hC.2.1 hC.2.2.2.2.2.1 hS.1 hS.2.1 hS.2.2 2 0 rfl rfl (vp_in_nI hd (by decide)) hdg (fun H1 locs1 h1 h2 h3 => by
  rw [nI_clamp (n := d) (by omega), nF_up] at h1 h2
  exact kk H1 locs1 ls ⟨h1, h2, h3⟩ hl)
theorem x_st_body (hC : jC E cc R_X nL kR) {d z : Nat} (hd : d < 10) (hdg : decode cc pc = .ok (.iastore, 1)) (kk : J E Q (wX (eI E) (eZ E) q (kd, li, pi, le, upN bd d z, bo, sr, wa, ta)) l0 l1 l2 l3 l4 l5 l6 l7 (pc + 1) st) : J E Q (wX (eI E) (eZ E) q (kd, li, pi, le, bd, bo, sr, wa, ta)) l0 l1 l2 l3 l4 l5 l6 l7 pc (.int (nI z) :: .int (nI d) :: .ref (q 3) :: st) := fun H locs ls hS hl => va_iast hC.1 hC.2.1 hC.2.2.2.2.2.1 hS.1 hS.2.1 hS.2.2 3 0 rfl rfl (vp_in_nI hd (by decide)) hdg (fun H1 locs1 h1 h2 h3 => by
  rw [nI_clamp (n := d) (by omega), nF_up] at h1 h2
  exact kk H1 locs1 ls ⟨h1, h2, h3⟩ hl)
theorem x_st_store (hC : jC E cc R_X nL kR) {d : Nat} {z : Int32} (hd : d < 144) (hdg : decode cc pc = .ok (.iastore, 1)) (kk : J E Q (wX (eI E) (eZ E) q (kd, li, pi, le, bd, bo, upd sr d z, wa, ta)) l0 l1 l2 l3 l4 l5 l6 l7 (pc + 1) st) : J E Q (wX (eI E) (eZ E) q (kd, li, pi, le, bd, bo, sr, wa, ta)) l0 l1 l2 l3 l4 l5 l6 l7 pc (.int z :: .int (nI d) :: .ref (q 4) :: st) := fun H locs ls hS hl => va_iast hC.1 hC.2.1 hC.2.2.2.2.2.1 hS.1 hS.2.1 hS.2.2 4 0 rfl rfl (vp_in_nI hd (by decide)) hdg (fun H1 locs1 h1 h2 h3 => by
  rw [nI_clamp (n := d) (by omega)] at h1 h2
  exact kk H1 locs1 ls ⟨h1, h2, h3⟩ hl)
theorem x_st_target (hC : jC E cc R_X nL kR) {d z : Nat} (hd : d < 144) (hdg : decode cc pc = .ok (.iastore, 1)) (kk : J E Q (wX (eI E) (eZ E) q (kd, li, pi, le, bd, bo, sr, wa, upN ta d z)) l0 l1 l2 l3 l4 l5 l6 l7 (pc + 1) st) : J E Q (wX (eI E) (eZ E) q (kd, li, pi, le, bd, bo, sr, wa, ta)) l0 l1 l2 l3 l4 l5 l6 l7 pc (.int (nI z) :: .int (nI d) :: .ref (q 6) :: st) := fun H locs ls hS hl => va_iast hC.1 hC.2.1 hC.2.2.2.2.2.1 hS.1 hS.2.1 hS.2.2 6 0 rfl rfl (vp_in_nI hd (by decide)) hdg (fun H1 locs1 h1 h2 h3 => by
  rw [nI_clamp (n := d) (by omega), nF_up] at h1 h2
  exact kk H1 locs1 ls ⟨h1, h2, h3⟩ hl)
theorem m_st_chars (hC : jC E cc R_M nL kR) {d : Nat} {z : Int32} (hd : d < 440) (hdg : decode cc pc = .ok (.iastore, 1)) (kk : J E Q (wM (eI E) (eZ E) q (upd ch d z, ln, pl)) l0 l1 l2 l3 l4 l5 l6 l7 (pc + 1) st) : J E Q (wM (eI E) (eZ E) q (ch, ln, pl)) l0 l1 l2 l3 l4 l5 l6 l7 pc (.int z :: .int (nI d) :: .ref (q 1) :: st) := fun H locs ls hS hl => va_iast hC.1 hC.2.1 hC.2.2.2.2.2.1 hS.1 hS.2.1 hS.2.2 1 0 rfl rfl (vp_in_nI hd (by decide)) hdg (fun H1 locs1 h1 h2 h3 => by
  rw [nI_clamp (n := d) (by omega)] at h1 h2
  exact kk H1 locs1 ls ⟨h1, h2, h3⟩ hl)
theorem m_st_lengths (hC : jC E cc R_M nL kR) {d z : Nat} (hd : d < 11) (hdg : decode cc pc = .ok (.iastore, 1)) (kk : J E Q (wM (eI E) (eZ E) q (ch, upN ln d z, pl)) l0 l1 l2 l3 l4 l5 l6 l7 (pc + 1) st) : J E Q (wM (eI E) (eZ E) q (ch, ln, pl)) l0 l1 l2 l3 l4 l5 l6 l7 pc (.int (nI z) :: .int (nI d) :: .ref (q 2) :: st) := fun H locs ls hS hl => va_iast hC.1 hC.2.1 hC.2.2.2.2.2.1 hS.1 hS.2.1 hS.2.2 2 0 rfl rfl (vp_in_nI hd (by decide)) hdg (fun H1 locs1 h1 h2 h3 => by
  rw [nI_clamp (n := d) (by omega), nF_up] at h1 h2
  exact kk H1 locs1 ls ⟨h1, h2, h3⟩ hl)
theorem x_st_wanted (hC : jC E cc R_X nL kR) {d : Nat} {z : Int32} (hz : vp_nar .boolean z = z) (hd : d < 144) (hdg : decode cc pc = .ok (.bastore, 1)) (kk : J E Q (wX (eI E) (eZ E) q (kd, li, pi, le, bd, bo, sr, upd wa d z, ta)) l0 l1 l2 l3 l4 l5 l6 l7 (pc + 1) st) : J E Q (wX (eI E) (eZ E) q (kd, li, pi, le, bd, bo, sr, wa, ta)) l0 l1 l2 l3 l4 l5 l6 l7 pc (.int z :: .int (nI d) :: .ref (q 5) :: st) := fun H locs ls hS hl => va_zast hC.1 hC.2.1 hC.2.2.2.2.2.1 hS.1 hS.2.1 hS.2.2 5 1 rfl rfl (vp_in_nI hd (by decide)) hdg (fun H1 locs1 h1 h2 h3 => by
  rw [nI_clamp (n := d) (by omega), hz] at h1 h2
  exact kk H1 locs1 ls ⟨h1, h2, h3⟩ hl)
theorem nb0 : vp_nar .boolean (nI 0) = nI 0 := by decide +kernel
theorem nb1 : vp_nar .boolean (nI 1) = nI 1 := by decide +kernel
end JF
-- contracts
def rmK (k : Nat) : Room := { frames := k, cells := 0, slots := 0, locals := 27 * k }
abbrev wmap (S : Type) : Type := ClassId → ClassId → (Nat → Nat) → S → va_W
def jB (D : va_G) (cI cZ : ClassId) (q : Nat → Nat) (A : Nat → Prop) {S : Type} (w : wmap S) (u : S) (t : State) : Prop := va_P D classes (w cI cZ q u) t.heap ∧ va_K D classes (tyz cI cZ) t ∧ va_D A (w cI cZ q u)
def jP (D : va_G) (cI cZ : ClassId) (q : Nat → Nat) (sz : Nat) {S : Type} (w : wmap S) (u : S) (U : State) : Prop := U.heap.size = sz ∧ va_P D classes (w cI cZ q u) U.heap ∧ va_K D classes (tyz cI cZ) U ∧ va_D (fun _ => True) (w cI cZ q u)
/-- a method that answers an int (a boolean): from the world u with the arguments av it comes to an answer r and a world u' with post r u' -/
def CtI (l : Launch) (y : MethodName) (b : ByteArray) (n : Nat) (ret : Option FieldType) (k : Nat) {S : Type} (w : wmap S) (av : List Value) (u : S) (post : Int32 → S → Prop) : Prop :=
  ∀ (D : va_G) (cI cZ : ClassId) (q : Nat → Nat) (sz : Nat), Met l y (wY y b n ret) (rmK k) (va_Pc (.ref (q 0) :: av) (jP D cI cZ q sz w u)) (va_Qi post (jB D cI cZ q (va_A (w cI cZ q u) sz) w) (va_A (w cI cZ q u) sz)) 0 0 (va_A (w cI cZ q u) sz)
/-- a method without an answer -/
def CtV (l : Launch) (y : MethodName) (b : ByteArray) (n : Nat) (ret : Option FieldType) (k : Nat) {S : Type} (w : wmap S) (av : List Value) (u : S) (post : S → Prop) : Prop :=
  ∀ (D : va_G) (cI cZ : ClassId) (q : Nat → Nat) (sz : Nat), Met l y (wY y b n ret) (rmK k) (va_Pc (.ref (q 0) :: av) (jP D cI cZ q sz w u)) (va_Qv post (jB D cI cZ q (va_A (w cI cZ q u) sz) w) (va_A (w cI cZ q u) sz)) 0 0 (va_A (w cI cZ q u) sz)
def QI (E : jE) (q : Nat → Nat) {S : Type} (w : wmap S) (post : Int32 → S → Prop) : State → Prop := MQ (eB E) (va_Qi post (jB (eD E) (eI E) (eZ E) q (eF E) w) (eF E)) (eA E) (eS E) (eX E) (eY E) (eF E)
def QV (E : jE) (q : Nat → Nat) {S : Type} (w : wmap S) (post : S → Prop) : State → Prop := MQ (eB E) (va_Qv post (jB (eD E) (eI E) (eZ E) q (eF E) w) (eF E)) (eA E) (eS E) (eX E) (eY E) (eF E)
section JA
variable {E : jE} {Q : State → Prop} {ws : va_W} {l0 l1 l2 l3 l4 l5 l6 l7 : Option Value} {pc : Nat} {st : List Value} {cc : ByteArray} {own : String} {nL kR : Nat}
variable {q : Nat → Nat} {S : Type} {w : wmap S} {u : S}
theorem j_ireturn (hC : jC E cc own nL kR) {post : Int32 → S → Prop} {r : Int32} (hr : (eT E).sig.returnType = some .int) (hp : post r u) (hdg : decode cc pc = .ok (.ireturn, 1)) : J E (QI E q w post) (w (eI E) (eZ E) q u) l0 l1 l2 l3 l4 l5 l6 l7 pc [.int r] := fun H locs ls hS hl => W.iret hC.1 hC.2.1 hr (fun t ht hW => ⟨⟨r, u, rfl, hp, by rw [ht]; exact hS.1, va_K.moved hW.alike hC.2.2.2.2.2.1, hS.2.1⟩, hS.2.2.F ht⟩) hS.2.2.2.2 hdg hC.2.2.2.2.2.2.2.1
theorem j_zreturn (hC : jC E cc own nL kR) {post : Int32 → S → Prop} {r : Int32} (hn : narrow .boolean (.int r) = .int r) (hr : (eT E).sig.returnType = some .boolean) (hp : post r u) (hdg : decode cc pc = .ok (.ireturn, 1)) : J E (QI E q w post) (w (eI E) (eZ E) q u) l0 l1 l2 l3 l4 l5 l6 l7 pc [.int r] := fun H locs ls hS hl => W.zret hC.1 hC.2.1 hr hn (fun t ht hW => ⟨⟨r, u, rfl, hp, by rw [ht]; exact hS.1, va_K.moved hW.alike hC.2.2.2.2.2.1, hS.2.1⟩, hS.2.2.F ht⟩) hS.2.2.2.2 hdg hC.2.2.2.2.2.2.2.1
theorem j_return (hC : jC E cc own nL kR) {post : S → Prop} (hr : (eT E).sig.returnType = none) (hp : post u) (hdg : decode cc pc = .ok (.return_, 1)) : J E (QV E q w post) (w (eI E) (eZ E) q u) l0 l1 l2 l3 l4 l5 l6 l7 pc [] := fun H locs ls hS hl => W.vret hC.1 hC.2.1 hr (fun t ht hW => ⟨⟨u, rfl, hp, by rw [ht]; exact hS.1, va_K.moved hW.alike hC.2.2.2.2.2.1, hS.2.1⟩, hS.2.2.F ht⟩) hS.2.2.2.2 hdg hC.2.2.2.2.2.2.2.1
theorem bz0 : narrow .boolean (.int (nI 0)) = .int (nI 0) := by decide +kernel
theorem bz1 : narrow .boolean (.int (nI 1)) = .int (nI 1) := by decide +kernel
end JA
theorem ent_of {ls : Array Slot} {n : Nat} {vs : List Value} {L : Nat → Option Value} (h : lv_has ls n (lv_args 0 vs)) (hL0 : ∀ i v, L i = some v → (i, v) ∈ lv_args 0 vs ∧ v.category = 1) : hL ls n L := ⟨h.1, h.2.1, fun i v hi => ⟨h.2.2 (i, v) (hL0 i v hi).1, (hL0 i v hi).2⟩⟩
theorem CtI.of0 {l : Launch} {y : MethodName} {b : ByteArray} {n : Nat} {ret : Option FieldType} {k : Nat} {own : String} {S : Type} {w : wmap S} {u : S} {post : Int32 → S → Prop} (hy : plainName y.cls = true) (hyc : y.cls = own) (hn : 1 ≤ n)
    (body : ∀ (E : jE) (q : Nat → Nat), eL E = l → jC E b own n k → (eT E).sig.returnType = ret → J E (QI E q w post) (w (eI E) (eZ E) q u) (some (.ref (q 0))) none none none none none none none 0 []) : CtI l y b n ret k w [] u post := by
  intro D cI cZ q sz
  refine Met.ofW (cc := b) (maxL := n) (ret := ret) hy rfl ?_
  intro p e s m args below meth c s₁ B hml hv
  obtain ⟨rfl, hsz, hP, hK, hD0⟩ := hv
  subst hsz
  have hts := atoms_spec (ws := wY y b n ret) B.pre
  have hown : s.vm.findClass own = some m.cls := hyc ▸ findClass_of_methodNamed B.named
  have hl := lv_entry ([.ref (q 0)]) (n := n) hn
  rw [lg_entry_eq]
  refine body (p, l, e, (headSpec (wY y b n ret) (rmK k)).room, s, m, ([.ref (q 0)] : List Value).toArray, below, meth, c, D, cI, cZ, va_A (w cI cZ q u) s.heap.size, 0, 0) q rfl ⟨B.exec, B.bytes, hml, hown, fun w hw => hts w (List.mem_cons_of_mem _ hw), hK, fun q h => Or.inr h, B.notSynchronized, Nat.le_refl _, Nat.le_refl _, Nat.le_refl _, Nat.le_refl _⟩ B.returns s.heap [] _ ⟨hP, hD0.self, va_S.rf⟩ ?_
  show hL _ c.maxLocals _
  rw [hml]
  refine ent_of hl (fun i v hi => ?_)
  match i, hi with
  | 0, hi => cases hi; exact ⟨List.mem_of_getElem? (i := 0) rfl, rfl⟩
  | 1, hi => cases hi
  | 2, hi => cases hi
  | 3, hi => cases hi
  | 4, hi => cases hi
  | 5, hi => cases hi
  | 6, hi => cases hi
  | 7, hi => cases hi
  | i + 8, hi => cases hi
theorem CtI.of1 {l : Launch} {y : MethodName} {b : ByteArray} {n : Nat} {ret : Option FieldType} {k : Nat} {own : String} {S : Type} {w : wmap S} {a1 : Int32} {u : S} {post : Int32 → S → Prop} (hy : plainName y.cls = true) (hyc : y.cls = own) (hn : 2 ≤ n)
    (body : ∀ (E : jE) (q : Nat → Nat), eL E = l → jC E b own n k → (eT E).sig.returnType = ret → J E (QI E q w post) (w (eI E) (eZ E) q u) (some (.ref (q 0))) (some (.int a1)) none none none none none none 0 []) : CtI l y b n ret k w [.int a1] u post := by
  intro D cI cZ q sz
  refine Met.ofW (cc := b) (maxL := n) (ret := ret) hy rfl ?_
  intro p e s m args below meth c s₁ B hml hv
  obtain ⟨rfl, hsz, hP, hK, hD0⟩ := hv
  subst hsz
  have hts := atoms_spec (ws := wY y b n ret) B.pre
  have hown : s.vm.findClass own = some m.cls := hyc ▸ findClass_of_methodNamed B.named
  have hl := lv_entry ([.ref (q 0), .int a1]) (n := n) hn
  rw [lg_entry_eq]
  refine body (p, l, e, (headSpec (wY y b n ret) (rmK k)).room, s, m, ([.ref (q 0), .int a1] : List Value).toArray, below, meth, c, D, cI, cZ, va_A (w cI cZ q u) s.heap.size, 0, 0) q rfl ⟨B.exec, B.bytes, hml, hown, fun w hw => hts w (List.mem_cons_of_mem _ hw), hK, fun q h => Or.inr h, B.notSynchronized, Nat.le_refl _, Nat.le_refl _, Nat.le_refl _, Nat.le_refl _⟩ B.returns s.heap [] _ ⟨hP, hD0.self, va_S.rf⟩ ?_
  show hL _ c.maxLocals _
  rw [hml]
  refine ent_of hl (fun i v hi => ?_)
  match i, hi with
  | 0, hi => cases hi; exact ⟨List.mem_of_getElem? (i := 0) rfl, rfl⟩
  | 1, hi => cases hi; exact ⟨List.mem_of_getElem? (i := 1) rfl, rfl⟩
  | 2, hi => cases hi
  | 3, hi => cases hi
  | 4, hi => cases hi
  | 5, hi => cases hi
  | 6, hi => cases hi
  | 7, hi => cases hi
  | i + 8, hi => cases hi
theorem CtI.of2 {l : Launch} {y : MethodName} {b : ByteArray} {n : Nat} {ret : Option FieldType} {k : Nat} {own : String} {S : Type} {w : wmap S} {a1 a2 : Int32} {u : S} {post : Int32 → S → Prop} (hy : plainName y.cls = true) (hyc : y.cls = own) (hn : 3 ≤ n)
    (body : ∀ (E : jE) (q : Nat → Nat), eL E = l → jC E b own n k → (eT E).sig.returnType = ret → J E (QI E q w post) (w (eI E) (eZ E) q u) (some (.ref (q 0))) (some (.int a1)) (some (.int a2)) none none none none none 0 []) : CtI l y b n ret k w [.int a1, .int a2] u post := by
  intro D cI cZ q sz
  refine Met.ofW (cc := b) (maxL := n) (ret := ret) hy rfl ?_
  intro p e s m args below meth c s₁ B hml hv
  obtain ⟨rfl, hsz, hP, hK, hD0⟩ := hv
  subst hsz
  have hts := atoms_spec (ws := wY y b n ret) B.pre
  have hown : s.vm.findClass own = some m.cls := hyc ▸ findClass_of_methodNamed B.named
  have hl := lv_entry ([.ref (q 0), .int a1, .int a2]) (n := n) hn
  rw [lg_entry_eq]
  refine body (p, l, e, (headSpec (wY y b n ret) (rmK k)).room, s, m, ([.ref (q 0), .int a1, .int a2] : List Value).toArray, below, meth, c, D, cI, cZ, va_A (w cI cZ q u) s.heap.size, 0, 0) q rfl ⟨B.exec, B.bytes, hml, hown, fun w hw => hts w (List.mem_cons_of_mem _ hw), hK, fun q h => Or.inr h, B.notSynchronized, Nat.le_refl _, Nat.le_refl _, Nat.le_refl _, Nat.le_refl _⟩ B.returns s.heap [] _ ⟨hP, hD0.self, va_S.rf⟩ ?_
  show hL _ c.maxLocals _
  rw [hml]
  refine ent_of hl (fun i v hi => ?_)
  match i, hi with
  | 0, hi => cases hi; exact ⟨List.mem_of_getElem? (i := 0) rfl, rfl⟩
  | 1, hi => cases hi; exact ⟨List.mem_of_getElem? (i := 1) rfl, rfl⟩
  | 2, hi => cases hi; exact ⟨List.mem_of_getElem? (i := 2) rfl, rfl⟩
  | 3, hi => cases hi
  | 4, hi => cases hi
  | 5, hi => cases hi
  | 6, hi => cases hi
  | 7, hi => cases hi
  | i + 8, hi => cases hi
theorem CtI.of3 {l : Launch} {y : MethodName} {b : ByteArray} {n : Nat} {ret : Option FieldType} {k : Nat} {own : String} {S : Type} {w : wmap S} {a1 a2 a3 : Int32} {u : S} {post : Int32 → S → Prop} (hy : plainName y.cls = true) (hyc : y.cls = own) (hn : 4 ≤ n)
    (body : ∀ (E : jE) (q : Nat → Nat), eL E = l → jC E b own n k → (eT E).sig.returnType = ret → J E (QI E q w post) (w (eI E) (eZ E) q u) (some (.ref (q 0))) (some (.int a1)) (some (.int a2)) (some (.int a3)) none none none none 0 []) : CtI l y b n ret k w [.int a1, .int a2, .int a3] u post := by
  intro D cI cZ q sz
  refine Met.ofW (cc := b) (maxL := n) (ret := ret) hy rfl ?_
  intro p e s m args below meth c s₁ B hml hv
  obtain ⟨rfl, hsz, hP, hK, hD0⟩ := hv
  subst hsz
  have hts := atoms_spec (ws := wY y b n ret) B.pre
  have hown : s.vm.findClass own = some m.cls := hyc ▸ findClass_of_methodNamed B.named
  have hl := lv_entry ([.ref (q 0), .int a1, .int a2, .int a3]) (n := n) hn
  rw [lg_entry_eq]
  refine body (p, l, e, (headSpec (wY y b n ret) (rmK k)).room, s, m, ([.ref (q 0), .int a1, .int a2, .int a3] : List Value).toArray, below, meth, c, D, cI, cZ, va_A (w cI cZ q u) s.heap.size, 0, 0) q rfl ⟨B.exec, B.bytes, hml, hown, fun w hw => hts w (List.mem_cons_of_mem _ hw), hK, fun q h => Or.inr h, B.notSynchronized, Nat.le_refl _, Nat.le_refl _, Nat.le_refl _, Nat.le_refl _⟩ B.returns s.heap [] _ ⟨hP, hD0.self, va_S.rf⟩ ?_
  show hL _ c.maxLocals _
  rw [hml]
  refine ent_of hl (fun i v hi => ?_)
  match i, hi with
  | 0, hi => cases hi; exact ⟨List.mem_of_getElem? (i := 0) rfl, rfl⟩
  | 1, hi => cases hi; exact ⟨List.mem_of_getElem? (i := 1) rfl, rfl⟩
  | 2, hi => cases hi; exact ⟨List.mem_of_getElem? (i := 2) rfl, rfl⟩
  | 3, hi => cases hi; exact ⟨List.mem_of_getElem? (i := 3) rfl, rfl⟩
  | 4, hi => cases hi
  | 5, hi => cases hi
  | 6, hi => cases hi
  | 7, hi => cases hi
  | i + 8, hi => cases hi
theorem CtV.of0 {l : Launch} {y : MethodName} {b : ByteArray} {n : Nat} {ret : Option FieldType} {k : Nat} {own : String} {S : Type} {w : wmap S} {u : S} {post : S → Prop} (hy : plainName y.cls = true) (hyc : y.cls = own) (hn : 1 ≤ n)
    (body : ∀ (E : jE) (q : Nat → Nat), eL E = l → jC E b own n k → (eT E).sig.returnType = ret → J E (QV E q w post) (w (eI E) (eZ E) q u) (some (.ref (q 0))) none none none none none none none 0 []) : CtV l y b n ret k w [] u post := by
  intro D cI cZ q sz
  refine Met.ofW (cc := b) (maxL := n) (ret := ret) hy rfl ?_
  intro p e s m args below meth c s₁ B hml hv
  obtain ⟨rfl, hsz, hP, hK, hD0⟩ := hv
  subst hsz
  have hts := atoms_spec (ws := wY y b n ret) B.pre
  have hown : s.vm.findClass own = some m.cls := hyc ▸ findClass_of_methodNamed B.named
  have hl := lv_entry ([.ref (q 0)]) (n := n) hn
  rw [lg_entry_eq]
  refine body (p, l, e, (headSpec (wY y b n ret) (rmK k)).room, s, m, ([.ref (q 0)] : List Value).toArray, below, meth, c, D, cI, cZ, va_A (w cI cZ q u) s.heap.size, 0, 0) q rfl ⟨B.exec, B.bytes, hml, hown, fun w hw => hts w (List.mem_cons_of_mem _ hw), hK, fun q h => Or.inr h, B.notSynchronized, Nat.le_refl _, Nat.le_refl _, Nat.le_refl _, Nat.le_refl _⟩ B.returns s.heap [] _ ⟨hP, hD0.self, va_S.rf⟩ ?_
  show hL _ c.maxLocals _
  rw [hml]
  refine ent_of hl (fun i v hi => ?_)
  match i, hi with
  | 0, hi => cases hi; exact ⟨List.mem_of_getElem? (i := 0) rfl, rfl⟩
  | 1, hi => cases hi
  | 2, hi => cases hi
  | 3, hi => cases hi
  | 4, hi => cases hi
  | 5, hi => cases hi
  | 6, hi => cases hi
  | 7, hi => cases hi
  | i + 8, hi => cases hi
theorem CtV.of1 {l : Launch} {y : MethodName} {b : ByteArray} {n : Nat} {ret : Option FieldType} {k : Nat} {own : String} {S : Type} {w : wmap S} {a1 : Int32} {u : S} {post : S → Prop} (hy : plainName y.cls = true) (hyc : y.cls = own) (hn : 2 ≤ n)
    (body : ∀ (E : jE) (q : Nat → Nat), eL E = l → jC E b own n k → (eT E).sig.returnType = ret → J E (QV E q w post) (w (eI E) (eZ E) q u) (some (.ref (q 0))) (some (.int a1)) none none none none none none 0 []) : CtV l y b n ret k w [.int a1] u post := by
  intro D cI cZ q sz
  refine Met.ofW (cc := b) (maxL := n) (ret := ret) hy rfl ?_
  intro p e s m args below meth c s₁ B hml hv
  obtain ⟨rfl, hsz, hP, hK, hD0⟩ := hv
  subst hsz
  have hts := atoms_spec (ws := wY y b n ret) B.pre
  have hown : s.vm.findClass own = some m.cls := hyc ▸ findClass_of_methodNamed B.named
  have hl := lv_entry ([.ref (q 0), .int a1]) (n := n) hn
  rw [lg_entry_eq]
  refine body (p, l, e, (headSpec (wY y b n ret) (rmK k)).room, s, m, ([.ref (q 0), .int a1] : List Value).toArray, below, meth, c, D, cI, cZ, va_A (w cI cZ q u) s.heap.size, 0, 0) q rfl ⟨B.exec, B.bytes, hml, hown, fun w hw => hts w (List.mem_cons_of_mem _ hw), hK, fun q h => Or.inr h, B.notSynchronized, Nat.le_refl _, Nat.le_refl _, Nat.le_refl _, Nat.le_refl _⟩ B.returns s.heap [] _ ⟨hP, hD0.self, va_S.rf⟩ ?_
  show hL _ c.maxLocals _
  rw [hml]
  refine ent_of hl (fun i v hi => ?_)
  match i, hi with
  | 0, hi => cases hi; exact ⟨List.mem_of_getElem? (i := 0) rfl, rfl⟩
  | 1, hi => cases hi; exact ⟨List.mem_of_getElem? (i := 1) rfl, rfl⟩
  | 2, hi => cases hi
  | 3, hi => cases hi
  | 4, hi => cases hi
  | 5, hi => cases hi
  | 6, hi => cases hi
  | 7, hi => cases hi
  | i + 8, hi => cases hi
theorem CtV.of2 {l : Launch} {y : MethodName} {b : ByteArray} {n : Nat} {ret : Option FieldType} {k : Nat} {own : String} {S : Type} {w : wmap S} {a1 a2 : Int32} {u : S} {post : S → Prop} (hy : plainName y.cls = true) (hyc : y.cls = own) (hn : 3 ≤ n)
    (body : ∀ (E : jE) (q : Nat → Nat), eL E = l → jC E b own n k → (eT E).sig.returnType = ret → J E (QV E q w post) (w (eI E) (eZ E) q u) (some (.ref (q 0))) (some (.int a1)) (some (.int a2)) none none none none none 0 []) : CtV l y b n ret k w [.int a1, .int a2] u post := by
  intro D cI cZ q sz
  refine Met.ofW (cc := b) (maxL := n) (ret := ret) hy rfl ?_
  intro p e s m args below meth c s₁ B hml hv
  obtain ⟨rfl, hsz, hP, hK, hD0⟩ := hv
  subst hsz
  have hts := atoms_spec (ws := wY y b n ret) B.pre
  have hown : s.vm.findClass own = some m.cls := hyc ▸ findClass_of_methodNamed B.named
  have hl := lv_entry ([.ref (q 0), .int a1, .int a2]) (n := n) hn
  rw [lg_entry_eq]
  refine body (p, l, e, (headSpec (wY y b n ret) (rmK k)).room, s, m, ([.ref (q 0), .int a1, .int a2] : List Value).toArray, below, meth, c, D, cI, cZ, va_A (w cI cZ q u) s.heap.size, 0, 0) q rfl ⟨B.exec, B.bytes, hml, hown, fun w hw => hts w (List.mem_cons_of_mem _ hw), hK, fun q h => Or.inr h, B.notSynchronized, Nat.le_refl _, Nat.le_refl _, Nat.le_refl _, Nat.le_refl _⟩ B.returns s.heap [] _ ⟨hP, hD0.self, va_S.rf⟩ ?_
  show hL _ c.maxLocals _
  rw [hml]
  refine ent_of hl (fun i v hi => ?_)
  match i, hi with
  | 0, hi => cases hi; exact ⟨List.mem_of_getElem? (i := 0) rfl, rfl⟩
  | 1, hi => cases hi; exact ⟨List.mem_of_getElem? (i := 1) rfl, rfl⟩
  | 2, hi => cases hi; exact ⟨List.mem_of_getElem? (i := 2) rfl, rfl⟩
  | 3, hi => cases hi
  | 4, hi => cases hi
  | 5, hi => cases hi
  | 6, hi => cases hi
  | 7, hi => cases hi
  | i + 8, hi => cases hi
theorem CtV.of3 {l : Launch} {y : MethodName} {b : ByteArray} {n : Nat} {ret : Option FieldType} {k : Nat} {own : String} {S : Type} {w : wmap S} {a1 a2 a3 : Int32} {u : S} {post : S → Prop} (hy : plainName y.cls = true) (hyc : y.cls = own) (hn : 4 ≤ n)
    (body : ∀ (E : jE) (q : Nat → Nat), eL E = l → jC E b own n k → (eT E).sig.returnType = ret → J E (QV E q w post) (w (eI E) (eZ E) q u) (some (.ref (q 0))) (some (.int a1)) (some (.int a2)) (some (.int a3)) none none none none 0 []) : CtV l y b n ret k w [.int a1, .int a2, .int a3] u post := by
  intro D cI cZ q sz
  refine Met.ofW (cc := b) (maxL := n) (ret := ret) hy rfl ?_
  intro p e s m args below meth c s₁ B hml hv
  obtain ⟨rfl, hsz, hP, hK, hD0⟩ := hv
  subst hsz
  have hts := atoms_spec (ws := wY y b n ret) B.pre
  have hown : s.vm.findClass own = some m.cls := hyc ▸ findClass_of_methodNamed B.named
  have hl := lv_entry ([.ref (q 0), .int a1, .int a2, .int a3]) (n := n) hn
  rw [lg_entry_eq]
  refine body (p, l, e, (headSpec (wY y b n ret) (rmK k)).room, s, m, ([.ref (q 0), .int a1, .int a2, .int a3] : List Value).toArray, below, meth, c, D, cI, cZ, va_A (w cI cZ q u) s.heap.size, 0, 0) q rfl ⟨B.exec, B.bytes, hml, hown, fun w hw => hts w (List.mem_cons_of_mem _ hw), hK, fun q h => Or.inr h, B.notSynchronized, Nat.le_refl _, Nat.le_refl _, Nat.le_refl _, Nat.le_refl _⟩ B.returns s.heap [] _ ⟨hP, hD0.self, va_S.rf⟩ ?_
  show hL _ c.maxLocals _
  rw [hml]
  refine ent_of hl (fun i v hi => ?_)
  match i, hi with
  | 0, hi => cases hi; exact ⟨List.mem_of_getElem? (i := 0) rfl, rfl⟩
  | 1, hi => cases hi; exact ⟨List.mem_of_getElem? (i := 1) rfl, rfl⟩
  | 2, hi => cases hi; exact ⟨List.mem_of_getElem? (i := 2) rfl, rfl⟩
  | 3, hi => cases hi; exact ⟨List.mem_of_getElem? (i := 3) rfl, rfl⟩
  | 4, hi => cases hi
  | 5, hi => cases hi
  | 6, hi => cases hi
  | 7, hi => cases hi
  | i + 8, hi => cases hi
section JK
variable {E : jE} {Q : State → Prop} {ws : va_W} {l0 l1 l2 l3 l4 l5 l6 l7 : Option Value} {pc : Nat} {st : List Value} {cc : ByteArray} {own : String} {nL kR : Nat}
variable {q : Nat → Nat} {S : Type} {w : wmap S} {u : S} {y : MethodName} {b : ByteArray} {n k np idx : Nat} {ret : Option FieldType} {C : String} {av : List Value} {wr : va_W} {st0 : List Value}
theorem j_calli {post : Int32 → S → Prop} (hC : jC E cc own nL kR) (hM : CtI (eL E) y b n ret k w av u post) (hY : jY C y b n ret np) (hlk : Cond.methodLink own idx y ∈ wT) (hk : k + 1 ≤ kR) {ci N : Nat} {T : u_T} {fs : List Value} (hc : classes[ci]? = some (C, T, N)) (h0 : (w (eI E) (eZ E) q u)[0]? = some (q 0, .inr (ci, fs)))
    (isC isR : List Nat) (hCs : isC.map (fun i => ws[i]?) = (w (eI E) (eZ E) q u).map some) (hCf : isC.filterMap (fun i => ws[i]?) = w (eI E) (eZ E) q u) (hRs : isR.map (fun i => ws[i]?) = wr.map some) (hn : va_nd isR = true) (hnC : va_nd isC = true) (hdis : ∀ i ∈ isR, i ∉ isC)
    (hlen : av.length = np) (hstk : st0 = av.reverse ++ .ref (q 0) :: st) (hroom : (st.map fun v => v.category).sum ≤ 8) (hdg : decode cc pc = .ok (.invokevirtual idx, 3))
    (kk : ∀ r u', post r u' → J E Q (wr ++ w (eI E) (eZ E) q u') l0 l1 l2 l3 l4 l5 l6 l7 (pc + 3) (.int r :: st)) : J E Q ws l0 l1 l2 l3 l4 l5 l6 l7 pc st0 := by
  intro H locs ls hS hl
  obtain ⟨hP, hD, hSS⟩ := hS
  have hPc := hP.sub (ws' := w (eI E) (eZ E) q u) isC hCf
  have hDc := hD.sub (ws' := w (eI E) (eZ E) q u) isC hnC hCs
  have hFc := va_free (wc := w (eI E) (eZ E) q u) hD hSS hC.2.2.2.2.2.2.1 isC hCs
  obtain ⟨hx, hb, hml, hown, hts, hK, hA, hlocks, hfr, hlo, hce, hsl⟩ := hC
  obtain ⟨y1, y2, y3, y4, y5, y6⟩ := hY
  have hG : GoodIn wT (wsV own idx C y (wY y b n ret)) := by
    intro z hz
    rcases List.mem_append.mp hz with h | h
    · refine wT_good z ?_
      rcases List.mem_cons.mp h with rfl | h
      · exact hlk
      rcases List.mem_cons.mp h with rfl | h
      · exact y1
      rcases List.mem_cons.mp h with rfl | h
      · exact y2
      rcases List.mem_cons.mp h with rfl | h
      · exact y3
      · cases h
    · exact wY_good y4 wT_good z h
  refine va_calli (va_runV (As := av) (rest := st) ⟨hx, hb, hml, hown, hts⟩ (hM (eD E) (eI E) (eZ E) q H.size) (cwV np hts hG rfl rfl rfl y5 ⟨Nat.le_trans hk hfr, Nat.le_trans (by show 8 + (n + 11) + 27 * k ≤ 27 * kR; omega) hlo⟩) ⟨fun a U g mk z => by obtain ⟨z0, z1, zP, zK, zD⟩ := z; exact ⟨z0, z1, zP, va_K.moved (u := U) (U := U.calling g mk a) (Vm.Alike.refl U.vm) zK, zD⟩, va_recv hK hPc hc h0, fun U hU hW => ⟨rfl, by rw [hU], by rw [hU]; exact hPc, va_K.moved hW.alike hK, hDc.weaken (fun _ _ _ _ => trivial)⟩⟩ rfl hlen (by show ls.size = nL; rw [hl.1, hml]) hstk (lv_room hroom) hdg ⟨hce, hsl⟩) hSS (fun q _ h => hFc q h) hFc (fun r u' t H1 locs ht hvm hw hB hz1 hk1 hS1 => ?_)
  obtain ⟨hP1, hK1, hD1⟩ := hB
  rw [ht] at hP1
  obtain ⟨hP2, hD2⟩ := va_join (wr := wr) hP hD isC isR hCs hRs hn hdis hk1 hFc hP1 hD1
  exact kk r u' hw H1 locs ls ⟨hP2, hD2, hS1⟩ hl
theorem j_callv {post : S → Prop} (hC : jC E cc own nL kR) (hM : CtV (eL E) y b n ret k w av u post) (hY : jY C y b n ret np) (hlk : Cond.methodLink own idx y ∈ wT) (hk : k + 1 ≤ kR) {ci N : Nat} {T : u_T} {fs : List Value} (hc : classes[ci]? = some (C, T, N)) (h0 : (w (eI E) (eZ E) q u)[0]? = some (q 0, .inr (ci, fs)))
    (isC isR : List Nat) (hCs : isC.map (fun i => ws[i]?) = (w (eI E) (eZ E) q u).map some) (hCf : isC.filterMap (fun i => ws[i]?) = w (eI E) (eZ E) q u) (hRs : isR.map (fun i => ws[i]?) = wr.map some) (hn : va_nd isR = true) (hnC : va_nd isC = true) (hdis : ∀ i ∈ isR, i ∉ isC)
    (hlen : av.length = np) (hstk : st0 = av.reverse ++ .ref (q 0) :: st) (hroom : (st.map fun v => v.category).sum ≤ 8) (hdg : decode cc pc = .ok (.invokevirtual idx, 3))
    (kk : ∀ u', post u' → J E Q (wr ++ w (eI E) (eZ E) q u') l0 l1 l2 l3 l4 l5 l6 l7 (pc + 3) st) : J E Q ws l0 l1 l2 l3 l4 l5 l6 l7 pc st0 := by
  intro H locs ls hS hl
  obtain ⟨hP, hD, hSS⟩ := hS
  have hPc := hP.sub (ws' := w (eI E) (eZ E) q u) isC hCf
  have hDc := hD.sub (ws' := w (eI E) (eZ E) q u) isC hnC hCs
  have hFc := va_free (wc := w (eI E) (eZ E) q u) hD hSS hC.2.2.2.2.2.2.1 isC hCs
  obtain ⟨hx, hb, hml, hown, hts, hK, hA, hlocks, hfr, hlo, hce, hsl⟩ := hC
  obtain ⟨y1, y2, y3, y4, y5, y6⟩ := hY
  have hG : GoodIn wT (wsV own idx C y (wY y b n ret)) := by
    intro z hz
    rcases List.mem_append.mp hz with h | h
    · refine wT_good z ?_
      rcases List.mem_cons.mp h with rfl | h
      · exact hlk
      rcases List.mem_cons.mp h with rfl | h
      · exact y1
      rcases List.mem_cons.mp h with rfl | h
      · exact y2
      rcases List.mem_cons.mp h with rfl | h
      · exact y3
      · cases h
    · exact wY_good y4 wT_good z h
  refine va_callv (va_runV (As := av) (rest := st) ⟨hx, hb, hml, hown, hts⟩ (hM (eD E) (eI E) (eZ E) q H.size) (cwV np hts hG rfl rfl rfl y5 ⟨Nat.le_trans hk hfr, Nat.le_trans (by show 8 + (n + 11) + 27 * k ≤ 27 * kR; omega) hlo⟩) ⟨fun a U g mk z => by obtain ⟨z0, z1, zP, zK, zD⟩ := z; exact ⟨z0, z1, zP, va_K.moved (u := U) (U := U.calling g mk a) (Vm.Alike.refl U.vm) zK, zD⟩, va_recv hK hPc hc h0, fun U hU hW => ⟨rfl, by rw [hU], by rw [hU]; exact hPc, va_K.moved hW.alike hK, hDc.weaken (fun _ _ _ _ => trivial)⟩⟩ rfl hlen (by show ls.size = nL; rw [hl.1, hml]) hstk (lv_room hroom) hdg ⟨hce, hsl⟩) hSS (fun q _ h => hFc q h) hFc (fun u' t H1 locs ht hvm hw hB hz1 hk1 hS1 => ?_)
  obtain ⟨hP1, hK1, hD1⟩ := hB
  rw [ht] at hP1
  obtain ⟨hP2, hD2⟩ := va_join (wr := wr) hP hD isC isR hCs hRs hn hdis hk1 hFc hP1 hD1
  exact kk u' hw H1 locs ls ⟨hP2, hD2, hS1⟩ hl
end JK
end
section
section JL
variable {E : jE} {Q : State → Prop} {ws : va_W} {l0 l1 l2 l3 l4 l5 l6 l7 : Option Value} {pc : Nat} {st : List Value} {cc : ByteArray} {own : String} {nL kR : Nat}
variable {q q2 : Nat → Nat} {y : MethodName} {b : ByteArray} {n k np idx : Nat} {ret : Option FieldType}
theorem x_calli0 {u : SX} {post : Int32 → SX → Prop} (hC : jC E cc R_X nL kR) (hM : CtI (eL E) y b n ret k wX [] u post) (hY : jY R_X y b n ret 0) (hlk : Cond.methodLink R_X idx y ∈ wT) (hk : k + 1 ≤ kR) (hroom : (st.map fun v => v.category).sum ≤ 8) (hdg : decode cc pc = .ok (.invokevirtual idx, 3)) (kk : ∀ r u', post r u' → J E Q (wX (eI E) (eZ E) q u') l0 l1 l2 l3 l4 l5 l6 l7 (pc + 3) (.int r :: st)) : J E Q (wX (eI E) (eZ E) q u) l0 l1 l2 l3 l4 l5 l6 l7 pc (.ref (q 0) :: st) := j_calli (wr := []) hC hM hY hlk hk (ci := 0) (N := 9) (T := F_X) rfl rfl [0, 1, 2, 3, 4, 5, 6] [] rfl rfl rfl rfl rfl (by decide) rfl rfl hroom hdg kk
theorem m_calli0 {u : SM} {post : Int32 → SM → Prop} (hC : jC E cc R_M nL kR) (hM : CtI (eL E) y b n ret k wM [] u post) (hY : jY R_M y b n ret 0) (hlk : Cond.methodLink R_M idx y ∈ wT) (hk : k + 1 ≤ kR) (hroom : (st.map fun v => v.category).sum ≤ 8) (hdg : decode cc pc = .ok (.invokevirtual idx, 3)) (kk : ∀ r u', post r u' → J E Q (wM (eI E) (eZ E) q u') l0 l1 l2 l3 l4 l5 l6 l7 (pc + 3) (.int r :: st)) : J E Q (wM (eI E) (eZ E) q u) l0 l1 l2 l3 l4 l5 l6 l7 pc (.ref (q 0) :: st) := j_calli (wr := []) hC hM hY hlk hk (ci := 1) (N := 3) (T := F_M) rfl rfl [0, 1, 2] [] rfl rfl rfl rfl rfl (by decide) rfl rfl hroom hdg kk
theorem lx_calli0 {u : SX} {v : SM} {post : Int32 → SX → Prop} (hC : jC E cc R_law nL kR) (hM : CtI (eL E) y b n ret k wX [] u post) (hY : jY R_X y b n ret 0) (hlk : Cond.methodLink R_law idx y ∈ wT) (hk : k + 1 ≤ kR) (hroom : (st.map fun v => v.category).sum ≤ 8) (hdg : decode cc pc = .ok (.invokevirtual idx, 3)) (kk : ∀ r u', post r u' → J E Q (wM (eI E) (eZ E) q2 v ++ wX (eI E) (eZ E) q u') l0 l1 l2 l3 l4 l5 l6 l7 (pc + 3) (.int r :: st)) : J E Q (wX (eI E) (eZ E) q u ++ wM (eI E) (eZ E) q2 v) l0 l1 l2 l3 l4 l5 l6 l7 pc (.ref (q 0) :: st) := j_calli (wr := (wM (eI E) (eZ E) q2 v)) hC hM hY hlk hk (ci := 0) (N := 9) (T := F_X) rfl rfl [0, 1, 2, 3, 4, 5, 6] [7, 8, 9] rfl rfl rfl rfl rfl (by decide) rfl rfl hroom hdg kk
theorem lm_calli0 {u : SM} {v : SX} {post : Int32 → SM → Prop} (hC : jC E cc R_law nL kR) (hM : CtI (eL E) y b n ret k wM [] u post) (hY : jY R_M y b n ret 0) (hlk : Cond.methodLink R_law idx y ∈ wT) (hk : k + 1 ≤ kR) (hroom : (st.map fun v => v.category).sum ≤ 8) (hdg : decode cc pc = .ok (.invokevirtual idx, 3)) (kk : ∀ r u', post r u' → J E Q (wX (eI E) (eZ E) q2 v ++ wM (eI E) (eZ E) q u') l0 l1 l2 l3 l4 l5 l6 l7 (pc + 3) (.int r :: st)) : J E Q (wM (eI E) (eZ E) q u ++ wX (eI E) (eZ E) q2 v) l0 l1 l2 l3 l4 l5 l6 l7 pc (.ref (q 0) :: st) := j_calli (wr := (wX (eI E) (eZ E) q2 v)) hC hM hY hlk hk (ci := 1) (N := 3) (T := F_M) rfl rfl [0, 1, 2] [3, 4, 5, 6, 7, 8, 9] rfl rfl rfl rfl rfl (by decide) rfl rfl hroom hdg kk
theorem x_callv0 {u : SX} {post : SX → Prop} (hC : jC E cc R_X nL kR) (hM : CtV (eL E) y b n ret k wX [] u post) (hY : jY R_X y b n ret 0) (hlk : Cond.methodLink R_X idx y ∈ wT) (hk : k + 1 ≤ kR) (hroom : (st.map fun v => v.category).sum ≤ 8) (hdg : decode cc pc = .ok (.invokevirtual idx, 3)) (kk : ∀ u', post u' → J E Q (wX (eI E) (eZ E) q u') l0 l1 l2 l3 l4 l5 l6 l7 (pc + 3) st) : J E Q (wX (eI E) (eZ E) q u) l0 l1 l2 l3 l4 l5 l6 l7 pc (.ref (q 0) :: st) := j_callv (wr := []) hC hM hY hlk hk (ci := 0) (N := 9) (T := F_X) rfl rfl [0, 1, 2, 3, 4, 5, 6] [] rfl rfl rfl rfl rfl (by decide) rfl rfl hroom hdg kk
theorem m_callv0 {u : SM} {post : SM → Prop} (hC : jC E cc R_M nL kR) (hM : CtV (eL E) y b n ret k wM [] u post) (hY : jY R_M y b n ret 0) (hlk : Cond.methodLink R_M idx y ∈ wT) (hk : k + 1 ≤ kR) (hroom : (st.map fun v => v.category).sum ≤ 8) (hdg : decode cc pc = .ok (.invokevirtual idx, 3)) (kk : ∀ u', post u' → J E Q (wM (eI E) (eZ E) q u') l0 l1 l2 l3 l4 l5 l6 l7 (pc + 3) st) : J E Q (wM (eI E) (eZ E) q u) l0 l1 l2 l3 l4 l5 l6 l7 pc (.ref (q 0) :: st) := j_callv (wr := []) hC hM hY hlk hk (ci := 1) (N := 3) (T := F_M) rfl rfl [0, 1, 2] [] rfl rfl rfl rfl rfl (by decide) rfl rfl hroom hdg kk
theorem lx_callv0 {u : SX} {v : SM} {post : SX → Prop} (hC : jC E cc R_law nL kR) (hM : CtV (eL E) y b n ret k wX [] u post) (hY : jY R_X y b n ret 0) (hlk : Cond.methodLink R_law idx y ∈ wT) (hk : k + 1 ≤ kR) (hroom : (st.map fun v => v.category).sum ≤ 8) (hdg : decode cc pc = .ok (.invokevirtual idx, 3)) (kk : ∀ u', post u' → J E Q (wM (eI E) (eZ E) q2 v ++ wX (eI E) (eZ E) q u') l0 l1 l2 l3 l4 l5 l6 l7 (pc + 3) st) : J E Q (wX (eI E) (eZ E) q u ++ wM (eI E) (eZ E) q2 v) l0 l1 l2 l3 l4 l5 l6 l7 pc (.ref (q 0) :: st) := j_callv (wr := (wM (eI E) (eZ E) q2 v)) hC hM hY hlk hk (ci := 0) (N := 9) (T := F_X) rfl rfl [0, 1, 2, 3, 4, 5, 6] [7, 8, 9] rfl rfl rfl rfl rfl (by decide) rfl rfl hroom hdg kk
theorem lm_callv0 {u : SM} {v : SX} {post : SM → Prop} (hC : jC E cc R_law nL kR) (hM : CtV (eL E) y b n ret k wM [] u post) (hY : jY R_M y b n ret 0) (hlk : Cond.methodLink R_law idx y ∈ wT) (hk : k + 1 ≤ kR) (hroom : (st.map fun v => v.category).sum ≤ 8) (hdg : decode cc pc = .ok (.invokevirtual idx, 3)) (kk : ∀ u', post u' → J E Q (wX (eI E) (eZ E) q2 v ++ wM (eI E) (eZ E) q u') l0 l1 l2 l3 l4 l5 l6 l7 (pc + 3) st) : J E Q (wM (eI E) (eZ E) q u ++ wX (eI E) (eZ E) q2 v) l0 l1 l2 l3 l4 l5 l6 l7 pc (.ref (q 0) :: st) := j_callv (wr := (wX (eI E) (eZ E) q2 v)) hC hM hY hlk hk (ci := 1) (N := 3) (T := F_M) rfl rfl [0, 1, 2] [3, 4, 5, 6, 7, 8, 9] rfl rfl rfl rfl rfl (by decide) rfl rfl hroom hdg kk
theorem x_calli1 {u : SX} {a1 : Int32} {post : Int32 → SX → Prop} (hC : jC E cc R_X nL kR) (hM : CtI (eL E) y b n ret k wX [.int a1] u post) (hY : jY R_X y b n ret 1) (hlk : Cond.methodLink R_X idx y ∈ wT) (hk : k + 1 ≤ kR) (hroom : (st.map fun v => v.category).sum ≤ 8) (hdg : decode cc pc = .ok (.invokevirtual idx, 3)) (kk : ∀ r u', post r u' → J E Q (wX (eI E) (eZ E) q u') l0 l1 l2 l3 l4 l5 l6 l7 (pc + 3) (.int r :: st)) : J E Q (wX (eI E) (eZ E) q u) l0 l1 l2 l3 l4 l5 l6 l7 pc (.int a1 :: .ref (q 0) :: st) := j_calli (wr := []) hC hM hY hlk hk (ci := 0) (N := 9) (T := F_X) rfl rfl [0, 1, 2, 3, 4, 5, 6] [] rfl rfl rfl rfl rfl (by decide) rfl rfl hroom hdg kk
theorem m_calli1 {u : SM} {a1 : Int32} {post : Int32 → SM → Prop} (hC : jC E cc R_M nL kR) (hM : CtI (eL E) y b n ret k wM [.int a1] u post) (hY : jY R_M y b n ret 1) (hlk : Cond.methodLink R_M idx y ∈ wT) (hk : k + 1 ≤ kR) (hroom : (st.map fun v => v.category).sum ≤ 8) (hdg : decode cc pc = .ok (.invokevirtual idx, 3)) (kk : ∀ r u', post r u' → J E Q (wM (eI E) (eZ E) q u') l0 l1 l2 l3 l4 l5 l6 l7 (pc + 3) (.int r :: st)) : J E Q (wM (eI E) (eZ E) q u) l0 l1 l2 l3 l4 l5 l6 l7 pc (.int a1 :: .ref (q 0) :: st) := j_calli (wr := []) hC hM hY hlk hk (ci := 1) (N := 3) (T := F_M) rfl rfl [0, 1, 2] [] rfl rfl rfl rfl rfl (by decide) rfl rfl hroom hdg kk
theorem lx_calli1 {u : SX} {v : SM} {a1 : Int32} {post : Int32 → SX → Prop} (hC : jC E cc R_law nL kR) (hM : CtI (eL E) y b n ret k wX [.int a1] u post) (hY : jY R_X y b n ret 1) (hlk : Cond.methodLink R_law idx y ∈ wT) (hk : k + 1 ≤ kR) (hroom : (st.map fun v => v.category).sum ≤ 8) (hdg : decode cc pc = .ok (.invokevirtual idx, 3)) (kk : ∀ r u', post r u' → J E Q (wM (eI E) (eZ E) q2 v ++ wX (eI E) (eZ E) q u') l0 l1 l2 l3 l4 l5 l6 l7 (pc + 3) (.int r :: st)) : J E Q (wX (eI E) (eZ E) q u ++ wM (eI E) (eZ E) q2 v) l0 l1 l2 l3 l4 l5 l6 l7 pc (.int a1 :: .ref (q 0) :: st) := j_calli (wr := (wM (eI E) (eZ E) q2 v)) hC hM hY hlk hk (ci := 0) (N := 9) (T := F_X) rfl rfl [0, 1, 2, 3, 4, 5, 6] [7, 8, 9] rfl rfl rfl rfl rfl (by decide) rfl rfl hroom hdg kk
theorem lm_calli1 {u : SM} {v : SX} {a1 : Int32} {post : Int32 → SM → Prop} (hC : jC E cc R_law nL kR) (hM : CtI (eL E) y b n ret k wM [.int a1] u post) (hY : jY R_M y b n ret 1) (hlk : Cond.methodLink R_law idx y ∈ wT) (hk : k + 1 ≤ kR) (hroom : (st.map fun v => v.category).sum ≤ 8) (hdg : decode cc pc = .ok (.invokevirtual idx, 3)) (kk : ∀ r u', post r u' → J E Q (wX (eI E) (eZ E) q2 v ++ wM (eI E) (eZ E) q u') l0 l1 l2 l3 l4 l5 l6 l7 (pc + 3) (.int r :: st)) : J E Q (wM (eI E) (eZ E) q u ++ wX (eI E) (eZ E) q2 v) l0 l1 l2 l3 l4 l5 l6 l7 pc (.int a1 :: .ref (q 0) :: st) := j_calli (wr := (wX (eI E) (eZ E) q2 v)) hC hM hY hlk hk (ci := 1) (N := 3) (T := F_M) rfl rfl [0, 1, 2] [3, 4, 5, 6, 7, 8, 9] rfl rfl rfl rfl rfl (by decide) rfl rfl hroom hdg kk
theorem x_callv1 {u : SX} {a1 : Int32} {post : SX → Prop} (hC : jC E cc R_X nL kR) (hM : CtV (eL E) y b n ret k wX [.int a1] u post) (hY : jY R_X y b n ret 1) (hlk : Cond.methodLink R_X idx y ∈ wT) (hk : k + 1 ≤ kR) (hroom : (st.map fun v => v.category).sum ≤ 8) (hdg : decode cc pc = .ok (.invokevirtual idx, 3)) (kk : ∀ u', post u' → J E Q (wX (eI E) (eZ E) q u') l0 l1 l2 l3 l4 l5 l6 l7 (pc + 3) st) : J E Q (wX (eI E) (eZ E) q u) l0 l1 l2 l3 l4 l5 l6 l7 pc (.int a1 :: .ref (q 0) :: st) := j_callv (wr := []) hC hM hY hlk hk (ci := 0) (N := 9) (T := F_X) rfl rfl [0, 1, 2, 3, 4, 5, 6] [] rfl rfl rfl rfl rfl (by decide) rfl rfl hroom hdg kk
theorem m_callv1 {u : SM} {a1 : Int32} {post : SM → Prop} (hC : jC E cc R_M nL kR) (hM : CtV (eL E) y b n ret k wM [.int a1] u post) (hY : jY R_M y b n ret 1) (hlk : Cond.methodLink R_M idx y ∈ wT) (hk : k + 1 ≤ kR) (hroom : (st.map fun v => v.category).sum ≤ 8) (hdg : decode cc pc = .ok (.invokevirtual idx, 3)) (kk : ∀ u', post u' → J E Q (wM (eI E) (eZ E) q u') l0 l1 l2 l3 l4 l5 l6 l7 (pc + 3) st) : J E Q (wM (eI E) (eZ E) q u) l0 l1 l2 l3 l4 l5 l6 l7 pc (.int a1 :: .ref (q 0) :: st) := j_callv (wr := []) hC hM hY hlk hk (ci := 1) (N := 3) (T := F_M) rfl rfl [0, 1, 2] [] rfl rfl rfl rfl rfl (by decide) rfl rfl hroom hdg kk
theorem lx_callv1 {u : SX} {v : SM} {a1 : Int32} {post : SX → Prop} (hC : jC E cc R_law nL kR) (hM : CtV (eL E) y b n ret k wX [.int a1] u post) (hY : jY R_X y b n ret 1) (hlk : Cond.methodLink R_law idx y ∈ wT) (hk : k + 1 ≤ kR) (hroom : (st.map fun v => v.category).sum ≤ 8) (hdg : decode cc pc = .ok (.invokevirtual idx, 3)) (kk : ∀ u', post u' → J E Q (wM (eI E) (eZ E) q2 v ++ wX (eI E) (eZ E) q u') l0 l1 l2 l3 l4 l5 l6 l7 (pc + 3) st) : J E Q (wX (eI E) (eZ E) q u ++ wM (eI E) (eZ E) q2 v) l0 l1 l2 l3 l4 l5 l6 l7 pc (.int a1 :: .ref (q 0) :: st) := j_callv (wr := (wM (eI E) (eZ E) q2 v)) hC hM hY hlk hk (ci := 0) (N := 9) (T := F_X) rfl rfl [0, 1, 2, 3, 4, 5, 6] [7, 8, 9] rfl rfl rfl rfl rfl (by decide) rfl rfl hroom hdg kk
theorem lm_callv1 {u : SM} {v : SX} {a1 : Int32} {post : SM → Prop} (hC : jC E cc R_law nL kR) (hM : CtV (eL E) y b n ret k wM [.int a1] u post) (hY : jY R_M y b n ret 1) (hlk : Cond.methodLink R_law idx y ∈ wT) (hk : k + 1 ≤ kR) (hroom : (st.map fun v => v.category).sum ≤ 8) (hdg : decode cc pc = .ok (.invokevirtual idx, 3)) (kk : ∀ u', post u' → J E Q (wX (eI E) (eZ E) q2 v ++ wM (eI E) (eZ E) q u') l0 l1 l2 l3 l4 l5 l6 l7 (pc + 3) st) : J E Q (wM (eI E) (eZ E) q u ++ wX (eI E) (eZ E) q2 v) l0 l1 l2 l3 l4 l5 l6 l7 pc (.int a1 :: .ref (q 0) :: st) := j_callv (wr := (wX (eI E) (eZ E) q2 v)) hC hM hY hlk hk (ci := 1) (N := 3) (T := F_M) rfl rfl [0, 1, 2] [3, 4, 5, 6, 7, 8, 9] rfl rfl rfl rfl rfl (by decide) rfl rfl hroom hdg kk
theorem x_calli2 {u : SX} {a1 a2 : Int32} {post : Int32 → SX → Prop} (hC : jC E cc R_X nL kR) (hM : CtI (eL E) y b n ret k wX [.int a1, .int a2] u post) (hY : jY R_X y b n ret 2) (hlk : Cond.methodLink R_X idx y ∈ wT) (hk : k + 1 ≤ kR) (hroom : (st.map fun v => v.category).sum ≤ 8) (hdg : decode cc pc = .ok (.invokevirtual idx, 3)) (kk : ∀ r u', post r u' → J E Q (wX (eI E) (eZ E) q u') l0 l1 l2 l3 l4 l5 l6 l7 (pc + 3) (.int r :: st)) : J E Q (wX (eI E) (eZ E) q u) l0 l1 l2 l3 l4 l5 l6 l7 pc (.int a2 :: .int a1 :: .ref (q 0) :: st) := j_calli (wr := []) hC hM hY hlk hk (ci := 0) (N := 9) (T := F_X) rfl rfl [0, 1, 2, 3, 4, 5, 6] [] rfl rfl rfl rfl rfl (by decide) rfl rfl hroom hdg kk
theorem m_calli2 {u : SM} {a1 a2 : Int32} {post : Int32 → SM → Prop} (hC : jC E cc R_M nL kR) (hM : CtI (eL E) y b n ret k wM [.int a1, .int a2] u post) (hY : jY R_M y b n ret 2) (hlk : Cond.methodLink R_M idx y ∈ wT) (hk : k + 1 ≤ kR) (hroom : (st.map fun v => v.category).sum ≤ 8) (hdg : decode cc pc = .ok (.invokevirtual idx, 3)) (kk : ∀ r u', post r u' → J E Q (wM (eI E) (eZ E) q u') l0 l1 l2 l3 l4 l5 l6 l7 (pc + 3) (.int r :: st)) : J E Q (wM (eI E) (eZ E) q u) l0 l1 l2 l3 l4 l5 l6 l7 pc (.int a2 :: .int a1 :: .ref (q 0) :: st) := j_calli (wr := []) hC hM hY hlk hk (ci := 1) (N := 3) (T := F_M) rfl rfl [0, 1, 2] [] rfl rfl rfl rfl rfl (by decide) rfl rfl hroom hdg kk
theorem lx_calli2 {u : SX} {v : SM} {a1 a2 : Int32} {post : Int32 → SX → Prop} (hC : jC E cc R_law nL kR) (hM : CtI (eL E) y b n ret k wX [.int a1, .int a2] u post) (hY : jY R_X y b n ret 2) (hlk : Cond.methodLink R_law idx y ∈ wT) (hk : k + 1 ≤ kR) (hroom : (st.map fun v => v.category).sum ≤ 8) (hdg : decode cc pc = .ok (.invokevirtual idx, 3)) (kk : ∀ r u', post r u' → J E Q (wM (eI E) (eZ E) q2 v ++ wX (eI E) (eZ E) q u') l0 l1 l2 l3 l4 l5 l6 l7 (pc + 3) (.int r :: st)) : J E Q (wX (eI E) (eZ E) q u ++ wM (eI E) (eZ E) q2 v) l0 l1 l2 l3 l4 l5 l6 l7 pc (.int a2 :: .int a1 :: .ref (q 0) :: st) := j_calli (wr := (wM (eI E) (eZ E) q2 v)) hC hM hY hlk hk (ci := 0) (N := 9) (T := F_X) rfl rfl [0, 1, 2, 3, 4, 5, 6] [7, 8, 9] rfl rfl rfl rfl rfl (by decide) rfl rfl hroom hdg kk
theorem lm_calli2 {u : SM} {v : SX} {a1 a2 : Int32} {post : Int32 → SM → Prop} (hC : jC E cc R_law nL kR) (hM : CtI (eL E) y b n ret k wM [.int a1, .int a2] u post) (hY : jY R_M y b n ret 2) (hlk : Cond.methodLink R_law idx y ∈ wT) (hk : k + 1 ≤ kR) (hroom : (st.map fun v => v.category).sum ≤ 8) (hdg : decode cc pc = .ok (.invokevirtual idx, 3)) (kk : ∀ r u', post r u' → J E Q (wX (eI E) (eZ E) q2 v ++ wM (eI E) (eZ E) q u') l0 l1 l2 l3 l4 l5 l6 l7 (pc + 3) (.int r :: st)) : J E Q (wM (eI E) (eZ E) q u ++ wX (eI E) (eZ E) q2 v) l0 l1 l2 l3 l4 l5 l6 l7 pc (.int a2 :: .int a1 :: .ref (q 0) :: st) := j_calli (wr := (wX (eI E) (eZ E) q2 v)) hC hM hY hlk hk (ci := 1) (N := 3) (T := F_M) rfl rfl [0, 1, 2] [3, 4, 5, 6, 7, 8, 9] rfl rfl rfl rfl rfl (by decide) rfl rfl hroom hdg kk
theorem x_callv2 {u : SX} {a1 a2 : Int32} {post : SX → Prop} (hC : jC E cc R_X nL kR) (hM : CtV (eL E) y b n ret k wX [.int a1, .int a2] u post) (hY : jY R_X y b n ret 2) (hlk : Cond.methodLink R_X idx y ∈ wT) (hk : k + 1 ≤ kR) (hroom : (st.map fun v => v.category).sum ≤ 8) (hdg : decode cc pc = .ok (.invokevirtual idx, 3)) (kk : ∀ u', post u' → J E Q (wX (eI E) (eZ E) q u') l0 l1 l2 l3 l4 l5 l6 l7 (pc + 3) st) : J E Q (wX (eI E) (eZ E) q u) l0 l1 l2 l3 l4 l5 l6 l7 pc (.int a2 :: .int a1 :: .ref (q 0) :: st) := j_callv (wr := []) hC hM hY hlk hk (ci := 0) (N := 9) (T := F_X) rfl rfl [0, 1, 2, 3, 4, 5, 6] [] rfl rfl rfl rfl rfl (by decide) rfl rfl hroom hdg kk
theorem m_callv2 {u : SM} {a1 a2 : Int32} {post : SM → Prop} (hC : jC E cc R_M nL kR) (hM : CtV (eL E) y b n ret k wM [.int a1, .int a2] u post) (hY : jY R_M y b n ret 2) (hlk : Cond.methodLink R_M idx y ∈ wT) (hk : k + 1 ≤ kR) (hroom : (st.map fun v => v.category).sum ≤ 8) (hdg : decode cc pc = .ok (.invokevirtual idx, 3)) (kk : ∀ u', post u' → J E Q (wM (eI E) (eZ E) q u') l0 l1 l2 l3 l4 l5 l6 l7 (pc + 3) st) : J E Q (wM (eI E) (eZ E) q u) l0 l1 l2 l3 l4 l5 l6 l7 pc (.int a2 :: .int a1 :: .ref (q 0) :: st) := j_callv (wr := []) hC hM hY hlk hk (ci := 1) (N := 3) (T := F_M) rfl rfl [0, 1, 2] [] rfl rfl rfl rfl rfl (by decide) rfl rfl hroom hdg kk
theorem lx_callv2 {u : SX} {v : SM} {a1 a2 : Int32} {post : SX → Prop} (hC : jC E cc R_law nL kR) (hM : CtV (eL E) y b n ret k wX [.int a1, .int a2] u post) (hY : jY R_X y b n ret 2) (hlk : Cond.methodLink R_law idx y ∈ wT) (hk : k + 1 ≤ kR) (hroom : (st.map fun v => v.category).sum ≤ 8) (hdg : decode cc pc = .ok (.invokevirtual idx, 3)) (kk : ∀ u', post u' → J E Q (wM (eI E) (eZ E) q2 v ++ wX (eI E) (eZ E) q u') l0 l1 l2 l3 l4 l5 l6 l7 (pc + 3) st) : J E Q (wX (eI E) (eZ E) q u ++ wM (eI E) (eZ E) q2 v) l0 l1 l2 l3 l4 l5 l6 l7 pc (.int a2 :: .int a1 :: .ref (q 0) :: st) := j_callv (wr := (wM (eI E) (eZ E) q2 v)) hC hM hY hlk hk (ci := 0) (N := 9) (T := F_X) rfl rfl [0, 1, 2, 3, 4, 5, 6] [7, 8, 9] rfl rfl rfl rfl rfl (by decide) rfl rfl hroom hdg kk
theorem lm_callv2 {u : SM} {v : SX} {a1 a2 : Int32} {post : SM → Prop} (hC : jC E cc R_law nL kR) (hM : CtV (eL E) y b n ret k wM [.int a1, .int a2] u post) (hY : jY R_M y b n ret 2) (hlk : Cond.methodLink R_law idx y ∈ wT) (hk : k + 1 ≤ kR) (hroom : (st.map fun v => v.category).sum ≤ 8) (hdg : decode cc pc = .ok (.invokevirtual idx, 3)) (kk : ∀ u', post u' → J E Q (wX (eI E) (eZ E) q2 v ++ wM (eI E) (eZ E) q u') l0 l1 l2 l3 l4 l5 l6 l7 (pc + 3) st) : J E Q (wM (eI E) (eZ E) q u ++ wX (eI E) (eZ E) q2 v) l0 l1 l2 l3 l4 l5 l6 l7 pc (.int a2 :: .int a1 :: .ref (q 0) :: st) := j_callv (wr := (wX (eI E) (eZ E) q2 v)) hC hM hY hlk hk (ci := 1) (N := 3) (T := F_M) rfl rfl [0, 1, 2] [3, 4, 5, 6, 7, 8, 9] rfl rfl rfl rfl rfl (by decide) rfl rfl hroom hdg kk
theorem x_calli3 {u : SX} {a1 a2 a3 : Int32} {post : Int32 → SX → Prop} (hC : jC E cc R_X nL kR) (hM : CtI (eL E) y b n ret k wX [.int a1, .int a2, .int a3] u post) (hY : jY R_X y b n ret 3) (hlk : Cond.methodLink R_X idx y ∈ wT) (hk : k + 1 ≤ kR) (hroom : (st.map fun v => v.category).sum ≤ 8) (hdg : decode cc pc = .ok (.invokevirtual idx, 3)) (kk : ∀ r u', post r u' → J E Q (wX (eI E) (eZ E) q u') l0 l1 l2 l3 l4 l5 l6 l7 (pc + 3) (.int r :: st)) : J E Q (wX (eI E) (eZ E) q u) l0 l1 l2 l3 l4 l5 l6 l7 pc (.int a3 :: .int a2 :: .int a1 :: .ref (q 0) :: st) := j_calli (wr := []) hC hM hY hlk hk (ci := 0) (N := 9) (T := F_X) rfl rfl [0, 1, 2, 3, 4, 5, 6] [] rfl rfl rfl rfl rfl (by decide) rfl rfl hroom hdg kk
theorem m_calli3 {u : SM} {a1 a2 a3 : Int32} {post : Int32 → SM → Prop} (hC : jC E cc R_M nL kR) (hM : CtI (eL E) y b n ret k wM [.int a1, .int a2, .int a3] u post) (hY : jY R_M y b n ret 3) (hlk : Cond.methodLink R_M idx y ∈ wT) (hk : k + 1 ≤ kR) (hroom : (st.map fun v => v.category).sum ≤ 8) (hdg : decode cc pc = .ok (.invokevirtual idx, 3)) (kk : ∀ r u', post r u' → J E Q (wM (eI E) (eZ E) q u') l0 l1 l2 l3 l4 l5 l6 l7 (pc + 3) (.int r :: st)) : J E Q (wM (eI E) (eZ E) q u) l0 l1 l2 l3 l4 l5 l6 l7 pc (.int a3 :: .int a2 :: .int a1 :: .ref (q 0) :: st) := j_calli (wr := []) hC hM hY hlk hk (ci := 1) (N := 3) (T := F_M) rfl rfl [0, 1, 2] [] rfl rfl rfl rfl rfl (by decide) rfl rfl hroom hdg kk
theorem x_callv3 {u : SX} {a1 a2 a3 : Int32} {post : SX → Prop} (hC : jC E cc R_X nL kR) (hM : CtV (eL E) y b n ret k wX [.int a1, .int a2, .int a3] u post) (hY : jY R_X y b n ret 3) (hlk : Cond.methodLink R_X idx y ∈ wT) (hk : k + 1 ≤ kR) (hroom : (st.map fun v => v.category).sum ≤ 8) (hdg : decode cc pc = .ok (.invokevirtual idx, 3)) (kk : ∀ u', post u' → J E Q (wX (eI E) (eZ E) q u') l0 l1 l2 l3 l4 l5 l6 l7 (pc + 3) st) : J E Q (wX (eI E) (eZ E) q u) l0 l1 l2 l3 l4 l5 l6 l7 pc (.int a3 :: .int a2 :: .int a1 :: .ref (q 0) :: st) := j_callv (wr := []) hC hM hY hlk hk (ci := 0) (N := 9) (T := F_X) rfl rfl [0, 1, 2, 3, 4, 5, 6] [] rfl rfl rfl rfl rfl (by decide) rfl rfl hroom hdg kk
theorem m_callv3 {u : SM} {a1 a2 a3 : Int32} {post : SM → Prop} (hC : jC E cc R_M nL kR) (hM : CtV (eL E) y b n ret k wM [.int a1, .int a2, .int a3] u post) (hY : jY R_M y b n ret 3) (hlk : Cond.methodLink R_M idx y ∈ wT) (hk : k + 1 ≤ kR) (hroom : (st.map fun v => v.category).sum ≤ 8) (hdg : decode cc pc = .ok (.invokevirtual idx, 3)) (kk : ∀ u', post u' → J E Q (wM (eI E) (eZ E) q u') l0 l1 l2 l3 l4 l5 l6 l7 (pc + 3) st) : J E Q (wM (eI E) (eZ E) q u) l0 l1 l2 l3 l4 l5 l6 l7 pc (.int a3 :: .int a2 :: .int a1 :: .ref (q 0) :: st) := j_callv (wr := []) hC hM hY hlk hk (ci := 1) (N := 3) (T := F_M) rfl rfl [0, 1, 2] [] rfl rfl rfl rfl rfl (by decide) rfl rfl hroom hdg kk
end JL
theorem ic_0 : Int32.ofInt 0 = nI 0 := by decide +kernel
theorem ic_1 : Int32.ofInt 1 = nI 1 := by decide +kernel
theorem ic_2 : Int32.ofInt 2 = nI 2 := by decide +kernel
theorem ic_3 : Int32.ofInt 3 = nI 3 := by decide +kernel
theorem ic_4 : Int32.ofInt 4 = nI 4 := by decide +kernel
theorem ic_5 : Int32.ofInt 5 = nI 5 := by decide +kernel
theorem ir_0 : Int32.ofInt 0 = (0 : Int32) := by decide +kernel
theorem ir_1 : Int32.ofInt 1 = (1 : Int32) := by decide +kernel
theorem ir_2 : Int32.ofInt 2 = (2 : Int32) := by decide +kernel
theorem ir_3 : Int32.ofInt 3 = (3 : Int32) := by decide +kernel
theorem ir_4 : Int32.ofInt 4 = (4 : Int32) := by decide +kernel
theorem ir_5 : Int32.ofInt 5 = (5 : Int32) := by decide +kernel
theorem im1 : Int32.ofInt (-1) = (-1 : Int32) := by decide +kernel
theorem bp_6 : (Int8.ofInt 6).toInt32 = nI 6 := by decide +kernel
theorem bp_7 : (Int8.ofInt 7).toInt32 = nI 7 := by decide +kernel
theorem bp_10 : (Int8.ofInt 10).toInt32 = nI 10 := by decide +kernel
theorem bp_31 : (Int8.ofInt 31).toInt32 = nI 31 := by decide +kernel
theorem bp_40 : (Int8.ofInt 40).toInt32 = nI 40 := by decide +kernel
theorem bp_100 : (Int8.ofInt 100).toInt32 = nI 100 := by decide +kernel
theorem br_6 : (Int8.ofInt 6).toInt32 = (6 : Int32) := by decide +kernel
theorem br_7 : (Int8.ofInt 7).toInt32 = (7 : Int32) := by decide +kernel
theorem br_10 : (Int8.ofInt 10).toInt32 = (10 : Int32) := by decide +kernel
theorem br_31 : (Int8.ofInt 31).toInt32 = (31 : Int32) := by decide +kernel
theorem br_40 : (Int8.ofInt 40).toInt32 = (40 : Int32) := by decide +kernel
theorem br_100 : (Int8.ofInt 100).toInt32 = (100 : Int32) := by decide +kernel
theorem bm2 : (Int8.ofInt (-2)).toInt32 = (-2 : Int32) := by decide +kernel
theorem bm3 : (Int8.ofInt (-3)).toInt32 = (-3 : Int32) := by decide +kernel
theorem bm5 : (Int8.ofInt (-5)).toInt32 = (-5 : Int32) := by decide +kernel
theorem sp_143 : (Int16.ofInt 143).toInt32 = nI 143 := by decide +kernel
theorem sp_144 : (Int16.ofInt 144).toInt32 = nI 144 := by decide +kernel
theorem sp_255 : (Int16.ofInt 255).toInt32 = nI 255 := by decide +kernel
theorem sp_400 : (Int16.ofInt 400).toInt32 = nI 400 := by decide +kernel
theorem sp_440 : (Int16.ofInt 440).toInt32 = nI 440 := by decide +kernel
theorem sr_143 : (Int16.ofInt 143).toInt32 = (143 : Int32) := by decide +kernel
theorem sr_144 : (Int16.ofInt 144).toInt32 = (144 : Int32) := by decide +kernel
theorem sr_255 : (Int16.ofInt 255).toInt32 = (255 : Int32) := by decide +kernel
theorem sr_400 : (Int16.ofInt 400).toInt32 = (400 : Int32) := by decide +kernel
theorem sr_440 : (Int16.ofInt 440).toInt32 = (440 : Int32) := by decide +kernel
end
section
/-! ===== THE PURE VALUE: (p, n, ch): how many strings are on the pile; lengths; characters. Strings 0 to 5 the variables, 6 to 9 the pile from below, 10 the line ===== -/
abbrev Ab : Type := Nat × (Nat → Nat) × (Nat → Nat → Int32)
def sumN (f : Nat → Nat) : Nat → Nat
  | 0 => 0
  | k + 1 => sumN f k + f k
def upC (ch : Nat → Nat → Int32) (d : Nat) (f : Nat → Int32) : Nat → Nat → Int32 := fun e => if e = d then f else ch e
theorem upC_s {ch : Nat → Nat → Int32} {d : Nat} {f : Nat → Int32} : upC ch d f d = f := if_pos rfl
theorem upC_n {ch : Nat → Nat → Int32} {d e : Nat} {f : Nat → Int32} (h : e ≠ d) : upC ch d f e = ch e := if_neg h
def Wf (p : Nat) (n : Nat → Nat) : Prop := p ≤ 4 ∧ (∀ d, d < 11 → n d ≤ 40) ∧ sumN n (6 + p) ≤ 100
/-- the component holds the value -/
def RXc (p : Nat) (n : Nat → Nat) (ch : Nat → Nat → Int32) (kd : Nat) (li : Nat → Int32) (pi : Nat) (le bd : Nat → Nat) (bo : Nat) (sr : Nat → Int32) : Prop :=
  kd = n 10 ∧ (∀ i, i < n 10 → li i = ch 10 i) ∧ pi = p ∧ bo ≤ 144 ∧ (∀ d, d < 10 → le d ≤ 40 ∧ bd d ≤ 144) ∧
  ∀ d, d < 6 + p → le d = n d ∧ (0 < n d → bo ≤ bd d ∧ bd d + n d ≤ 144 ∧ ∀ i, i < n d → sr (bd d + i) = ch d i)
def RX (a : Ab) (u : SX) : Prop := RXc a.1 a.2.1 a.2.2 u.1 u.2.1 u.2.2.1 u.2.2.2.1 u.2.2.2.2.1 u.2.2.2.2.2.1 u.2.2.2.2.2.2.1
/-- the reference holds the value -/
def RMc (p : Nat) (n : Nat → Nat) (ch : Nat → Nat → Int32) (c : Nat → Int32) (ln : Nat → Nat) (pl : Nat) : Prop :=
  pl = p ∧ ∀ d, (d < 6 + p ∨ d = 10) → ln d = n d ∧ ∀ i, i < n d → c (40 * d + i) = ch d i
def RM (a : Ab) (w : SM) : Prop := RMc a.1 a.2.1 a.2.2 w.1 w.2.1 w.2.2
-- the specs: answer and new value
def sp_key (a : Ab) (c : Int32) : Int32 × Ab := if c < 0 ∨ 255 < c then (-1, a) else if a.2.1 10 = 40 then (-5, a) else (nI (a.2.1 10 + 1), (a.1, upN a.2.1 10 (a.2.1 10 + 1), upC a.2.2 10 (upd (a.2.2 10) (a.2.1 10) c)))
def sp_newLine (a : Ab) : Ab := (a.1, upN a.2.1 10 0, a.2.2)
def sp_pushN (a : Ab) (d : Nat) : Int32 × Ab := if a.1 = 4 ∨ 100 < sumN a.2.1 (6 + a.1) + a.2.1 d then (-2, a) else (nI (a.2.1 d), (a.1 + 1, upN a.2.1 (6 + a.1) (a.2.1 d), upC a.2.2 (6 + a.1) (a.2.2 d)))
def sp_push (a : Ab) (v : Int32) : Int32 × Ab := if v < 0 ∨ 6 ≤ v then (-1, a) else sp_pushN a v.toNatClampNeg
def sp_letN (a : Ab) (d : Nat) : Int32 × Ab := if a.1 = 0 then (-3, a) else (nI (a.2.1 (5 + a.1)), (a.1 - 1, upN a.2.1 d (a.2.1 (5 + a.1)), upC a.2.2 d (a.2.2 (5 + a.1))))
def sp_let (a : Ab) (v : Int32) : Int32 × Ab := if v < 0 ∨ 6 ≤ v then (-1, a) else sp_letN a v.toNatClampNeg
def sp_drop (a : Ab) : Int32 × Ab := if a.1 = 0 then (-3, a) else (nI (a.2.1 (5 + a.1)), (a.1 - 1, a.2.1, a.2.2))
def sp_join (a : Ab) : Int32 × Ab := if a.1 < 2 then (-3, a) else if 40 < a.2.1 (4 + a.1) + a.2.1 (5 + a.1) then (-5, a) else
  (nI (a.2.1 (4 + a.1) + a.2.1 (5 + a.1)), (a.1 - 1, upN a.2.1 (4 + a.1) (a.2.1 (4 + a.1) + a.2.1 (5 + a.1)), upC a.2.2 (4 + a.1) (fun i => if i < a.2.1 (4 + a.1) then a.2.2 (4 + a.1) i else a.2.2 (5 + a.1) (i - a.2.1 (4 + a.1)))))
def sp_cutN (a : Ab) (i k : Nat) : Int32 × Ab := (nI (min k (a.2.1 (5 + a.1) - i)), (a.1, upN a.2.1 (5 + a.1) (min k (a.2.1 (5 + a.1) - i)), upC a.2.2 (5 + a.1) (fun j => a.2.2 (5 + a.1) (i + j))))
def sp_left (a : Ab) (v : Int32) : Int32 × Ab := if v < 0 ∨ 255 < v then (-1, a) else if a.1 = 0 then (-3, a) else sp_cutN a 0 v.toNatClampNeg
def sp_right (a : Ab) (v : Int32) : Int32 × Ab := if v < 0 ∨ 255 < v then (-1, a) else if a.1 = 0 then (-3, a) else if v.toNatClampNeg < a.2.1 (5 + a.1) then sp_cutN a (a.2.1 (5 + a.1) - v.toNatClampNeg) v.toNatClampNeg else (nI (a.2.1 (5 + a.1)), a)
def sp_mid (a : Ab) (i v : Int32) : Int32 × Ab := if (i < 1 ∨ 255 < i) ∨ v < 0 ∨ 255 < v then (-1, a) else if a.1 = 0 then (-3, a) else sp_cutN a (i.toNatClampNeg - 1) v.toNatClampNeg
def sp_repeat (a : Ab) (v c : Int32) : Int32 × Ab := if (v < 0 ∨ 255 < v) ∨ c < 0 ∨ 255 < c then (-1, a) else if a.1 = 4 then (-2, a) else if 40 < v.toNatClampNeg then (-5, a) else if 100 < sumN a.2.1 (6 + a.1) + v.toNatClampNeg then (-2, a) else
  (nI v.toNatClampNeg, (a.1 + 1, upN a.2.1 (6 + a.1) v.toNatClampNeg, upC a.2.2 (6 + a.1) (fun _ => c)))
/-- the order of two strings of m and m' characters, from place i on, k places at most: 0, 1 or 2 -/
def ordG (f g : Nat → Int32) (m m' : Nat) : Nat → Nat → Int32
  | 0, _ => if m = m' then nI 0 else if m < m' then nI 1 else nI 2
  | k + 1, i => if f i = g i then ordG f g m m' k (i + 1) else if f i < g i then nI 1 else nI 2
def sp_compare (a : Ab) : Int32 × Ab := if a.1 < 2 then (-3, a) else (ordG (a.2.2 (4 + a.1)) (a.2.2 (5 + a.1)) (a.2.1 (4 + a.1)) (a.2.1 (5 + a.1)) (min (a.2.1 (4 + a.1)) (a.2.1 (5 + a.1))) 0, (a.1 - 2, a.2.1, a.2.2))
def begN (f g : Nat → Int32) (m m' i : Nat) : Prop := i + m' ≤ m ∧ ∀ k, k < m' → f (i + k) = g k
def finG (f g : Nat → Int32) (m m' : Nat) : Nat → Nat → Nat
  | 0, _ => 0
  | k + 1, i => if i + m' ≤ m ∧ (∀ k, k < m' → f (i + k) = g k) then i + 1 else finG f g m m' k (i + 1)
def sp_find (a : Ab) (u v : Int32) : Int32 × Ab := if (u < 0 ∨ 6 ≤ u) ∨ v < 0 ∨ 6 ≤ v then (-1, a) else (nI (finG (a.2.2 u.toNatClampNeg) (a.2.2 v.toNatClampNeg) (a.2.1 u.toNatClampNeg) (a.2.1 v.toNatClampNeg) (a.2.1 u.toNatClampNeg) 0), a)
def ovr (f g : Nat → Int32) (i k : Nat) : Nat → Int32 := fun j => if i ≤ j ∧ j < i + k then g (j - i) else f j
def sp_setMidN (a : Ab) (d i : Nat) : Int32 × Ab := (nI (min (a.2.1 (5 + a.1)) (a.2.1 d - i)), (a.1 - 1, a.2.1, upC a.2.2 d (ovr (a.2.2 d) (a.2.2 (5 + a.1)) i (min (a.2.1 (5 + a.1)) (a.2.1 d - i)))))
def sp_setMid (a : Ab) (v i : Int32) : Int32 × Ab := if (v < 0 ∨ 6 ≤ v) ∨ i < 1 ∨ 255 < i then (-1, a) else if a.1 = 0 then (-3, a) else sp_setMidN a v.toNatClampNeg (i.toNatClampNeg - 1)
def sp_swapN (a : Ab) (d e : Nat) : Int32 × Ab := (nI 0, (a.1, upN (upN a.2.1 d (a.2.1 e)) e (a.2.1 d), upC (upC a.2.2 d (a.2.2 e)) e (a.2.2 d)))
def sp_swap (a : Ab) (u v : Int32) : Int32 × Ab := if (u < 0 ∨ 6 ≤ u) ∨ v < 0 ∨ 6 ≤ v then (-1, a) else sp_swapN a u.toNatClampNeg v.toNatClampNeg
def sp_length (a : Ab) (v : Int32) : Int32 × Ab := if v < 0 ∨ 6 ≤ v then (-1, a) else (nI (a.2.1 v.toNatClampNeg), a)
def sp_chr (a : Ab) (d : Nat) (i : Int32) : Int32 × Ab := if i < 1 ∨ nI (a.2.1 d) < i then (nI 0, a) else (a.2.2 d (i.toNatClampNeg - 1), a)
def sp_at (a : Ab) (v i : Int32) : Int32 × Ab := if v < 0 ∨ 6 ≤ v then (nI 0, a) else sp_chr a v.toNatClampNeg i
def sp_pile (a : Ab) : Int32 × Ab := (nI a.1, a)
def sp_topLength (a : Ab) : Int32 × Ab := if a.1 = 0 then (-3, a) else (nI (a.2.1 (5 + a.1)), a)
def sp_topAt (a : Ab) (i : Int32) : Int32 × Ab := if a.1 = 0 then (nI 0, a) else sp_chr a (5 + a.1) i
def sp_used (a : Ab) : Int32 × Ab := (nI (sumN a.2.1 (6 + a.1)), a)
-- small rows
theorem sumN_one {f : Nat → Nat} : ∀ {k d : Nat}, d < k → f d ≤ sumN f k
  | 0, d, h => absurd h (Nat.not_lt_zero d)
  | k + 1, d, h => by
    rcases Nat.lt_succ_iff_lt_or_eq.mp h with h | h
    · exact Nat.le_trans (sumN_one h) (Nat.le_add_right _ _)
    · subst h; exact Nat.le_add_left _ _
theorem sumN_cg {f g : Nat → Nat} : ∀ {k : Nat}, (∀ d, d < k → f d = g d) → sumN f k = sumN g k
  | 0, _ => rfl
  | k + 1, h => by
    show sumN f k + f k = sumN g k + g k
    rw [sumN_cg (fun d hd => h d (by omega)), h k (by omega)]
theorem sumN_up {f : Nat → Nat} {d x : Nat} : ∀ {k : Nat}, d < k → sumN (upN f d x) k + f d = sumN f k + x
  | 0, h => absurd h (Nat.not_lt_zero d)
  | k + 1, h => by
    show sumN (upN f d x) k + upN f d x k + f d = sumN f k + f k + x
    by_cases hd : d = k
    · subst hd
      rw [upN_s, sumN_cg (g := f) (fun e he => upN_n (by omega))]
      omega
    · rw [upN_n (fun q => hd q.symm)]
      have := sumN_up (f := f) (x := x) (k := k) (d := d) (by omega)
      omega
theorem sumN_no {f : Nat → Nat} {d x k : Nat} (h : k ≤ d) : sumN (upN f d x) k = sumN f k := sumN_cg (fun e he => upN_n (by omega))
theorem nI_lt0 {j : Nat} (h : j < 2147483648) : ¬ nI j < 0 := nI_pos h
theorem okV {v : Int32} (h : ¬ (v < 0 ∨ 6 ≤ v)) : ∃ j, j < 6 ∧ v = nI j := by
  rcases pk_ix v (n := 6) (by decide) with q | q | q
  · exact absurd (Or.inl q) h
  · exact absurd (Or.inr q) h
  · exact q
theorem notV {j : Nat} (h : j < 6) : ¬ (nI j < 0 ∨ 6 ≤ nI j) := by
  rintro (q | q)
  · exact nI_pos (by omega) q
  · have : nI 6 ≤ nI j := q
    rw [nI_leI (by decide) (by omega)] at this
    omega
theorem okB {v : Int32} (h : ¬ (v < 0 ∨ 255 < v)) : ∃ j, j < 256 ∧ v = nI j := by
  rcases pk_ix v (n := 256) (by decide) with q | q | q
  · exact absurd (Or.inl q) h
  · refine absurd (Or.inr ?_) h
    have h1 : (256 : Int) ≤ v.toInt := by
      have := Int32.le_iff_toInt_le.mp q
      rw [nI_toInt (by decide)] at this
      exact this
    rw [Int32.lt_iff_toInt_lt]
    have h2 : (255 : Int32).toInt = 255 := by decide +kernel
    rw [h2]; omega
  · exact q
theorem notB {j : Nat} (h : j < 256) : ¬ (nI j < 0 ∨ 255 < nI j) := by
  rintro (q | q)
  · exact nI_pos (by omega) q
  · have : nI 255 < nI j := q
    rw [nI_ltI (by decide) (by omega)] at this
    omega
theorem ok1 {v : Int32} (h : ¬ (v < 1 ∨ 255 < v)) : ∃ j, 0 < j ∧ j < 256 ∧ v = nI j := by
  obtain ⟨j, hj, rfl⟩ := okB (v := v) (fun q => h (q.imp (fun q => by
    rw [Int32.lt_iff_toInt_lt] at q ⊢
    have h2 : (1 : Int32).toInt = 1 := by decide +kernel
    have h3 : (0 : Int32).toInt = 0 := by decide +kernel
    rw [h2]; rw [h3] at q; omega) id))
  refine ⟨j, ?_, hj, rfl⟩
  rcases Nat.eq_zero_or_pos j with q | q
  · subst q
    exact absurd (Or.inl (by decide +kernel)) h
  · exact q
theorem not1 {j : Nat} (h0 : 0 < j) (h : j < 256) : ¬ (nI j < 1 ∨ 255 < nI j) := by
  rintro (q | q)
  · have : nI j < nI 1 := q
    rw [nI_ltI (by omega) (by decide)] at this
    omega
  · exact notB h (Or.inr q)
theorem cl {j : Nat} (h : j < 2147483648) : (nI j).toNatClampNeg = j := nI_clamp h
/-- a place in a string of m characters -/
theorem okI {v : Int32} {m : Nat} (hm : m < 1000) (h : ¬ (v < 1 ∨ nI m < v)) : ∃ j, 0 < j ∧ j ≤ m ∧ v = nI j := by
  rcases pk_ix v (n := m + 1) (by omega) with q | q | ⟨j, hj, rfl⟩
  · refine absurd (Or.inl ?_) h
    rw [Int32.lt_iff_toInt_lt] at q ⊢
    have h2 : (1 : Int32).toInt = 1 := by decide +kernel
    have h3 : (0 : Int32).toInt = 0 := by decide +kernel
    rw [h2]; rw [h3] at q; omega
  · refine absurd (Or.inr ?_) h
    have := Int32.le_iff_toInt_le.mp q
    rw [nI_toInt (by omega)] at this
    rw [Int32.lt_iff_toInt_lt, nI_toInt (by omega)]
    omega
  · refine ⟨j, ?_, by omega, rfl⟩
    rcases Nat.eq_zero_or_pos j with q | q
    · subst q
      exact absurd (Or.inl (by decide +kernel)) h
    · exact q
theorem notI {j m : Nat} (h0 : 0 < j) (h : j ≤ m) (hm : m < 1000) : ¬ (nI j < 1 ∨ nI m < nI j) := by
  rintro (q | q)
  · have : nI j < nI 1 := q
    rw [nI_ltI (by omega) (by decide)] at this
    omega
  · rw [nI_ltI (by omega) (by omega)] at q
    omega
end
section
section PX
variable {p kd bo : Nat} {li sr : Nat → Int32} {n le bd : Nat → Nat} {ch : Nat → Nat → Int32}
theorem upN_id {f : Nat → Nat} {k : Nat} : upN f k (f k) = f := by
  funext j
  by_cases h : j = k
  · subst h; exact upN_s
  · exact upN_n h
theorem upC_id {k : Nat} : upC ch k (ch k) = ch := by
  funext j
  by_cases h : j = k
  · subst h; exact upC_s
  · exact upC_n h
theorem RX_key (hp : p ≤ 4) (h : RXc p n ch kd li p le bd bo sr) {c : Int32} : RXc p (upN n 10 (n 10 + 1)) (upC ch 10 (upd (ch 10) (n 10) c)) (n 10 + 1) (upd li (n 10) c) p le bd bo sr := by
  obtain ⟨h1, h2, -, h4, h5, h6⟩ := h
  refine ⟨upN_s.symm, fun i hi => ?_, rfl, h4, h5, fun d hd => ?_⟩
  · rw [upN_s] at hi
    rw [upC_s]
    by_cases q : i = n 10
    · subst q; rw [pk_us, pk_us]
    · rw [pk_un q, pk_un q]; exact h2 i (by omega)
  · have q : d ≠ 10 := by omega
    rw [upN_n q, upC_n q]; exact h6 d hd
theorem RX_newLine (hp : p ≤ 4) (h : RXc p n ch kd li p le bd bo sr) : RXc p (upN n 10 0) ch 0 li p le bd bo sr := by
  obtain ⟨h1, h2, -, h4, h5, h6⟩ := h
  refine ⟨upN_s.symm, fun i hi => ?_, rfl, h4, h5, fun d hd => ?_⟩
  · rw [upN_s] at hi; omega
  · have q : d ≠ 10 := by omega
    rw [upN_n q]; exact h6 d hd
theorem RX_less {p' : Nat} (hp : p' ≤ p) (h : RXc p n ch kd li p le bd bo sr) : RXc p' n ch kd li p' le bd bo sr := by
  obtain ⟨h1, h2, -, h4, h5, h6⟩ := h
  exact ⟨h1, h2, rfl, h4, h5, fun d hd => h6 d (by omega)⟩
/-- one descriptor is set -/
theorem RX_set (h : RXc p n ch kd li p le bd bo sr) {p' d m b : Nat} {f : Nat → Int32} (hdn : d < 10) (hcov : ∀ e, e < 6 + p' → e ≠ d → e < 6 + p) (hm : m ≤ 40) (hb : b ≤ 144) (hs : 0 < m → bo ≤ b ∧ b + m ≤ 144 ∧ ∀ i, i < m → sr (b + i) = f i) : RXc p' (upN n d m) (upC ch d f) kd li p' (upN le d m) (upN bd d b) bo sr := by
  obtain ⟨h1, h2, -, h4, h5, h6⟩ := h
  have q10 : (10 : Nat) ≠ d := by omega
  refine ⟨by rw [upN_n q10]; exact h1, fun i hi => ?_, rfl, h4, fun e he => ?_, fun e he => ?_⟩
  · rw [upN_n q10] at hi
    rw [upC_n q10]
    exact h2 i hi
  · by_cases q : e = d
    · subst q; rw [upN_s, upN_s]; exact ⟨hm, hb⟩
    · rw [upN_n q, upN_n q]; exact h5 e he
  · by_cases q : e = d
    · subst q; rw [upN_s, upN_s, upN_s, upC_s]; exact ⟨rfl, hs⟩
    · rw [upN_n q, upN_n q, upN_n q, upC_n q]; exact h6 e (hcov e he q)
/-- the store changes where no string lies -/
theorem RX_sr (h : RXc p n ch kd li p le bd bo sr) {sr' : Nat → Int32} (hs : ∀ d, d < 6 + p → 0 < n d → ∀ i, i < n d → sr' (bd d + i) = sr (bd d + i)) : RXc p n ch kd li p le bd bo sr' := by
  obtain ⟨h1, h2, -, h4, h5, h6⟩ := h
  refine ⟨h1, h2, rfl, h4, h5, fun d hd => ⟨(h6 d hd).1, fun q => ?_⟩⟩
  obtain ⟨a, b, c⟩ := (h6 d hd).2 q
  exact ⟨a, b, fun i hi => (hs d hd q i hi).trans (c i hi)⟩
theorem RX_bo (h : RXc p n ch kd li p le bd bo sr) {bo' : Nat} (hb : bo' ≤ bo) : RXc p n ch kd li p le bd bo' sr := by
  obtain ⟨h1, h2, -, h4, h5, h6⟩ := h
  exact ⟨h1, h2, rfl, by omega, h5, fun d hd => ⟨(h6 d hd).1, fun q => by obtain ⟨a, b, c⟩ := (h6 d hd).2 q; exact ⟨by omega, b, c⟩⟩⟩
/-- a string is overwritten in place -/
theorem RX_over (h : RXc p n ch kd li p le bd bo sr) {v k m : Nat} {g sr' : Nat → Int32} (hv : v < 6 + p) (hk : k + m ≤ n v) (hun : ∀ e, e < 6 + p → e ≠ v → 0 < n e → bd e + n e ≤ bd v ∨ bd v + n v ≤ bd e)
    (hin : ∀ j, j < m → sr' (bd v + k + j) = g j) (hout : ∀ x, (x < bd v + k ∨ bd v + k + m ≤ x) → sr' x = sr x) : RXc p n (upC ch v (ovr (ch v) g k m)) kd li p le bd bo sr' ∨ 4 < p := by
  rcases Nat.lt_or_ge 4 p with hp | hp
  · exact Or.inr hp
  refine Or.inl ?_
  obtain ⟨h1, h2, -, h4, h5, h6⟩ := h
  have q10 : (10 : Nat) ≠ v := by omega
  refine ⟨h1, fun i hi => by rw [upC_n q10]; exact h2 i hi, rfl, h4, h5, fun e he => ?_⟩
  obtain ⟨a, b⟩ := h6 e he
  refine ⟨a, fun q => ?_⟩
  obtain ⟨b1, b2, b3⟩ := b q
  refine ⟨b1, b2, fun i hi => ?_⟩
  by_cases hev : e = v
  · subst hev
    rw [upC_s]
    unfold ovr
    by_cases hr : k ≤ i ∧ i < k + m
    · rw [if_pos hr]
      have := hin (i - k) (by omega)
      rw [show bd e + k + (i - k) = bd e + i by omega] at this
      exact this
    · rw [if_neg hr, hout (bd e + i) (by omega)]
      exact b3 i hi
  · rw [upC_n hev, hout (bd e + i) (by have := hun e he hev q; omega)]
    exact b3 i hi
-- what lies under a mark
def cov (le bd : Nat → Nat) : Nat → Nat → Bool
  | 0, _ => false
  | d + 1, j => cov le bd d j || (decide (bd d ≤ j) && decide (j < bd d + le d))
def cB (m : Nat → Bool) : Nat → Nat
  | 0 => 0
  | k + 1 => cB m k + (m k).toNat
theorem cov_at {d j : Nat} : ∀ {D : Nat}, d < D → bd d ≤ j → j < bd d + le d → cov le bd D j = true
  | 0, h, _, _ => absurd h (Nat.not_lt_zero _)
  | D + 1, h, h1, h2 => by
    show (cov le bd D j || (decide (bd D ≤ j) && decide (j < bd D + le D))) = true
    rcases Nat.lt_succ_iff_lt_or_eq.mp h with q | q
    · rw [cov_at q h1 h2]; rfl
    · subst q; simp [h1, h2]
theorem cB_or {a b : Nat → Bool} : ∀ {N : Nat}, cB (fun j => a j || b j) N ≤ cB a N + cB b N
  | 0 => Nat.le_refl 0
  | N + 1 => by
    have := cB_or (a := a) (b := b) (N := N)
    show cB (fun j => a j || b j) N + (a N || b N).toNat ≤ cB a N + (a N).toNat + (cB b N + (b N).toNat)
    cases a N <;> cases b N <;> simp <;> omega
theorem cB_iv {b l : Nat} : ∀ {N : Nat}, cB (fun j => decide (b ≤ j) && decide (j < b + l)) N ≤ l ∧ cB (fun j => decide (b ≤ j) && decide (j < b + l)) N ≤ N - b
  | 0 => ⟨Nat.zero_le _, Nat.zero_le _⟩
  | N + 1 => by
    have h := cB_iv (b := b) (l := l) (N := N)
    show cB (fun j => decide (b ≤ j) && decide (j < b + l)) N + (decide (b ≤ N) && decide (N < b + l)).toNat ≤ l ∧ cB (fun j => decide (b ≤ j) && decide (j < b + l)) N + (decide (b ≤ N) && decide (N < b + l)).toNat ≤ N + 1 - b
    by_cases h1 : b ≤ N
    · by_cases h2 : N < b + l
      · simp [h1, h2]; omega
      · simp [h1, h2]; omega
    · simp [h1]; omega
theorem cov_le {N : Nat} : ∀ {D : Nat}, cB (cov le bd D) N ≤ sumN le D
  | 0 => by
    have : ∀ N, cB (cov le bd 0) N = 0 := by
      intro N
      induction N with
      | zero => rfl
      | succ N ih => show cB (cov le bd 0) N + 0 = 0; omega
    rw [this]; exact Nat.zero_le _
  | D + 1 => by
    have h1 := cov_le (N := N) (D := D)
    have h2 := cB_or (a := cov le bd D) (b := fun j => decide (bd D ≤ j) && decide (j < bd D + le D)) (N := N)
    have h3 := (cB_iv (b := bd D) (l := le D) (N := N)).1
    have h4 : cB (cov le bd (D + 1)) N = cB (fun j => cov le bd D j || (decide (bd D ≤ j) && decide (j < bd D + le D))) N := rfl
    show cB (cov le bd (D + 1)) N ≤ sumN le D + le D
    omega
/-- how far the slide is: places from k on are done; `t` is where the last one went -/
def slid (m : Nat → Bool) (s0 : Nat → Int32) (k t : Nat) (sr : Nat → Int32) (ta : Nat → Nat) : Prop :=
  k ≤ t ∧ t + cB m 144 = 144 + cB m k ∧ (∀ j, k ≤ j → j < 144 → m j = true → t ≤ ta j ∧ ta j < 144 ∧ sr (ta j) = s0 j) ∧ (∀ j, k ≤ j → j + 1 < 144 → m j = true → m (j + 1) = true → ta (j + 1) = ta j + 1) ∧
  (∀ x, x < k → sr x = s0 x) ∧ (k < 144 → m k = true → ta k = t)
theorem slid_0 {m : Nat → Bool} {s0 : Nat → Int32} {ta : Nat → Nat} : slid m s0 144 144 s0 ta :=
  ⟨Nat.le_refl _, rfl, fun j h1 h2 => by omega, fun j h1 h2 => by omega, fun _ _ => rfl, fun h => by omega⟩
theorem slid_no {m : Nat → Bool} {s0 sr : Nat → Int32} {k t : Nat} {ta : Nat → Nat} (h : slid m s0 (k + 1) t sr ta) (hm : m k = false) : slid m s0 k t sr ta := by
  obtain ⟨a1, a2, a3, a4, a5, a6⟩ := h
  refine ⟨by omega, ?_, fun j h1 h2 h3 => ?_, fun j h1 h2 h3 h4 => ?_, fun x hx => a5 x (by omega), fun h1 h2 => by rw [hm] at h2; cases h2⟩
  · have : cB m (k + 1) = cB m k + (m k).toNat := rfl
    rw [this, hm] at a2
    exact a2
  · have : j ≠ k := fun q => by subst q; rw [hm] at h3; cases h3
    exact a3 j (by omega) h2 h3
  · have : j ≠ k := fun q => by subst q; rw [hm] at h3; cases h3
    exact a4 j (by omega) h2 h3 h4
theorem slid_yes {m : Nat → Bool} {s0 sr : Nat → Int32} {k t : Nat} {ta : Nat → Nat} (h : slid m s0 (k + 1) t sr ta) (hm : m k = true) (hk : k < 144) : 0 < t ∧ t ≤ 144 ∧ slid m s0 k (t - 1) (upd sr (t - 1) (sr k)) (upN ta k (t - 1)) := by
  obtain ⟨a1, a2, a3, a4, a5, a6⟩ := h
  have hc : cB m (k + 1) = cB m k + (m k).toNat := rfl
  rw [hc, hm] at a2
  have a2 : t + cB m 144 = 144 + (cB m k + 1) := a2
  have mono : ∀ N, k + 1 ≤ N → cB m (k + 1) ≤ cB m N := by
    intro N hN
    induction N with
    | zero => omega
    | succ N ih =>
      rcases Nat.lt_or_ge k N with q | q
      · exact Nat.le_trans (ih (by omega)) (Nat.le_add_right _ _)
      · have : N = k := by omega
        subst this; exact Nat.le_refl _
  have h144 := mono 144 (by omega)
  rw [hc, hm] at h144
  have h144 : cB m k + 1 ≤ cB m 144 := h144
  refine ⟨by omega, by omega, by omega, by omega, fun j h1 h2 h3 => ?_, fun j h1 h2 h3 h4 => ?_, fun x hx => ?_, fun _ _ => upN_s⟩
  · by_cases q : j = k
    · subst q
      rw [upN_s, pk_us]
      exact ⟨Nat.le_refl _, by omega, a5 j (by omega)⟩
    · rw [upN_n q]
      obtain ⟨b1, b2, b3⟩ := a3 j (by omega) h2 h3
      rw [pk_un (by omega)]
      exact ⟨by omega, b2, b3⟩
  · by_cases q : j = k
    · subst q
      rw [upN_s, upN_n (by omega), a6 h2 h4]
      omega
    · rw [upN_n q, upN_n (by omega)]
      exact a4 j (by omega) h2 h3 h4
  · rw [pk_un (by omega)]
    exact a5 x (by omega)
/-- behind the slide the strings are as they were -/
theorem slid_RX (hp : p ≤ 4) (h : RXc p n ch kd li p le bd bo sr) (hs : sumN n (6 + p) ≤ 100) {t : Nat} {sr' : Nat → Int32} {ta bd' : Nat → Nat} (hS : slid (cov le bd (6 + p)) sr 0 t sr' ta)
    (h1 : ∀ e, e < 6 + p → 0 < le e → bd' e = ta (bd e)) (h2 : ∀ e, e < 10 → ¬ (e < 6 + p ∧ 0 < le e) → bd' e = bd e) : RXc p n ch kd li p le bd' t sr' ∧ 44 ≤ t := by
  obtain ⟨g1, g2, -, g4, g5, g6⟩ := h
  obtain ⟨a1, a2, a3, a4, a5, a6⟩ := hS
  have hle : sumN le (6 + p) = sumN n (6 + p) := sumN_cg (fun d hd => (g6 d hd).1)
  have hc := cov_le (le := le) (bd := bd) (N := 144) (D := 6 + p)
  have a2 : t + cB (cov le bd (6 + p)) 144 = 144 + 0 := a2
  have key : ∀ e, e < 6 + p → 0 < n e → ∀ i, i < n e → t ≤ ta (bd e + i) ∧ ta (bd e + i) < 144 ∧ sr' (ta (bd e + i)) = sr (bd e + i) ∧ ta (bd e + i) = ta (bd e) + i := by
    intro e he hn i
    obtain ⟨q1, q2⟩ := g6 e he
    obtain ⟨q3, q4, q5⟩ := q2 hn
    have hcv : ∀ i, i < n e → cov le bd (6 + p) (bd e + i) = true := fun i hi => cov_at he (by omega) (by omega)
    intro hi
    obtain ⟨r1, r2, r3⟩ := a3 (bd e + i) (by omega) (by omega) (hcv i hi)
    refine ⟨r1, r2, r3, ?_⟩
    clear r1 r2 r3
    induction i with
    | zero => rfl
    | succ i ih =>
      have := a4 (bd e + i) (by omega) (by omega) (hcv i (by omega)) (hcv (i + 1) hi)
      rw [show bd e + (i + 1) = bd e + i + 1 by omega, this, ih (by omega)]
      omega
  refine ⟨⟨g1, g2, rfl, by omega, fun e he => ⟨(g5 e he).1, ?_⟩, fun e he => ⟨(g6 e he).1, fun hn => ?_⟩⟩, by omega⟩
  · by_cases q : e < 6 + p ∧ 0 < le e
    · rw [h1 e q.1 q.2]
      obtain ⟨r1, r2⟩ := g6 e q.1
      have := (key e q.1 (by omega) 0 (by omega)).2.1
      rw [Nat.add_zero] at this
      omega
    · rw [h2 e he q]; exact (g5 e he).2
  · obtain ⟨q1, q2⟩ := g6 e he
    rw [h1 e he (by omega)]
    obtain ⟨q3, q4, q5⟩ := q2 hn
    have k0 := key e he hn 0 hn
    rw [Nat.add_zero] at k0
    have k1 := key e he hn (n e - 1) (by omega)
    refine ⟨k0.1, by omega, fun i hi => ?_⟩
    obtain ⟨r1, r2, r3, r4⟩ := key e he hn i hi
    rw [← r4, r3]
    exact q5 i hi
end PX
end
section
section X1
variable {kd pi bo : Nat} {li sr wa : Nat → Int32} {n le bd ta : Nat → Nat} {ch : Nat → Nat → Int32}
theorem dec1 {a : Nat} : nI a + Int32.ofInt (-1) = nI a - 1 := by rw [im1, Int32.sub_eq_add_neg]
theorem decN {a : Nat} (h : 0 < a) : nI a + Int32.ofInt (-1) = nI (a - 1) := by rw [im1]; exact sb_m1 h
theorem z1n : ¬ nI 1 = 0 := by decide +kernel
theorem m1n : nI 0 - 1 < 0 := by decide +kernel
set_option maxRecDepth 20000 in
/-- descriptors() -/
theorem c_X_descriptors (l : Launch)  : CtI l y_X_descriptors b_X_descriptors 1 (some .int) 0 wX [] (kd, li, pi, le, bd, bo, sr, wa, ta) (fun r u' => r = nI (6 + pi) ∧ u' = (kd, li, pi, le, bd, bo, sr, wa, ta)) := by
  refine CtI.of0 (by decide +kernel) rfl (by decide) (fun E q hl hC hr => ?_)
  subst hl
  refine j_bipush hC bp_6 d_X_descriptors_0 ?_
  refine j_aload_0 hC d_X_descriptors_2 ?_
  refine x_get_piled hC d_X_descriptors_3 ?_
  refine j_addN hC d_X_descriptors_6 ?_
  refine j_ireturn hC hr ?_ d_X_descriptors_7
  exact ⟨rfl, rfl⟩
set_option maxRecDepth 20000 in
/-- top() -/
theorem c_X_top (l : Launch)  : CtI l y_X_top b_X_top 1 (some .int) 0 wX [] (kd, li, pi, le, bd, bo, sr, wa, ta) (fun r u' => r = nI (6 + pi - 1) ∧ u' = (kd, li, pi, le, bd, bo, sr, wa, ta)) := by
  refine CtI.of0 (by decide +kernel) rfl (by decide) (fun E q hl hC hr => ?_)
  subst hl
  refine j_bipush hC bp_6 d_X_top_0 ?_
  refine j_aload_0 hC d_X_top_2 ?_
  refine x_get_piled hC d_X_top_3 ?_
  refine j_addN hC d_X_top_6 ?_
  refine j_iconst hC ic_1 d_X_top_7 ?_
  refine j_subN hC (by omega) d_X_top_8 ?_
  refine j_ireturn hC hr ?_ d_X_top_9
  exact ⟨rfl, rfl⟩
set_option maxRecDepth 20000 in
/-- badVariable(v) -/
theorem c_X_badVariable (l : Launch) {v : Int32} : CtI l y_X_badVariable b_X_badVariable 2 (some .boolean) 0 wX [.int v] (kd, li, pi, le, bd, bo, sr, wa, ta) (fun r u' => u' = (kd, li, pi, le, bd, bo, sr, wa, ta) ∧ (r = 0 ↔ ¬ (v < 0 ∨ 6 ≤ v))) := by
  refine CtI.of1 (by decide +kernel) rfl (by decide) (fun E q hl hC hr => ?_)
  subst hl
  refine j_iload_1 hC d_X_badVariable_0 ?_
  refine j_if_lt hC 10 (by decide) d_X_badVariable_1 (fun c_1 => ?_) (fun c_1 => ?_)
  · refine j_iconst hC ic_1 d_X_badVariable_10 ?_
    refine j_goto hC 15 (by decide) d_X_badVariable_11 ?_
    refine j_zreturn hC bz1 hr ?_ d_X_badVariable_15
    exact ⟨rfl, fun q => absurd q z1n, fun q => absurd (Or.inl c_1) q⟩
  · refine j_iload_1 hC d_X_badVariable_4 ?_
    refine j_bipush hC br_6 d_X_badVariable_5 ?_
    refine j_icmp_lt hC 14 (by decide) d_X_badVariable_7 (fun c_7 => ?_) (fun c_7 => ?_)
    · refine j_iconst hC ic_0 d_X_badVariable_14 ?_
      refine j_zreturn hC bz0 hr ?_ d_X_badVariable_15
      exact ⟨rfl, fun _ q => q.elim c_1 (fun q => absurd c_7 (Int32.not_lt.mpr q)), fun _ => nI_0⟩
    · refine j_iconst hC ic_1 d_X_badVariable_10 ?_
      refine j_goto hC 15 (by decide) d_X_badVariable_11 ?_
      refine j_zreturn hC bz1 hr ?_ d_X_badVariable_15
      exact ⟨rfl, fun q => absurd q z1n, fun q => absurd (Or.inr (Int32.not_lt.mp c_7)) q⟩
set_option maxRecDepth 20000 in
/-- badByte(v) -/
theorem c_X_badByte (l : Launch) {v : Int32} : CtI l y_X_badByte b_X_badByte 2 (some .boolean) 0 wX [.int v] (kd, li, pi, le, bd, bo, sr, wa, ta) (fun r u' => u' = (kd, li, pi, le, bd, bo, sr, wa, ta) ∧ (r = 0 ↔ ¬ (v < 0 ∨ 255 < v))) := by
  refine CtI.of1 (by decide +kernel) rfl (by decide) (fun E q hl hC hr => ?_)
  subst hl
  refine j_iload_1 hC d_X_badByte_0 ?_
  refine j_if_lt hC 11 (by decide) d_X_badByte_1 (fun c_1 => ?_) (fun c_1 => ?_)
  · refine j_iconst hC ic_1 d_X_badByte_11 ?_
    refine j_goto hC 16 (by decide) d_X_badByte_12 ?_
    refine j_zreturn hC bz1 hr ?_ d_X_badByte_16
    exact ⟨rfl, fun q => absurd q z1n, fun q => absurd (Or.inl c_1) q⟩
  · refine j_iload_1 hC d_X_badByte_4 ?_
    refine j_sipush hC sr_255 d_X_badByte_5 ?_
    refine j_icmp_le hC 15 (by decide) d_X_badByte_8 (fun c_8 => ?_) (fun c_8 => ?_)
    · refine j_iconst hC ic_0 d_X_badByte_15 ?_
      refine j_zreturn hC bz0 hr ?_ d_X_badByte_16
      exact ⟨rfl, fun _ q => q.elim c_1 (fun q => absurd c_8 (Int32.not_le.mpr q)), fun _ => nI_0⟩
    · refine j_iconst hC ic_1 d_X_badByte_11 ?_
      refine j_goto hC 16 (by decide) d_X_badByte_12 ?_
      refine j_zreturn hC bz1 hr ?_ d_X_badByte_16
      exact ⟨rfl, fun q => absurd q z1n, fun q => absurd (Or.inr (Int32.not_le.mp c_8)) q⟩
set_option maxRecDepth 20000 in
/-- used() -/
theorem c_X_used (l : Launch) (hp : pi ≤ 4) (hl : ∀ d, d < 10 → le d ≤ 40) : CtI l y_X_used b_X_used 3 (some .int) 1 wX [] (kd, li, pi, le, bd, bo, sr, wa, ta) (fun r u' => r = nI (sumN le (6 + pi)) ∧ u' = (kd, li, pi, le, bd, bo, sr, wa, ta)) := by
  refine CtI.of0 (by decide +kernel) rfl (by decide) (fun E q hl hC hr => ?_)
  subst hl
  refine j_iconst hC ic_0 d_X_used_0 ?_
  refine j_istore_1 hC (by decide) d_X_used_1 ?_
  refine j_iconst hC ic_0 d_X_used_2 ?_
  refine j_istore_2 hC (by decide) d_X_used_3 ?_
  have lp : ∀ (k i : Nat), 6 + pi - i < k → i ≤ 6 + pi → J E (QI E q wX (fun r u' => r = nI (sumN le (6 + pi)) ∧ u' = (kd, li, pi, le, bd, bo, sr, wa, ta))) (wX (eI E) (eZ E) q (kd, li, pi, le, bd, bo, sr, wa, ta)) (some (.ref (q 0))) (some (.int (nI (sumN le i)))) (some (.int (nI i))) none none none none none 4 [] := by
    intro k
    induction k with
    | zero =>
      intro i hk hi
      exact absurd hk (Nat.not_lt_zero _)
    | succ k ih_lp =>
      intro i hk hi
      refine j_iload_2 hC d_X_used_4 ?_
      refine j_aload_0 hC d_X_used_5 ?_
      refine x_calli0 hC (c_X_descriptors (eL E)) v_X_descriptors k_X_85 (by decide) (Nat.le_of_ble_eq_true rfl) d_X_used_6 (fun r u' hp => ?_)
      obtain ⟨rfl, rfl⟩ := hp
      refine j_geN hC 27 (by decide) (by omega) (by omega) d_X_used_9 (fun c_9 => ?_) (fun c_9 => ?_)
      · refine j_iload_1 hC d_X_used_27 ?_
        refine j_ireturn hC hr ?_ d_X_used_28
        have e : i = 6 + pi := by omega
        subst e
        exact ⟨rfl, rfl⟩
      · refine j_iload_1 hC d_X_used_12 ?_
        refine j_aload_0 hC d_X_used_13 ?_
        refine x_get_length hC d_X_used_14 ?_
        refine j_iload_2 hC d_X_used_17 ?_
        refine x_ld_length hC (by omega) d_X_used_18 ?_
        refine j_addN hC d_X_used_19 ?_
        refine j_istore_1 hC (by decide) d_X_used_20 ?_
        refine j_iinc_2 hC inc1 (by decide) d_X_used_21 ?_
        refine j_goto hC 4 (by decide) d_X_used_24 ?_
        exact ih_lp (i + 1) (by omega) (by omega)
  exact lp (7 + pi) 0 (by omega) (Nat.zero_le _)
theorem sumN40 {f : Nat → Nat} (h : ∀ d, d < 10 → f d ≤ 40) : ∀ {k : Nat}, k ≤ 10 → sumN f k ≤ 40 * k
  | 0, _ => Nat.le_refl _
  | k + 1, hk => by
    have := sumN40 h (k := k) (by omega)
    have := h k (by omega)
    show sumN f k + f k ≤ 40 * (k + 1)
    omega
set_option maxRecDepth 20000 in
/-- refuse(n): the code if n more characters are refused, or 0 -/
theorem c_X_refuse (l : Launch) (hp : pi ≤ 4) (hl : ∀ d, d < 10 → le d ≤ 40) {m : Nat} (hm : m < 1000) : CtI l y_X_refuse b_X_refuse 3 (some .int) 2 wX [.int (nI m)] (kd, li, pi, le, bd, bo, sr, wa, ta) (fun r u' => u' = (kd, li, pi, le, bd, bo, sr, wa, ta) ∧ ((r < 0 ∧ r = (if pi = 4 then (-2) else if 40 < m then (-5) else (-2)) ∧ (pi = 4 ∨ 40 < m ∨ 100 < sumN le (6 + pi) + m)) ∨ (r = nI 0 ∧ pi < 4 ∧ m ≤ 40 ∧ sumN le (6 + pi) + m ≤ 100))) := by
  refine CtI.of1 (by decide +kernel) rfl (by decide) (fun E q hl hC hr => ?_)
  subst hl
  refine j_aload_0 hC d_X_refuse_0 ?_
  refine x_get_piled hC d_X_refuse_1 ?_
  refine j_iconst hC ic_4 d_X_refuse_4 ?_
  refine j_neN hC 11 (by decide) (by omega) (by omega) d_X_refuse_5 (fun c_5 => ?_) (fun c_5 => ?_)
  · refine j_iload_1 hC d_X_refuse_11 ?_
    refine j_bipush hC bp_40 d_X_refuse_12 ?_
    refine j_leN hC 20 (by decide) (by omega) (by omega) d_X_refuse_14 (fun c_14 => ?_) (fun c_14 => ?_)
    · refine j_aload_0 hC d_X_refuse_20 ?_
      refine x_calli0 hC (c_X_used (eL E) hp hl) v_X_used k_X_42 (by decide) (Nat.le_of_ble_eq_true rfl) d_X_refuse_21 (fun r u' h2 => ?_)
      obtain ⟨rfl, rfl⟩ := h2
      refine j_istore_2 hC (by decide) d_X_refuse_24 ?_
      have hs := sumN40 (k := 6 + pi) hl (by omega)
      refine j_iload_2 hC d_X_refuse_25 ?_
      refine j_iload_1 hC d_X_refuse_26 ?_
      refine j_addN hC d_X_refuse_27 ?_
      refine j_bipush hC bp_100 d_X_refuse_28 ?_
      refine j_leN hC 38 (by decide) (by omega) (by omega) d_X_refuse_30 (fun c_30 => ?_) (fun c_30 => ?_)
      · refine j_iconst hC ic_0 d_X_refuse_38 ?_
        refine j_ireturn hC hr ?_ d_X_refuse_39
        exact ⟨rfl, Or.inr ⟨rfl, by omega, c_14, c_30⟩⟩
      · refine j_bipush hC bm2 d_X_refuse_33 ?_
        refine j_goto hC 39 (by decide) d_X_refuse_35 ?_
        refine j_ireturn hC hr ?_ d_X_refuse_39
        exact ⟨rfl, Or.inl ⟨by decide +kernel, ((if_neg c_5).trans (if_neg (by omega))).symm, Or.inr (Or.inr c_30)⟩⟩
    · refine j_bipush hC bm5 d_X_refuse_17 ?_
      refine j_ireturn hC hr ?_ d_X_refuse_19
      exact ⟨rfl, Or.inl ⟨by decide +kernel, ((if_neg c_5).trans (if_pos c_14)).symm, Or.inr (Or.inl c_14)⟩⟩
  · refine j_bipush hC bm2 d_X_refuse_8 ?_
    refine j_ireturn hC hr ?_ d_X_refuse_10
    exact ⟨rfl, Or.inl ⟨by decide +kernel, (if_pos c_5).symm, Or.inl c_5⟩⟩
set_option maxRecDepth 20000 in
/-- pushBody(at, n) -/
theorem c_X_pushBody (l : Launch) (hp : pi < 4) {at0 m : Nat} (hm : m < 1000) : CtV l y_X_pushBody b_X_pushBody 4 none 1 wX [.int (nI at0), .int (nI m)] (kd, li, pi, le, bd, bo, sr, wa, ta) (fun u' => u' = (kd, li, pi + 1, upN le (6 + pi) m, upN bd (6 + pi) (if m = 0 then 0 else at0), bo, sr, wa, ta)) := by
  refine CtV.of2 (by decide +kernel) rfl (by decide) (fun E q hl hC hr => ?_)
  subst hl
  refine j_aload_0 hC d_X_pushBody_0 ?_
  refine j_dup hC rfl d_X_pushBody_1 ?_
  refine x_get_piled hC d_X_pushBody_2 ?_
  refine j_iconst hC ic_1 d_X_pushBody_5 ?_
  refine j_addN hC d_X_pushBody_6 ?_
  refine x_put_piled hC d_X_pushBody_7 ?_
  refine j_aload_0 hC d_X_pushBody_10 ?_
  refine x_calli0 hC (c_X_top (eL E)) v_X_top k_X_46 (by decide) (Nat.le_of_ble_eq_true rfl) d_X_pushBody_11 (fun r u' h2 => ?_)
  obtain ⟨rfl, rfl⟩ := h2
  rw [show 6 + (pi + 1) - 1 = 6 + pi by omega]
  refine j_istore_3 hC (by decide) d_X_pushBody_14 ?_
  refine j_aload_0 hC d_X_pushBody_15 ?_
  refine x_get_body hC d_X_pushBody_16 ?_
  refine j_iload_3 hC d_X_pushBody_19 ?_
  refine j_iload_2 hC d_X_pushBody_20 ?_
  refine j_nezN hC 28 (by decide) (by omega) d_X_pushBody_21 (fun c_21 => ?_) (fun c_21 => ?_)
  · refine j_iload_1 hC d_X_pushBody_28 ?_
    refine x_st_body hC (by omega) d_X_pushBody_29 ?_
    refine j_aload_0 hC d_X_pushBody_30 ?_
    refine x_get_length hC d_X_pushBody_31 ?_
    refine j_iload_3 hC d_X_pushBody_34 ?_
    refine j_iload_2 hC d_X_pushBody_35 ?_
    refine x_st_length hC (by omega) d_X_pushBody_36 ?_
    refine j_return hC hr ?_ d_X_pushBody_37
    rw [if_neg c_21]
  · refine j_iconst hC ic_0 d_X_pushBody_24 ?_
    refine j_goto hC 29 (by decide) d_X_pushBody_25 ?_
    refine x_st_body hC (by omega) d_X_pushBody_29 ?_
    refine j_aload_0 hC d_X_pushBody_30 ?_
    refine x_get_length hC d_X_pushBody_31 ?_
    refine j_iload_3 hC d_X_pushBody_34 ?_
    refine j_iload_2 hC d_X_pushBody_35 ?_
    refine x_st_length hC (by omega) d_X_pushBody_36 ?_
    refine j_return hC hr ?_ d_X_pushBody_37
    rw [if_pos c_21]
set_option maxRecDepth 20000 in
/-- copy(from, to, n), apart -/
theorem c_X_copy (l : Launch) {f t m : Nat} (hf : f + m ≤ 144) (ht : t + m ≤ 144) (hx : 0 < m → f + m ≤ t ∨ t + m ≤ f) : CtV l y_X_copy b_X_copy 5 none 0 wX [.int (nI f), .int (nI t), .int (nI m)] (kd, li, pi, le, bd, bo, sr, wa, ta) (fun u' => ∃ sr' : Nat → Int32, (∀ j, j < m → sr' (t + j) = sr (f + j)) ∧ (∀ x, (x < t ∨ t + m ≤ x) → sr' x = sr x) ∧ u' = (kd, li, pi, le, bd, bo, sr', wa, ta)) := by
  refine CtV.of3 (by decide +kernel) rfl (by decide) (fun E q hl hC hr => ?_)
  subst hl
  refine j_iconst hC ic_0 d_X_copy_0 ?_
  refine j_istore_4 hC (by decide) d_X_copy_1 ?_
  have lp : ∀ (k i : Nat) (s : Nat → Int32), m - i < k → i ≤ m → (∀ j, j < i → s (t + j) = sr (f + j)) → (∀ x, (x < t ∨ t + i ≤ x) → s x = sr x) → J E (QV E q wX (fun u' => ∃ sr' : Nat → Int32, (∀ j, j < m → sr' (t + j) = sr (f + j)) ∧ (∀ x, (x < t ∨ t + m ≤ x) → sr' x = sr x) ∧ u' = (kd, li, pi, le, bd, bo, sr', wa, ta))) (wX (eI E) (eZ E) q (kd, li, pi, le, bd, bo, s, wa, ta)) (some (.ref (q 0))) (some (.int (nI f))) (some (.int (nI t))) (some (.int (nI m))) (some (.int (nI i))) none none none 3 [] := by
    intro k
    induction k with
    | zero =>
      intro i s hk hi h1 h2
      exact absurd hk (Nat.not_lt_zero _)
    | succ k ih_lp =>
      intro i s hk hi h1 h2
      refine j_iload_4 hC d_X_copy_3 ?_
      refine j_iload_3 hC d_X_copy_5 ?_
      refine j_geN hC 33 (by decide) (by omega) (by omega) d_X_copy_6 (fun c_6 => ?_) (fun c_6 => ?_)
      · refine j_return hC hr ?_ d_X_copy_33
        have e : i = m := by omega
        subst e
        exact ⟨s, h1, h2, rfl⟩
      · refine j_aload_0 hC d_X_copy_9 ?_
        refine x_get_store hC d_X_copy_10 ?_
        refine j_iload_2 hC d_X_copy_13 ?_
        refine j_iload_4 hC d_X_copy_14 ?_
        refine j_addN hC d_X_copy_16 ?_
        refine j_aload_0 hC d_X_copy_17 ?_
        refine x_get_store hC d_X_copy_18 ?_
        refine j_iload_1 hC d_X_copy_21 ?_
        refine j_iload_4 hC d_X_copy_22 ?_
        refine j_addN hC d_X_copy_24 ?_
        refine x_ld_store hC (by omega) d_X_copy_25 ?_
        refine x_st_store hC (by omega) d_X_copy_26 ?_
        refine j_iinc_4 hC inc1 (by decide) d_X_copy_27 ?_
        refine j_goto hC 3 (by decide) d_X_copy_30 ?_
        refine ih_lp (i + 1) _ (by omega) (by omega) (fun j hj => ?_) (fun x hx2 => ?_)
        · by_cases e : j = i
          · subst e; rw [pk_us]; exact h2 (f + j) (by omega)
          · rw [pk_un (by omega)]; exact h1 j (by omega)
        · rw [pk_un (by omega)]; exact h2 x (by omega)
  exact lp (m + 1) 0 sr (by omega) (Nat.zero_le _) (fun j hj => by omega) (fun x _ => rfl)
set_option maxRecDepth 20000 in
/-- mark() -/
theorem c_X_mark (l : Launch) (hp : pi ≤ 4) (hl : ∀ d, d < 10 → le d ≤ 40 ∧ bd d ≤ 144) (hb : ∀ d, d < 6 + pi → 0 < le d → bd d + le d ≤ 144) : CtV l y_X_mark b_X_mark 3 none 0 wX [] (kd, li, pi, le, bd, bo, sr, wa, ta) (fun u' => ∃ wa' : Nat → Int32, (∀ j, j < 144 → (wa' j = 0 ↔ cov le bd (6 + pi) j = false)) ∧ u' = (kd, li, pi, le, bd, bo, sr, wa', ta)) := by
  refine CtV.of0 (by decide +kernel) rfl (by decide) (fun E q hl hC hr => ?_)
  subst hl
  refine j_iconst hC ic_0 d_X_mark_0 ?_
  refine j_istore_1 hC (by decide) d_X_mark_1 ?_
  have la : ∀ (k i : Nat) (w : Nat → Int32), 144 - i < k → i ≤ 144 → (∀ j, j < i → w j = 0) → J E (QV E q wX (fun u' => ∃ wa' : Nat → Int32, (∀ j, j < 144 → (wa' j = 0 ↔ cov le bd (6 + pi) j = false)) ∧ u' = (kd, li, pi, le, bd, bo, sr, wa', ta))) (wX (eI E) (eZ E) q (kd, li, pi, le, bd, bo, sr, w, ta)) (some (.ref (q 0))) (some (.int (nI i))) none none none none none none 2 [] := by
    intro k
    induction k with
    | zero =>
      intro i w hk hi h1
      exact absurd hk (Nat.not_lt_zero _)
    | succ k ih_la =>
      intro i w hk hi h1
      refine j_iload_1 hC d_X_mark_2 ?_
      refine j_sipush hC sp_144 d_X_mark_3 ?_
      refine j_geN hC 22 (by decide) (by omega) (by omega) d_X_mark_6 (fun c_6 => ?_) (fun c_6 => ?_)
      · refine j_iconst hC ic_0 d_X_mark_22 ?_
        refine j_istore_1 hC (by decide) d_X_mark_23 ?_
        have lb : ∀ (k d : Nat) (w : Nat → Int32) (l2 : Option Value), 10 - d < k → d ≤ 10 → (∀ j, j < 144 → (w j = 0 ↔ cov le bd (min d (6 + pi)) j = false)) → J E (QV E q wX (fun u' => ∃ wa' : Nat → Int32, (∀ j, j < 144 → (wa' j = 0 ↔ cov le bd (6 + pi) j = false)) ∧ u' = (kd, li, pi, le, bd, bo, sr, wa', ta))) (wX (eI E) (eZ E) q (kd, li, pi, le, bd, bo, sr, w, ta)) (some (.ref (q 0))) (some (.int (nI d))) l2 none none none none none 24 [] := by
          intro k
          induction k with
          | zero =>
            intro d w l2 hk hd h2
            exact absurd hk (Nat.not_lt_zero _)
          | succ k ih_lb =>
            intro d w l2 hk hd h2
            refine j_iload_1 hC d_X_mark_24 ?_
            refine j_bipush hC bp_10 d_X_mark_25 ?_
            refine j_geN hC 84 (by decide) (by omega) (by omega) d_X_mark_27 (fun c_27 => ?_) (fun c_27 => ?_)
            · refine j_return hC hr ?_ d_X_mark_84
              refine ⟨w, fun j hj => ?_, rfl⟩
              rw [h2 j hj, Nat.min_eq_right (by omega)]
            · refine j_iload_1 hC d_X_mark_30 ?_
              refine j_bipush hC bp_6 d_X_mark_31 ?_
              refine j_aload_0 hC d_X_mark_33 ?_
              refine x_get_piled hC d_X_mark_34 ?_
              refine j_addN hC d_X_mark_37 ?_
              refine j_geN hC 78 (by decide) (by omega) (by omega) d_X_mark_38 (fun c_38 => ?_) (fun c_38 => ?_)
              · refine j_iinc_1 hC inc1 (by decide) d_X_mark_78 ?_
                refine j_goto hC 24 (by decide) d_X_mark_81 ?_
                exact ih_lb (d + 1) w l2 (by omega) (by omega) (by rw [Nat.min_eq_right (by omega)]; rw [Nat.min_eq_right (by omega)] at h2; exact h2)
              · have hld := hl d (by omega)
                have hbd := hb d (by omega)
                refine j_aload_0 hC d_X_mark_41 ?_
                refine x_get_body hC d_X_mark_42 ?_
                refine j_iload_1 hC d_X_mark_45 ?_
                refine x_ld_body hC (by omega) d_X_mark_46 ?_
                refine j_istore_2 hC (by decide) d_X_mark_47 ?_
                have lc : ∀ (k i : Nat) (v : Nat → Int32), bd d + le d - i < k → bd d ≤ i → i ≤ bd d + le d → (∀ j, j < 144 → (v j = 0 ↔ (cov le bd d j = false ∧ ¬ (bd d ≤ j ∧ j < i)))) → J E (QV E q wX (fun u' => ∃ wa' : Nat → Int32, (∀ j, j < 144 → (wa' j = 0 ↔ cov le bd (6 + pi) j = false)) ∧ u' = (kd, li, pi, le, bd, bo, sr, wa', ta))) (wX (eI E) (eZ E) q (kd, li, pi, le, bd, bo, sr, v, ta)) (some (.ref (q 0))) (some (.int (nI d))) (some (.int (nI i))) none none none none none 48 [] := by
                  intro k
                  induction k with
                  | zero =>
                    intro i v hk hi1 hi2 h3
                    exact absurd hk (Nat.not_lt_zero _)
                  | succ k ih_lc =>
                    intro i v hk hi1 hi2 h3
                    refine j_iload_2 hC d_X_mark_48 ?_
                    refine j_aload_0 hC d_X_mark_49 ?_
                    refine x_get_body hC d_X_mark_50 ?_
                    refine j_iload_1 hC d_X_mark_53 ?_
                    refine x_ld_body hC (by omega) d_X_mark_54 ?_
                    refine j_aload_0 hC d_X_mark_55 ?_
                    refine x_get_length hC d_X_mark_56 ?_
                    refine j_iload_1 hC d_X_mark_59 ?_
                    refine x_ld_length hC (by omega) d_X_mark_60 ?_
                    refine j_addN hC d_X_mark_61 ?_
                    refine j_geN hC 78 (by decide) (by omega) (by omega) d_X_mark_62 (fun c_62 => ?_) (fun c_62 => ?_)
                    · refine j_iinc_1 hC inc1 (by decide) d_X_mark_78 ?_
                      refine j_goto hC 24 (by decide) d_X_mark_81 ?_
                      refine ih_lb (d + 1) v _ (by omega) (by omega) (fun j hj => ?_)
                      rw [Nat.min_eq_left (by omega)]
                      rw [h3 j hj]
                      have e : i = bd d + le d := by omega
                      subst e
                      show _ ↔ (cov le bd d j || (decide (bd d ≤ j) && decide (j < bd d + le d))) = false
                      cases cov le bd d j <;> simp
                    · refine j_aload_0 hC d_X_mark_65 ?_
                      refine x_get_wanted hC d_X_mark_66 ?_
                      refine j_iload_2 hC d_X_mark_69 ?_
                      refine j_iconst hC ic_1 d_X_mark_70 ?_
                      refine x_st_wanted hC nb1 (by omega) d_X_mark_71 ?_
                      refine j_iinc_2 hC inc1 (by decide) d_X_mark_72 ?_
                      refine j_goto hC 48 (by decide) d_X_mark_75 ?_
                      refine ih_lc (i + 1) _ (by omega) (by omega) (by omega) (fun j hj => ?_)
                      by_cases e : j = i
                      · subst e; rw [pk_us]; exact ⟨fun z => absurd z z1n, fun z => absurd ⟨by omega, by omega⟩ z.2⟩
                      · rw [pk_un e, h3 j hj]; constructor <;> (rintro ⟨z1, z2⟩; exact ⟨z1, by omega⟩)
                exact lc (le d + 1) (bd d) w (by omega) (Nat.le_refl _) (by omega) (fun j hj => by rw [h2 j hj, Nat.min_eq_left (by omega)]; exact ⟨fun z => ⟨z, by omega⟩, fun z => z.1⟩)
        exact lb 11 0 w _ (by omega) (Nat.zero_le _) (fun j hj => ⟨fun _ => by rw [Nat.zero_min]; rfl, fun _ => h1 j (by omega)⟩)
      · refine j_aload_0 hC d_X_mark_9 ?_
        refine x_get_wanted hC d_X_mark_10 ?_
        refine j_iload_1 hC d_X_mark_13 ?_
        refine j_iconst hC ic_0 d_X_mark_14 ?_
        refine x_st_wanted hC nb0 (by omega) d_X_mark_15 ?_
        refine j_iinc_1 hC inc1 (by decide) d_X_mark_16 ?_
        refine j_goto hC 2 (by decide) d_X_mark_19 ?_
        refine ih_la (i + 1) _ (by omega) (by omega) (fun j hj => ?_)
        by_cases e : j = i
        · subst e; rw [pk_us]; exact nI_0
        · rw [pk_un e]; exact h1 j (by omega)
  exact la 145 0 wa (by omega) (Nat.zero_le _) (fun j hj => by omega)
set_option maxRecDepth 20000 in
/-- collect(): the strings stay, there is room -/
theorem c_X_collect (l : Launch) (hp : pi ≤ 4) (hR : RXc pi n ch kd li pi le bd bo sr) (hs : sumN n (6 + pi) ≤ 100) : CtV l y_X_collect b_X_collect 3 none 1 wX [] (kd, li, pi, le, bd, bo, sr, wa, ta) (fun u' => ∃ (t : Nat) (sr' wa' : Nat → Int32) (bd' ta' : Nat → Nat), RXc pi n ch kd li pi le bd' t sr' ∧ 44 ≤ t ∧ u' = (kd, li, pi, le, bd', t, sr', wa', ta')) := by
  refine CtV.of0 (by decide +kernel) rfl (by decide) (fun E q hl hC hr => ?_)
  subst hl
  have hl : ∀ d, d < 10 → le d ≤ 40 ∧ bd d ≤ 144 := hR.2.2.2.2.1
  have hb : ∀ d, d < 6 + pi → 0 < le d → bd d + le d ≤ 144 := fun d hd hz => by
    obtain ⟨z1, z2⟩ := hR.2.2.2.2.2 d hd
    have := (z2 (by omega)).2.1
    omega
  refine j_aload_0 hC d_X_collect_0 ?_
  refine x_callv0 hC (c_X_mark (eL E) hp hl hb) v_X_mark k_X_36 (by decide) (Nat.le_of_ble_eq_true rfl) d_X_collect_1 (fun u' h9 => ?_)
  obtain ⟨wa', hwa, rfl⟩ := h9
  refine j_sipush hC sp_144 d_X_collect_4 ?_
  refine j_istore_1 hC (by decide) d_X_collect_7 ?_
  refine j_sipush hC sp_143 d_X_collect_8 ?_
  refine j_istore_2 hC (by decide) d_X_collect_11 ?_
  have la : ∀ (k t : Nat) (s0 : Nat → Int32) (ta0 : Nat → Nat), k ≤ 144 → slid (cov le bd (6 + pi)) sr k t s0 ta0 → J E (QV E q wX (fun u' => ∃ (t : Nat) (sr' wa' : Nat → Int32) (bd' ta' : Nat → Nat), RXc pi n ch kd li pi le bd' t sr' ∧ 44 ≤ t ∧ u' = (kd, li, pi, le, bd', t, sr', wa', ta'))) (wX (eI E) (eZ E) q (kd, li, pi, le, bd, bo, s0, wa', ta0)) (some (.ref (q 0))) (some (.int (nI t))) (some (.int (nI k - 1))) none none none none none 12 [] := by
    intro k
    induction k with
    | zero =>
      intro t s0 ta0 hk hS
      refine j_iload_2 hC d_X_collect_12 ?_
      refine j_if_lt hC 53 (by decide) d_X_collect_13 (fun c_13 => ?_) (fun c_13 => ?_)
      · refine j_aload_0 hC d_X_collect_53 ?_
        refine j_iload_1 hC d_X_collect_54 ?_
        refine x_put_bottom hC d_X_collect_55 ?_
        refine j_iconst hC ic_0 d_X_collect_58 ?_
        refine j_istore_2 hC (by decide) d_X_collect_59 ?_
        have lb : ∀ (k d : Nat) (b : Nat → Nat), 10 - d < k → d ≤ 10 → (∀ e, e < d → e < 6 + pi → 0 < le e → b e = ta0 (bd e)) → (∀ e, e < 10 → (d ≤ e ∨ ¬ (e < 6 + pi ∧ 0 < le e)) → b e = bd e) → J E (QV E q wX (fun u' => ∃ (t : Nat) (sr' wa' : Nat → Int32) (bd' ta' : Nat → Nat), RXc pi n ch kd li pi le bd' t sr' ∧ 44 ≤ t ∧ u' = (kd, li, pi, le, bd', t, sr', wa', ta'))) (wX (eI E) (eZ E) q (kd, li, pi, le, b, t, s0, wa', ta0)) (some (.ref (q 0))) (some (.int (nI t))) (some (.int (nI d))) none none none none none 60 [] := by
          intro k
          induction k with
          | zero =>
            intro d b hk2 hd h1 h2
            exact absurd hk2 (Nat.not_lt_zero _)
          | succ k ih_lb =>
            intro d b hk2 hd h1 h2
            refine j_iload_2 hC d_X_collect_60 ?_
            refine j_bipush hC bp_10 d_X_collect_61 ?_
            refine j_geN hC 109 (by decide) (by omega) (by omega) d_X_collect_63 (fun c_63 => ?_) (fun c_63 => ?_)
            · refine j_return hC hr ?_ d_X_collect_109
              obtain ⟨r1, r2⟩ := slid_RX hp hR hs hS (bd' := b) (fun e h3 h4 => h1 e (by omega) h3 h4) (fun e h3 h4 => h2 e h3 (Or.inr h4))
              exact ⟨t, s0, wa', b, ta0, r1, r2, rfl⟩
            · have hld := hl d (by omega)
              refine j_iload_2 hC d_X_collect_66 ?_
              refine j_bipush hC bp_6 d_X_collect_67 ?_
              refine j_aload_0 hC d_X_collect_69 ?_
              refine x_get_piled hC d_X_collect_70 ?_
              refine j_addN hC d_X_collect_73 ?_
              refine j_geN hC 103 (by decide) (by omega) (by omega) d_X_collect_74 (fun c_74 => ?_) (fun c_74 => ?_)
              · refine j_iinc_2 hC inc1 (by decide) d_X_collect_103 ?_
                refine j_goto hC 60 (by decide) d_X_collect_106 ?_
                refine ih_lb (d + 1) b (by omega) (by omega) (fun e he h3 h4 => ?_) (fun e he h3 => h2 e he (by omega))
                have q : e ≠ d := fun q => by subst q; omega
                exact h1 e (by omega) h3 h4
              · refine j_aload_0 hC d_X_collect_77 ?_
                refine x_get_length hC d_X_collect_78 ?_
                refine j_iload_2 hC d_X_collect_81 ?_
                refine x_ld_length hC (by omega) d_X_collect_82 ?_
                refine j_lezN hC 103 (by decide) (by omega) d_X_collect_83 (fun c_83 => ?_) (fun c_83 => ?_)
                · refine j_iinc_2 hC inc1 (by decide) d_X_collect_103 ?_
                  refine j_goto hC 60 (by decide) d_X_collect_106 ?_
                  refine ih_lb (d + 1) b (by omega) (by omega) (fun e he h3 h4 => ?_) (fun e he h3 => h2 e he (by omega))
                  have q : e ≠ d := fun q => by subst q; omega
                  exact h1 e (by omega) h3 h4
                · have hbd := hb d (by omega) (by omega)
                  have hbe := h2 d (by omega) (Or.inl (Nat.le_refl _))
                  refine j_aload_0 hC d_X_collect_86 ?_
                  refine x_get_body hC d_X_collect_87 ?_
                  refine j_iload_2 hC d_X_collect_90 ?_
                  refine j_aload_0 hC d_X_collect_91 ?_
                  refine x_get_target hC d_X_collect_92 ?_
                  refine j_aload_0 hC d_X_collect_95 ?_
                  refine x_get_body hC d_X_collect_96 ?_
                  refine j_iload_2 hC d_X_collect_99 ?_
                  refine x_ld_body hC (by omega) d_X_collect_100 ?_
                  refine x_ld_target hC (by omega) d_X_collect_101 ?_
                  refine x_st_body hC (by omega) d_X_collect_102 ?_
                  refine j_iinc_2 hC inc1 (by decide) d_X_collect_103 ?_
                  refine j_goto hC 60 (by decide) d_X_collect_106 ?_
                  refine ih_lb (d + 1) _ (by omega) (by omega) (fun e he h3 h4 => ?_) (fun e he h3 => ?_)
                  · by_cases q : e = d
                    · subst q; rw [upN_s, h2 e (by omega) (Or.inl (Nat.le_refl _))]
                    · rw [upN_n q]; exact h1 e (by omega) h3 h4
                  · have q : e ≠ d := fun q => by subst q; omega
                    rw [upN_n q]; exact h2 e he (by omega)
        exact lb 11 0 bd (by omega) (Nat.zero_le _) (fun e he => by omega) (fun e _ _ => rfl)
      · exact absurd m1n c_13
    | succ k ih =>
      intro t s0 ta0 hk hS
      have hkt := hS.1
      rw [nI_pred]
      refine j_iload_2 hC d_X_collect_12 ?_
      refine j_ltzN hC 53 (by decide) (by omega) d_X_collect_13 ?_
      refine j_aload_0 hC d_X_collect_16 ?_
      refine x_get_wanted hC d_X_collect_17 ?_
      refine j_iload_2 hC d_X_collect_20 ?_
      refine x_ld_wanted hC (by omega) d_X_collect_21 ?_
      refine j_if_eq hC 47 (by decide) d_X_collect_22 (fun c_22 => ?_) (fun c_22 => ?_)
      · refine j_iinc_2 hC dec1 (by decide) d_X_collect_47 ?_
        refine j_goto hC 12 (by decide) d_X_collect_50 ?_
        exact ih t s0 ta0 (by omega) (slid_no hS ((hwa k (by omega)).mp c_22))
      · have hy := slid_yes hS (by rw [← Bool.not_eq_false]; exact fun z => c_22 ((hwa k (by omega)).mpr z)) (by omega)
        obtain ⟨ht0, ht1, hy⟩ := hy
        refine j_iinc_1 hC (decN ht0) (by decide) d_X_collect_25 ?_
        refine j_aload_0 hC d_X_collect_28 ?_
        refine x_get_store hC d_X_collect_29 ?_
        refine j_iload_1 hC d_X_collect_32 ?_
        refine j_aload_0 hC d_X_collect_33 ?_
        refine x_get_store hC d_X_collect_34 ?_
        refine j_iload_2 hC d_X_collect_37 ?_
        refine x_ld_store hC (by omega) d_X_collect_38 ?_
        refine x_st_store hC (by omega) d_X_collect_39 ?_
        refine j_aload_0 hC d_X_collect_40 ?_
        refine x_get_target hC d_X_collect_41 ?_
        refine j_iload_2 hC d_X_collect_44 ?_
        refine j_iload_1 hC d_X_collect_45 ?_
        refine x_st_target hC (by omega) d_X_collect_46 ?_
        refine j_iinc_2 hC dec1 (by decide) d_X_collect_47 ?_
        refine j_goto hC 12 (by decide) d_X_collect_50 ?_
        exact ih (t - 1) _ _ (by omega) hy
  exact la 144 144 sr ta (Nat.le_refl _) slid_0
set_option maxRecDepth 20000 in
/-- take(n): n places below all strings -/
theorem c_X_take (l : Launch) (hp : pi ≤ 4) (hR : RXc pi n ch kd li pi le bd bo sr) (hs : sumN n (6 + pi) ≤ 100) {m : Nat} (hm : m ≤ 40) : CtI l y_X_take b_X_take 2 (some .int) 2 wX [.int (nI m)] (kd, li, pi, le, bd, bo, sr, wa, ta) (fun r u' => ∃ (t : Nat) (sr' wa' : Nat → Int32) (bd' ta' : Nat → Nat), r = nI t ∧ t + m ≤ 144 ∧ RXc pi n ch kd li pi le bd' t sr' ∧ (∀ d, d < 6 + pi → 0 < n d → t + m ≤ bd' d) ∧ u' = (kd, li, pi, le, bd', t, sr', wa', ta')) := by
  refine CtI.of1 (by decide +kernel) rfl (by decide) (fun E q hl hC hr => ?_)
  subst hl
  have hbo := hR.2.2.2.1
  refine j_aload_0 hC d_X_take_0 ?_
  refine x_get_bottom hC d_X_take_1 ?_
  refine j_iload_1 hC d_X_take_4 ?_
  refine j_geN hC 12 (by decide) (by omega) (by omega) d_X_take_5 (fun c_5 => ?_) (fun c_5 => ?_)
  · refine j_aload_0 hC d_X_take_12 ?_
    refine j_aload_0 hC d_X_take_13 ?_
    refine x_get_bottom hC d_X_take_14 ?_
    refine j_iload_1 hC d_X_take_17 ?_
    refine j_subN hC (by omega) d_X_take_18 ?_
    refine x_put_bottom hC d_X_take_19 ?_
    refine j_aload_0 hC d_X_take_22 ?_
    refine x_get_bottom hC d_X_take_23 ?_
    refine j_ireturn hC hr ?_ d_X_take_26
    exact ⟨bo - m, sr, wa, bd, ta, rfl, by omega, RX_bo hR (by omega), fun d hd hn => by
      have := ((hR.2.2.2.2.2 d hd).2 hn).1
      omega, rfl⟩
  · refine j_aload_0 hC d_X_take_8 ?_
    refine x_callv0 hC (c_X_collect (eL E) hp hR hs) v_X_collect k_X_39 (by decide) (Nat.le_of_ble_eq_true rfl) d_X_take_9 (fun u' h9 => ?_)
    obtain ⟨t, sr', wa', bd', ta', hR2, h44, rfl⟩ := h9
    have hbo2 := hR2.2.2.2.1
    refine j_aload_0 hC d_X_take_12 ?_
    refine j_aload_0 hC d_X_take_13 ?_
    refine x_get_bottom hC d_X_take_14 ?_
    refine j_iload_1 hC d_X_take_17 ?_
    refine j_subN hC (by omega) d_X_take_18 ?_
    refine x_put_bottom hC d_X_take_19 ?_
    refine j_aload_0 hC d_X_take_22 ?_
    refine x_get_bottom hC d_X_take_23 ?_
    refine j_ireturn hC hr ?_ d_X_take_26
    exact ⟨t - m, sr', wa', bd', ta', rfl, by omega, RX_bo hR2 (by omega), fun d hd hn => by
      have := ((hR2.2.2.2.2.2 d hd).2 hn).1
      omega, rfl⟩
end X1
end
section
section X2
theorem RX_new {p kd bo : Nat} {li sr : Nat → Int32} {n le bd : Nat → Nat} {ch : Nat → Nat → Int32} (h : RXc p n ch kd li p le bd bo sr) (hp : p < 4) {m b : Nat} {f : Nat → Int32} (hm : m ≤ 40) (hb : b ≤ 144) (hs : 0 < m → bo ≤ b ∧ b + m ≤ 144 ∧ ∀ i, i < m → sr (b + i) = f i) : RXc (p + 1) (upN n (6 + p) m) (upC ch (6 + p) f) kd li (p + 1) (upN le (6 + p) m) (upN bd (6 + p) (if m = 0 then 0 else b)) bo sr := by
  refine RX_set h (by omega) (fun e h1 h2 => by omega) hm (by split <;> omega) (fun hm => ?_)
  rw [if_neg (by omega)]
  exact hs hm
theorem sp_push_N {a : Ab} {j : Nat} (hj : j < 6) : sp_push a (nI j) = sp_pushN a j := (if_neg (notV hj)).trans (by rw [cl (by omega)])
theorem sp_let_N {a : Ab} {j : Nat} (hj : j < 6) : sp_let a (nI j) = sp_letN a j := (if_neg (notV hj)).trans (by rw [cl (by omega)])
theorem sp_left_N {a : Ab} {j : Nat} (hj : j < 256) (hp : a.1 ≠ 0) : sp_left a (nI j) = sp_cutN a 0 j := (if_neg (notB hj)).trans ((if_neg hp).trans (by rw [cl (by omega)]))
theorem sp_right_N {a : Ab} {j : Nat} (hj : j < 256) (hp : a.1 ≠ 0) (h : j < a.2.1 (5 + a.1)) : sp_right a (nI j) = sp_cutN a (a.2.1 (5 + a.1) - j) j := by
  unfold sp_right
  rw [if_neg (notB hj), if_neg hp, cl (by omega), if_pos h]
theorem sp_right_A {a : Ab} {j : Nat} (hj : j < 256) (hp : a.1 ≠ 0) (h : a.2.1 (5 + a.1) ≤ j) : sp_right a (nI j) = (nI (a.2.1 (5 + a.1)), a) := by
  unfold sp_right
  rw [if_neg (notB hj), if_neg hp, cl (by omega), if_neg (by omega)]
theorem sp_mid_N {a : Ab} {i j : Nat} (hi0 : 0 < i) (hi : i < 256) (hj : j < 256) (hp : a.1 ≠ 0) : sp_mid a (nI i) (nI j) = sp_cutN a (i - 1) j := by
  unfold sp_mid
  rw [if_neg (fun q => q.elim (not1 hi0 hi) (notB hj)), if_neg hp, cl (by omega), cl (by omega)]
theorem sp_cut_all {a : Ab} : sp_cutN a 0 (a.2.1 (5 + a.1)) = (nI (a.2.1 (5 + a.1)), a) := by
  unfold sp_cutN
  rw [Nat.sub_zero, Nat.min_self, upN_id, show (fun j => a.2.2 (5 + a.1) (0 + j)) = a.2.2 (5 + a.1) from funext fun j => by rw [Nat.zero_add], upC_id]
theorem RX_cut {p kd bo : Nat} {li sr wa : Nat → Int32} {n le bd ta : Nat → Nat} {ch : Nat → Nat → Int32} (h : RXc p n ch kd li p le bd bo sr) (hp : p ≤ 4) (hp0 : 0 < p) {i m K b : Nat} (hK : K = min m (n (5 + p) - i)) (hn : n (5 + p) ≤ 40) (hb : b ≤ 144) (hb2 : 0 < K → b = bd (5 + p) + i) : ∃ a', sp_cutN (p, n, ch) i m = (nI K, a') ∧ RX a' (kd, li, p, upN le (5 + p) K, upN bd (5 + p) b, bo, sr, wa, ta) := by
  subst hK
  refine ⟨_, rfl, RX_set (m := min m (n (5 + p) - i)) h (by omega) (fun e h1 _ => h1) (by omega) hb (fun (hm : 0 < min m (n (5 + p) - i)) => ?_)⟩
  show _ ∧ b + min m (n (5 + p) - i) ≤ 144 ∧ ∀ j, j < min m (n (5 + p) - i) → sr (b + j) = ch (5 + p) (i + j)
  rw [hb2 hm]
  obtain ⟨q1, q2⟩ := h.2.2.2.2.2 (5 + p) (by omega)
  obtain ⟨q3, q4, q5⟩ := q2 (by omega)
  refine ⟨by omega, by omega, fun j hj => ?_⟩
  rw [Nat.add_assoc]
  exact q5 (i + j) (by omega)
theorem nge0 : ¬ ¬ (0 : Int32) ≤ nI 0 := by decide +kernel
set_option maxRecDepth 20000 in
/-- key -/
theorem c_X_key (l : Launch) (a : Ab) (u : SX) (hR : RX a u) (hW : Wf a.1 a.2.1) {c : Int32}  : CtI l y_X_key b_X_key 2 (some .int) 3 wX [.int c] u (fun r u' => ∃ a', sp_key a c = (r, a') ∧ RX a' u') := by
  obtain ⟨p, n, ch⟩ := a
  obtain ⟨kd, li, pi, le, bd, bo, sr, wa, ta⟩ := u
  have hR : RXc p n ch kd li pi le bd bo sr := hR
  have hW : Wf p n := hW
  obtain ⟨h1, h2⟩ : kd = n 10 ∧ pi = p := ⟨hR.1, hR.2.2.1⟩
  subst h1
  subst h2
  have hp4 := hW.1
  have hn40 := hW.2.1
  have hs := hW.2.2
  have hd := hR.2.2.2.2.2
  have hl := hR.2.2.2.2.1
  have hli := hR.2.1
  have hbo := hR.2.2.2.1
  have hle : ∀ d, d < 10 → le d ≤ 40 := fun d h => (hl d h).1
  have hsl : sumN le (6 + pi) = sumN n (6 + pi) := sumN_cg (fun d h => (hd d h).1)
  refine CtI.of1 (by decide +kernel) rfl (by decide) (fun E q hl hC hr => ?_)
  subst hl
  refine j_aload_0 hC d_X_key_0 ?_
  refine j_iload_1 hC d_X_key_1 ?_
  refine x_calli1 hC (c_X_badByte (eL E)) v_X_badByte k_X_49 (by decide) (Nat.le_of_ble_eq_true rfl) d_X_key_2 (fun r u' h9 => ?_)
  obtain ⟨rfl, hb⟩ := h9
  refine j_if_eq hC 10 (by decide) d_X_key_5 (fun c_5 => ?_) (fun c_5 => ?_)
  · refine j_aload_0 hC d_X_key_10 ?_
    refine x_get_keyed hC d_X_key_11 ?_
    refine j_bipush hC bp_40 d_X_key_14 ?_
    refine j_neN hC 22 (by decide) (by have := hn40 10 (by decide); omega) (by omega) d_X_key_16 (fun c_16 => ?_) (fun c_16 => ?_)
    · have h10 := hn40 10 (by decide)
      refine j_aload_0 hC d_X_key_22 ?_
      refine x_get_line hC d_X_key_23 ?_
      refine j_aload_0 hC d_X_key_26 ?_
      refine x_get_keyed hC d_X_key_27 ?_
      refine j_iload_1 hC d_X_key_30 ?_
      refine x_st_line hC (by omega) d_X_key_31 ?_
      refine j_aload_0 hC d_X_key_32 ?_
      refine j_dup hC rfl d_X_key_33 ?_
      refine x_get_keyed hC d_X_key_34 ?_
      refine j_iconst hC ic_1 d_X_key_37 ?_
      refine j_addN hC d_X_key_38 ?_
      refine x_put_keyed hC d_X_key_39 ?_
      refine j_aload_0 hC d_X_key_42 ?_
      refine x_get_keyed hC d_X_key_43 ?_
      refine j_ireturn hC hr ?_ d_X_key_46
      exact ⟨_, (if_neg (hb.mp c_5)).trans (if_neg c_16), RX_key hp4 hR⟩
    · refine j_bipush hC bm5 d_X_key_19 ?_
      refine j_ireturn hC hr ?_ d_X_key_21
      exact ⟨_, (if_neg (hb.mp c_5)).trans (if_pos c_16), hR⟩
  · refine j_iconst hC im1 d_X_key_8 ?_
    refine j_ireturn hC hr ?_ d_X_key_9
    exact ⟨_, if_pos (Decidable.byContradiction fun z => c_5 (hb.mpr z)), hR⟩
set_option maxRecDepth 20000 in
/-- newLine -/
theorem c_X_newLine (l : Launch) (a : Ab) (u : SX) (hR : RX a u) (hW : Wf a.1 a.2.1)   : CtV l y_X_newLine b_X_newLine 1 none 3 wX [] u (fun u' => RX (sp_newLine a) u') := by
  obtain ⟨p, n, ch⟩ := a
  obtain ⟨kd, li, pi, le, bd, bo, sr, wa, ta⟩ := u
  have hR : RXc p n ch kd li pi le bd bo sr := hR
  have hW : Wf p n := hW
  obtain ⟨h1, h2⟩ : kd = n 10 ∧ pi = p := ⟨hR.1, hR.2.2.1⟩
  subst h1
  subst h2
  have hp4 := hW.1
  have hn40 := hW.2.1
  have hs := hW.2.2
  have hd := hR.2.2.2.2.2
  have hl := hR.2.2.2.2.1
  have hli := hR.2.1
  have hbo := hR.2.2.2.1
  have hle : ∀ d, d < 10 → le d ≤ 40 := fun d h => (hl d h).1
  have hsl : sumN le (6 + pi) = sumN n (6 + pi) := sumN_cg (fun d h => (hd d h).1)
  refine CtV.of0 (by decide +kernel) rfl (by decide) (fun E q hl hC hr => ?_)
  subst hl
  refine j_aload_0 hC d_X_newLine_0 ?_
  refine j_iconst hC ic_0 d_X_newLine_1 ?_
  refine x_put_keyed hC d_X_newLine_2 ?_
  refine j_return hC hr ?_ d_X_newLine_5
  exact RX_newLine hp4 hR
set_option maxRecDepth 20000 in
/-- literal -/
theorem c_X_literal (l : Launch) (a : Ab) (u : SX) (hR : RX a u) (hW : Wf a.1 a.2.1)   : CtI l y_X_literal b_X_literal 4 (some .int) 3 wX [] u (fun r u' => ∃ a', sp_pushN a 10 = (r, a') ∧ RX a' u') := by
  obtain ⟨p, n, ch⟩ := a
  obtain ⟨kd, li, pi, le, bd, bo, sr, wa, ta⟩ := u
  have hR : RXc p n ch kd li pi le bd bo sr := hR
  have hW : Wf p n := hW
  obtain ⟨h1, h2⟩ : kd = n 10 ∧ pi = p := ⟨hR.1, hR.2.2.1⟩
  subst h1
  subst h2
  have hp4 := hW.1
  have hn40 := hW.2.1
  have hs := hW.2.2
  have hd := hR.2.2.2.2.2
  have hl := hR.2.2.2.2.1
  have hli := hR.2.1
  have hbo := hR.2.2.2.1
  have hle : ∀ d, d < 10 → le d ≤ 40 := fun d h => (hl d h).1
  have hsl : sumN le (6 + pi) = sumN n (6 + pi) := sumN_cg (fun d h => (hd d h).1)
  have h10 := hn40 10 (by decide)
  refine CtI.of0 (by decide +kernel) rfl (by decide) (fun E q hl hC hr => ?_)
  subst hl
  refine j_aload_0 hC d_X_literal_0 ?_
  refine j_aload_0 hC d_X_literal_1 ?_
  refine x_get_keyed hC d_X_literal_2 ?_
  refine x_calli1 hC (c_X_refuse (eL E) hp4 hle (m := n 10) (by omega)) v_X_refuse k_X_56 (by decide) (Nat.le_of_ble_eq_true rfl) d_X_literal_5 (fun r u' h9 => ?_)
  obtain ⟨rfl, hx⟩ := h9
  refine j_istore_1 hC (by decide) d_X_literal_8 ?_
  refine j_iload_1 hC d_X_literal_9 ?_
  refine j_if_ge hC 15 (by decide) d_X_literal_10 (fun c_10 => ?_) (fun c_10 => ?_)
  · obtain ⟨hp3, hm40, hsm⟩ : pi < 4 ∧ n 10 ≤ 40 ∧ sumN le (6 + pi) + n 10 ≤ 100 := by
      rcases hx with ⟨z, -⟩ | ⟨-, z⟩
      · exact absurd z (Int32.not_lt.mpr c_10)
      · exact z
    refine j_aload_0 hC d_X_literal_15 ?_
    refine j_aload_0 hC d_X_literal_16 ?_
    refine x_get_keyed hC d_X_literal_17 ?_
    refine x_calli1 hC (c_X_take (eL E) hp4 hR hs (m := n 10) h10) v_X_take k_X_60 (by decide) (Nat.le_of_ble_eq_true rfl) d_X_literal_20 (fun r u' h9 => ?_)
    obtain ⟨t, sr', wa', bd', ta', rfl, ht, hR2, ht2, rfl⟩ := h9
    refine j_istore_2 hC (by decide) d_X_literal_23 ?_
    refine j_iconst hC ic_0 d_X_literal_24 ?_
    refine j_istore_3 hC (by decide) d_X_literal_25 ?_
    have lp : ∀ (k i : Nat) (s : Nat → Int32), n 10 - i < k → i ≤ n 10 → (∀ j, j < i → s (t + j) = li j) → (∀ x, (x < t ∨ t + i ≤ x) → s x = sr' x) → J E (QI E q wX (fun r u' => ∃ a', sp_pushN (pi, n, ch) 10 = (r, a') ∧ RX a' u')) (wX (eI E) (eZ E) q (n 10, li, pi, le, bd', t, s, wa', ta')) (some (.ref (q 0))) (some (.int r)) (some (.int (nI t))) (some (.int (nI i))) none none none none 26 [] := by
      intro k
      induction k with
      | zero =>
        intro i s hk hi h1 h2
        exact absurd hk (Nat.not_lt_zero _)
      | succ k ih_lp =>
        intro i s hk hi h1 h2
        refine j_iload_3 hC d_X_literal_26 ?_
        refine j_aload_0 hC d_X_literal_27 ?_
        refine x_get_keyed hC d_X_literal_28 ?_
        refine j_geN hC 54 (by decide) (by omega) (by omega) d_X_literal_31 (fun c_31 => ?_) (fun c_31 => ?_)
        · refine j_aload_0 hC d_X_literal_54 ?_
          refine j_iload_2 hC d_X_literal_55 ?_
          refine j_aload_0 hC d_X_literal_56 ?_
          refine x_get_keyed hC d_X_literal_57 ?_
          refine x_callv2 hC (c_X_pushBody (eL E) hp3 (by omega)) v_X_pushBody k_X_63 (by decide) (Nat.le_of_ble_eq_true rfl) d_X_literal_60 (fun u' h9 => ?_)
          subst h9
          refine j_aload_0 hC d_X_literal_63 ?_
          refine x_get_keyed hC d_X_literal_64 ?_
          refine j_ireturn hC hr ?_ d_X_literal_67
          have e : i = n 10 := by omega
          subst e
          refine ⟨_, if_neg (by show ¬ (pi = 4 ∨ 100 < sumN n (6 + pi) + n 10); omega), RX_new (RX_sr hR2 (fun d hd1 hn i hi => h2 _ (by have := ht2 d hd1 hn; omega))) hp3 h10 (by omega) (fun _ => ⟨Nat.le_refl _, by omega, fun i hi => (h1 i hi).trans (hli i hi)⟩)⟩
        · refine j_aload_0 hC d_X_literal_34 ?_
          refine x_get_store hC d_X_literal_35 ?_
          refine j_iload_2 hC d_X_literal_38 ?_
          refine j_iload_3 hC d_X_literal_39 ?_
          refine j_addN hC d_X_literal_40 ?_
          refine j_aload_0 hC d_X_literal_41 ?_
          refine x_get_line hC d_X_literal_42 ?_
          refine j_iload_3 hC d_X_literal_45 ?_
          refine x_ld_line hC (by omega) d_X_literal_46 ?_
          refine x_st_store hC (by omega) d_X_literal_47 ?_
          refine j_iinc_3 hC inc1 (by decide) d_X_literal_48 ?_
          refine j_goto hC 26 (by decide) d_X_literal_51 ?_
          refine ih_lp (i + 1) _ (by omega) (by omega) (fun j hj => ?_) (fun x hx2 => ?_)
          · by_cases e : j = i
            · subst e; rw [pk_us]
            · rw [pk_un (by omega)]; exact h1 j (by omega)
          · rw [pk_un (by omega)]; exact h2 x (by omega)
    exact lp (n 10 + 1) 0 sr' (by omega) (Nat.zero_le _) (fun j hj => by omega) (fun x _ => rfl)
  · refine j_iload_1 hC d_X_literal_13 ?_
    refine j_ireturn hC hr ?_ d_X_literal_14
    rcases hx with ⟨-, hr2, hc⟩ | ⟨rfl, -⟩
    rotate_left
    · exact absurd c_10 nge0
    have e : r = -2 := by rw [hr2, if_neg (show ¬ 40 < n 10 by omega)]; exact ite_self _
    subst e
    exact ⟨_, if_pos (by show pi = 4 ∨ 100 < sumN n (6 + pi) + n 10; omega), hR⟩
set_option maxRecDepth 20000 in
/-- push -/
theorem c_X_push (l : Launch) (a : Ab) (u : SX) (hR : RX a u) (hW : Wf a.1 a.2.1) {v : Int32}  : CtI l y_X_push b_X_push 3 (some .int) 3 wX [.int v] u (fun r u' => ∃ a', sp_push a v = (r, a') ∧ RX a' u') := by
  obtain ⟨p, n, ch⟩ := a
  obtain ⟨kd, li, pi, le, bd, bo, sr, wa, ta⟩ := u
  have hR : RXc p n ch kd li pi le bd bo sr := hR
  have hW : Wf p n := hW
  obtain ⟨h1, h2⟩ : kd = n 10 ∧ pi = p := ⟨hR.1, hR.2.2.1⟩
  subst h1
  subst h2
  have hp4 := hW.1
  have hn40 := hW.2.1
  have hs := hW.2.2
  have hd := hR.2.2.2.2.2
  have hl := hR.2.2.2.2.1
  have hli := hR.2.1
  have hbo := hR.2.2.2.1
  have hle : ∀ d, d < 10 → le d ≤ 40 := fun d h => (hl d h).1
  have hsl : sumN le (6 + pi) = sumN n (6 + pi) := sumN_cg (fun d h => (hd d h).1)
  refine CtI.of1 (by decide +kernel) rfl (by decide) (fun E q hl hC hr => ?_)
  subst hl
  refine j_aload_0 hC d_X_push_0 ?_
  refine j_iload_1 hC d_X_push_1 ?_
  refine x_calli1 hC (c_X_badVariable (eL E)) v_X_badVariable k_X_67 (by decide) (Nat.le_of_ble_eq_true rfl) d_X_push_2 (fun r0 u' h9 => ?_)
  obtain ⟨rfl, hb⟩ := h9
  refine j_if_eq hC 10 (by decide) d_X_push_5 (fun c_5 => ?_) (fun c_5 => ?_)
  · obtain ⟨j, hj, rfl⟩ := okV (hb.mp c_5)
    have hlj := hl j (by omega)
    have hdj := hd j (by omega)
    have hej := hdj.1
    refine j_aload_0 hC d_X_push_10 ?_
    refine j_aload_0 hC d_X_push_11 ?_
    refine x_get_length hC d_X_push_12 ?_
    refine j_iload_1 hC d_X_push_15 ?_
    refine x_ld_length hC (by omega) d_X_push_16 ?_
    refine x_calli1 hC (c_X_refuse (eL E) hp4 hle (m := le j) (by omega)) v_X_refuse k_X_56 (by decide) (Nat.le_of_ble_eq_true rfl) d_X_push_17 (fun r u' h9 => ?_)
    obtain ⟨rfl, hx⟩ := h9
    refine j_istore_2 hC (by decide) d_X_push_20 ?_
    refine j_iload_2 hC d_X_push_21 ?_
    refine j_if_ge hC 27 (by decide) d_X_push_22 (fun c_22 => ?_) (fun c_22 => ?_)
    · obtain ⟨hp3, hm40, hsm⟩ : pi < 4 ∧ le j ≤ 40 ∧ sumN le (6 + pi) + le j ≤ 100 := by
        rcases hx with ⟨z, -⟩ | ⟨-, z⟩
        · exact absurd z (Int32.not_lt.mpr c_22)
        · exact z
      refine j_aload_0 hC d_X_push_27 ?_
      refine j_aload_0 hC d_X_push_28 ?_
      refine x_get_body hC d_X_push_29 ?_
      refine j_iload_1 hC d_X_push_32 ?_
      refine x_ld_body hC (by omega) d_X_push_33 ?_
      refine j_aload_0 hC d_X_push_34 ?_
      refine x_get_length hC d_X_push_35 ?_
      refine j_iload_1 hC d_X_push_38 ?_
      refine x_ld_length hC (by omega) d_X_push_39 ?_
      refine x_callv2 hC (c_X_pushBody (eL E) hp3 (by omega)) v_X_pushBody k_X_63 (by decide) (Nat.le_of_ble_eq_true rfl) d_X_push_40 (fun u' h9 => ?_)
      subst h9
      refine j_aload_0 hC d_X_push_43 ?_
      refine x_get_length hC d_X_push_44 ?_
      refine j_iload_1 hC d_X_push_47 ?_
      refine x_ld_length hC (by omega) d_X_push_48 ?_
      refine j_ireturn hC hr ?_ d_X_push_49
      rw [upN_n (by omega), hej]
      exact ⟨_, (sp_push_N hj).trans (if_neg (by show ¬ (pi = 4 ∨ 100 < sumN n (6 + pi) + n j); omega)), RX_new (m := n j) hR hp3 (by omega) (by omega) (fun z => hdj.2 z)⟩
    · refine j_iload_2 hC d_X_push_25 ?_
      refine j_ireturn hC hr ?_ d_X_push_26
      rcases hx with ⟨-, hr2, hc⟩ | ⟨rfl, -⟩
      rotate_left
      · exact absurd c_22 nge0
      have e : r = -2 := by rw [hr2, if_neg (show ¬ 40 < le j by omega)]; exact ite_self _
      subst e
      exact ⟨_, (sp_push_N hj).trans (if_pos (by show pi = 4 ∨ 100 < sumN n (6 + pi) + n j; omega)), hR⟩
  · refine j_iconst hC im1 d_X_push_8 ?_
    refine j_ireturn hC hr ?_ d_X_push_9
    exact ⟨_, if_pos (Decidable.byContradiction fun z => c_5 (hb.mpr z)), hR⟩
set_option maxRecDepth 20000 in
/-- let -/
theorem c_X_let (l : Launch) (a : Ab) (u : SX) (hR : RX a u) (hW : Wf a.1 a.2.1) {v : Int32}  : CtI l y_X_let b_X_let 3 (some .int) 3 wX [.int v] u (fun r u' => ∃ a', sp_let a v = (r, a') ∧ RX a' u') := by
  obtain ⟨p, n, ch⟩ := a
  obtain ⟨kd, li, pi, le, bd, bo, sr, wa, ta⟩ := u
  have hR : RXc p n ch kd li pi le bd bo sr := hR
  have hW : Wf p n := hW
  obtain ⟨h1, h2⟩ : kd = n 10 ∧ pi = p := ⟨hR.1, hR.2.2.1⟩
  subst h1
  subst h2
  have hp4 := hW.1
  have hn40 := hW.2.1
  have hs := hW.2.2
  have hd := hR.2.2.2.2.2
  have hl := hR.2.2.2.2.1
  have hli := hR.2.1
  have hbo := hR.2.2.2.1
  have hle : ∀ d, d < 10 → le d ≤ 40 := fun d h => (hl d h).1
  have hsl : sumN le (6 + pi) = sumN n (6 + pi) := sumN_cg (fun d h => (hd d h).1)
  refine CtI.of1 (by decide +kernel) rfl (by decide) (fun E q hl hC hr => ?_)
  subst hl
  refine j_aload_0 hC d_X_let_0 ?_
  refine j_iload_1 hC d_X_let_1 ?_
  refine x_calli1 hC (c_X_badVariable (eL E)) v_X_badVariable k_X_67 (by decide) (Nat.le_of_ble_eq_true rfl) d_X_let_2 (fun r0 u' h9 => ?_)
  obtain ⟨rfl, hb⟩ := h9
  refine j_if_eq hC 10 (by decide) d_X_let_5 (fun c_5 => ?_) (fun c_5 => ?_)
  · obtain ⟨j, hj, rfl⟩ := okV (hb.mp c_5)
    have hlj := hl j (by omega)
    have hdj := hd j (by omega)
    refine j_aload_0 hC d_X_let_10 ?_
    refine x_get_piled hC d_X_let_11 ?_
    refine j_nezN hC 20 (by decide) (by omega) d_X_let_14 (fun c_14 => ?_) (fun c_14 => ?_)
    · have hlt := hl (5 + pi) (by omega)
      have hdt := hd (5 + pi) (by omega)
      have het := hdt.1
      refine j_aload_0 hC d_X_let_20 ?_
      refine x_calli0 hC (c_X_top (eL E)) v_X_top k_X_46 (by decide) (Nat.le_of_ble_eq_true rfl) d_X_let_21 (fun r u' h9 => ?_)
      obtain ⟨rfl, rfl⟩ := h9
      rw [show 6 + pi - 1 = 5 + pi by omega]
      refine j_istore_2 hC (by decide) d_X_let_24 ?_
      refine j_aload_0 hC d_X_let_25 ?_
      refine x_get_body hC d_X_let_26 ?_
      refine j_iload_1 hC d_X_let_29 ?_
      refine j_aload_0 hC d_X_let_30 ?_
      refine x_get_body hC d_X_let_31 ?_
      refine j_iload_2 hC d_X_let_34 ?_
      refine x_ld_body hC (by omega) d_X_let_35 ?_
      refine x_st_body hC (by omega) d_X_let_36 ?_
      refine j_aload_0 hC d_X_let_37 ?_
      refine x_get_length hC d_X_let_38 ?_
      refine j_iload_1 hC d_X_let_41 ?_
      refine j_aload_0 hC d_X_let_42 ?_
      refine x_get_length hC d_X_let_43 ?_
      refine j_iload_2 hC d_X_let_46 ?_
      refine x_ld_length hC (by omega) d_X_let_47 ?_
      refine x_st_length hC (by omega) d_X_let_48 ?_
      refine j_aload_0 hC d_X_let_49 ?_
      refine j_dup hC rfl d_X_let_50 ?_
      refine x_get_piled hC d_X_let_51 ?_
      refine j_iconst hC ic_1 d_X_let_54 ?_
      refine j_subN hC (by omega) d_X_let_55 ?_
      refine x_put_piled hC d_X_let_56 ?_
      refine j_aload_0 hC d_X_let_59 ?_
      refine x_get_length hC d_X_let_60 ?_
      refine j_iload_1 hC d_X_let_63 ?_
      refine x_ld_length hC (by omega) d_X_let_64 ?_
      refine j_ireturn hC hr ?_ d_X_let_65
      rw [upN_s, het]
      exact ⟨_, (sp_let_N hj).trans (if_neg c_14), RX_set (m := n (5 + pi)) hR (by omega) (fun e h1 _ => by omega) (by omega) (by omega) hdt.2⟩
    · refine j_bipush hC bm3 d_X_let_17 ?_
      refine j_ireturn hC hr ?_ d_X_let_19
      exact ⟨_, (sp_let_N hj).trans (if_pos c_14), hR⟩
  · refine j_iconst hC im1 d_X_let_8 ?_
    refine j_ireturn hC hr ?_ d_X_let_9
    exact ⟨_, if_pos (Decidable.byContradiction fun z => c_5 (hb.mpr z)), hR⟩
set_option maxRecDepth 20000 in
/-- drop -/
theorem c_X_drop (l : Launch) (a : Ab) (u : SX) (hR : RX a u) (hW : Wf a.1 a.2.1)   : CtI l y_X_drop b_X_drop 2 (some .int) 3 wX [] u (fun r u' => ∃ a', sp_drop a = (r, a') ∧ RX a' u') := by
  obtain ⟨p, n, ch⟩ := a
  obtain ⟨kd, li, pi, le, bd, bo, sr, wa, ta⟩ := u
  have hR : RXc p n ch kd li pi le bd bo sr := hR
  have hW : Wf p n := hW
  obtain ⟨h1, h2⟩ : kd = n 10 ∧ pi = p := ⟨hR.1, hR.2.2.1⟩
  subst h1
  subst h2
  have hp4 := hW.1
  have hn40 := hW.2.1
  have hs := hW.2.2
  have hd := hR.2.2.2.2.2
  have hl := hR.2.2.2.2.1
  have hli := hR.2.1
  have hbo := hR.2.2.2.1
  have hle : ∀ d, d < 10 → le d ≤ 40 := fun d h => (hl d h).1
  have hsl : sumN le (6 + pi) = sumN n (6 + pi) := sumN_cg (fun d h => (hd d h).1)
  refine CtI.of0 (by decide +kernel) rfl (by decide) (fun E q hl hC hr => ?_)
  subst hl
  refine j_aload_0 hC d_X_drop_0 ?_
  refine x_get_piled hC d_X_drop_1 ?_
  refine j_nezN hC 10 (by decide) (by omega) d_X_drop_4 (fun c_4 => ?_) (fun c_4 => ?_)
  · have hdt := hd (5 + pi) (by omega)
    refine j_aload_0 hC d_X_drop_10 ?_
    refine x_get_length hC d_X_drop_11 ?_
    refine j_aload_0 hC d_X_drop_14 ?_
    refine x_calli0 hC (c_X_top (eL E)) v_X_top k_X_46 (by decide) (Nat.le_of_ble_eq_true rfl) d_X_drop_15 (fun r u' h9 => ?_)
    obtain ⟨rfl, rfl⟩ := h9
    rw [show 6 + pi - 1 = 5 + pi by omega]
    refine x_ld_length hC (by omega) d_X_drop_18 ?_
    refine j_istore_1 hC (by decide) d_X_drop_19 ?_
    refine j_aload_0 hC d_X_drop_20 ?_
    refine j_dup hC rfl d_X_drop_21 ?_
    refine x_get_piled hC d_X_drop_22 ?_
    refine j_iconst hC ic_1 d_X_drop_25 ?_
    refine j_subN hC (by omega) d_X_drop_26 ?_
    refine x_put_piled hC d_X_drop_27 ?_
    refine j_iload_1 hC d_X_drop_30 ?_
    refine j_ireturn hC hr ?_ d_X_drop_31
    rw [hdt.1]
    exact ⟨_, if_neg c_4, RX_less (by omega) hR⟩
  · refine j_bipush hC bm3 d_X_drop_7 ?_
    refine j_ireturn hC hr ?_ d_X_drop_9
    exact ⟨_, if_pos c_4, hR⟩
set_option maxRecDepth 20000 in
/-- cut -/
theorem c_X_cut (l : Launch) (a : Ab) (u : SX) (hR : RX a u) (hW : Wf a.1 a.2.1)  (hp0 : 0 < a.1) {i m : Nat} (hi : i < 1000) (hm : m < 1000) : CtI l y_X_cut b_X_cut 7 (some .int) 1 wX [.int (nI i), .int (nI m)] u (fun r u' => ∃ a', sp_cutN a i m = (r, a') ∧ RX a' u') := by
  obtain ⟨p, n, ch⟩ := a
  obtain ⟨kd, li, pi, le, bd, bo, sr, wa, ta⟩ := u
  have hR : RXc p n ch kd li pi le bd bo sr := hR
  have hW : Wf p n := hW
  obtain ⟨h1, h2⟩ : kd = n 10 ∧ pi = p := ⟨hR.1, hR.2.2.1⟩
  subst h1
  subst h2
  have hp4 := hW.1
  have hn40 := hW.2.1
  have hs := hW.2.2
  have hd := hR.2.2.2.2.2
  have hl := hR.2.2.2.2.1
  have hli := hR.2.1
  have hbo := hR.2.2.2.1
  have hle : ∀ d, d < 10 → le d ≤ 40 := fun d h => (hl d h).1
  have hsl : sumN le (6 + pi) = sumN n (6 + pi) := sumN_cg (fun d h => (hd d h).1)
  have hp0 : 0 < pi := hp0
  have hlt := hl (5 + pi) (by omega)
  have hdt := hd (5 + pi) (by omega)
  have het := hdt.1
  have hnt := hn40 (5 + pi) (by omega)
  refine CtI.of2 (by decide +kernel) rfl (by decide) (fun E q hl hC hr => ?_)
  subst hl
  refine j_aload_0 hC d_X_cut_0 ?_
  refine x_calli0 hC (c_X_top (eL E)) v_X_top k_X_46 (by decide) (Nat.le_of_ble_eq_true rfl) d_X_cut_1 (fun r u' h9 => ?_)
  obtain ⟨rfl, rfl⟩ := h9
  rw [show 6 + pi - 1 = 5 + pi by omega]
  refine j_istore_3 hC (by decide) d_X_cut_4 ?_
  refine j_iload_1 hC d_X_cut_5 ?_
  refine j_aload_0 hC d_X_cut_6 ?_
  refine x_get_length hC d_X_cut_7 ?_
  refine j_iload_3 hC d_X_cut_10 ?_
  refine x_ld_length hC (by omega) d_X_cut_11 ?_
  refine j_leN hC 24 (by decide) (by omega) (by omega) d_X_cut_12 (fun c_12 => ?_) (fun c_12 => ?_)
  · refine j_iload_1 hC d_X_cut_24 ?_
    refine j_istore_4 hC (by decide) d_X_cut_25 ?_
    refine j_aload_0 hC d_X_cut_27 ?_
    refine x_get_length hC d_X_cut_28 ?_
    refine j_iload_3 hC d_X_cut_31 ?_
    refine x_ld_length hC (by omega) d_X_cut_32 ?_
    refine j_iload_4 hC d_X_cut_33 ?_
    refine j_subN hC (by omega) d_X_cut_35 ?_
    refine j_istore_5 hC (by decide) d_X_cut_36 ?_
    refine j_iload_2 hC d_X_cut_38 ?_
    refine j_iload_5 hC d_X_cut_39 ?_
    refine j_geN hC 48 (by decide) (by omega) (by omega) d_X_cut_41 (fun c_41 => ?_) (fun c_41 => ?_)
    · refine j_iload_5 hC d_X_cut_48 ?_
      refine j_istore_6 hC (by decide) d_X_cut_50 ?_
      refine j_aload_0 hC d_X_cut_52 ?_
      refine x_get_body hC d_X_cut_53 ?_
      refine j_iload_3 hC d_X_cut_56 ?_
      refine j_iload_6 hC d_X_cut_57 ?_
      refine j_nezN hC 66 (by decide) (by omega) d_X_cut_59 (fun c_59 => ?_) (fun c_59 => ?_)
      · refine j_aload_0 hC d_X_cut_66 ?_
        refine x_get_body hC d_X_cut_67 ?_
        refine j_iload_3 hC d_X_cut_70 ?_
        refine x_ld_body hC (by omega) d_X_cut_71 ?_
        refine j_iload_4 hC d_X_cut_72 ?_
        refine j_addN hC d_X_cut_74 ?_
        refine x_st_body hC (by omega) d_X_cut_75 ?_
        refine j_aload_0 hC d_X_cut_76 ?_
        refine x_get_length hC d_X_cut_77 ?_
        refine j_iload_3 hC d_X_cut_80 ?_
        refine j_iload_6 hC d_X_cut_81 ?_
        refine x_st_length hC (by omega) d_X_cut_83 ?_
        refine j_iload_6 hC d_X_cut_84 ?_
        refine j_ireturn hC hr ?_ d_X_cut_86
        exact RX_cut hR hp4 hp0 (by omega) hnt (by omega) (by omega)
      · refine j_iconst hC ic_0 d_X_cut_62 ?_
        refine j_goto hC 75 (by decide) d_X_cut_63 ?_
        refine x_st_body hC (by omega) d_X_cut_75 ?_
        refine j_aload_0 hC d_X_cut_76 ?_
        refine x_get_length hC d_X_cut_77 ?_
        refine j_iload_3 hC d_X_cut_80 ?_
        refine j_iload_6 hC d_X_cut_81 ?_
        refine x_st_length hC (by omega) d_X_cut_83 ?_
        refine j_iload_6 hC d_X_cut_84 ?_
        refine j_ireturn hC hr ?_ d_X_cut_86
        exact RX_cut hR hp4 hp0 (by omega) hnt (by omega) (by omega)
    · refine j_iload_2 hC d_X_cut_44 ?_
      refine j_goto hC 50 (by decide) d_X_cut_45 ?_
      refine j_istore_6 hC (by decide) d_X_cut_50 ?_
      refine j_aload_0 hC d_X_cut_52 ?_
      refine x_get_body hC d_X_cut_53 ?_
      refine j_iload_3 hC d_X_cut_56 ?_
      refine j_iload_6 hC d_X_cut_57 ?_
      refine j_nezN hC 66 (by decide) (by omega) d_X_cut_59 (fun c_59 => ?_) (fun c_59 => ?_)
      · refine j_aload_0 hC d_X_cut_66 ?_
        refine x_get_body hC d_X_cut_67 ?_
        refine j_iload_3 hC d_X_cut_70 ?_
        refine x_ld_body hC (by omega) d_X_cut_71 ?_
        refine j_iload_4 hC d_X_cut_72 ?_
        refine j_addN hC d_X_cut_74 ?_
        refine x_st_body hC (by omega) d_X_cut_75 ?_
        refine j_aload_0 hC d_X_cut_76 ?_
        refine x_get_length hC d_X_cut_77 ?_
        refine j_iload_3 hC d_X_cut_80 ?_
        refine j_iload_6 hC d_X_cut_81 ?_
        refine x_st_length hC (by omega) d_X_cut_83 ?_
        refine j_iload_6 hC d_X_cut_84 ?_
        refine j_ireturn hC hr ?_ d_X_cut_86
        exact RX_cut hR hp4 hp0 (by omega) hnt (by omega) (by omega)
      · refine j_iconst hC ic_0 d_X_cut_62 ?_
        refine j_goto hC 75 (by decide) d_X_cut_63 ?_
        refine x_st_body hC (by omega) d_X_cut_75 ?_
        refine j_aload_0 hC d_X_cut_76 ?_
        refine x_get_length hC d_X_cut_77 ?_
        refine j_iload_3 hC d_X_cut_80 ?_
        refine j_iload_6 hC d_X_cut_81 ?_
        refine x_st_length hC (by omega) d_X_cut_83 ?_
        refine j_iload_6 hC d_X_cut_84 ?_
        refine j_ireturn hC hr ?_ d_X_cut_86
        exact RX_cut hR hp4 hp0 (by omega) hnt (by omega) (by omega)
  · refine j_aload_0 hC d_X_cut_15 ?_
    refine x_get_length hC d_X_cut_16 ?_
    refine j_iload_3 hC d_X_cut_19 ?_
    refine x_ld_length hC (by omega) d_X_cut_20 ?_
    refine j_goto hC 25 (by decide) d_X_cut_21 ?_
    refine j_istore_4 hC (by decide) d_X_cut_25 ?_
    refine j_aload_0 hC d_X_cut_27 ?_
    refine x_get_length hC d_X_cut_28 ?_
    refine j_iload_3 hC d_X_cut_31 ?_
    refine x_ld_length hC (by omega) d_X_cut_32 ?_
    refine j_iload_4 hC d_X_cut_33 ?_
    refine j_subN hC (by omega) d_X_cut_35 ?_
    refine j_istore_5 hC (by decide) d_X_cut_36 ?_
    refine j_iload_2 hC d_X_cut_38 ?_
    refine j_iload_5 hC d_X_cut_39 ?_
    refine j_geN hC 48 (by decide) (by omega) (by omega) d_X_cut_41 (fun c_41 => ?_) (fun c_41 => ?_)
    · refine j_iload_5 hC d_X_cut_48 ?_
      refine j_istore_6 hC (by decide) d_X_cut_50 ?_
      refine j_aload_0 hC d_X_cut_52 ?_
      refine x_get_body hC d_X_cut_53 ?_
      refine j_iload_3 hC d_X_cut_56 ?_
      refine j_iload_6 hC d_X_cut_57 ?_
      refine j_nezN hC 66 (by decide) (by omega) d_X_cut_59 (fun c_59 => ?_) (fun c_59 => ?_)
      · refine j_aload_0 hC d_X_cut_66 ?_
        refine x_get_body hC d_X_cut_67 ?_
        refine j_iload_3 hC d_X_cut_70 ?_
        refine x_ld_body hC (by omega) d_X_cut_71 ?_
        refine j_iload_4 hC d_X_cut_72 ?_
        refine j_addN hC d_X_cut_74 ?_
        refine x_st_body hC (by omega) d_X_cut_75 ?_
        refine j_aload_0 hC d_X_cut_76 ?_
        refine x_get_length hC d_X_cut_77 ?_
        refine j_iload_3 hC d_X_cut_80 ?_
        refine j_iload_6 hC d_X_cut_81 ?_
        refine x_st_length hC (by omega) d_X_cut_83 ?_
        refine j_iload_6 hC d_X_cut_84 ?_
        refine j_ireturn hC hr ?_ d_X_cut_86
        exact RX_cut hR hp4 hp0 (by omega) hnt (by omega) (by omega)
      · refine j_iconst hC ic_0 d_X_cut_62 ?_
        refine j_goto hC 75 (by decide) d_X_cut_63 ?_
        refine x_st_body hC (by omega) d_X_cut_75 ?_
        refine j_aload_0 hC d_X_cut_76 ?_
        refine x_get_length hC d_X_cut_77 ?_
        refine j_iload_3 hC d_X_cut_80 ?_
        refine j_iload_6 hC d_X_cut_81 ?_
        refine x_st_length hC (by omega) d_X_cut_83 ?_
        refine j_iload_6 hC d_X_cut_84 ?_
        refine j_ireturn hC hr ?_ d_X_cut_86
        exact RX_cut hR hp4 hp0 (by omega) hnt (by omega) (by omega)
    · refine j_iload_2 hC d_X_cut_44 ?_
      refine j_goto hC 50 (by decide) d_X_cut_45 ?_
      refine j_istore_6 hC (by decide) d_X_cut_50 ?_
      refine j_aload_0 hC d_X_cut_52 ?_
      refine x_get_body hC d_X_cut_53 ?_
      refine j_iload_3 hC d_X_cut_56 ?_
      refine j_iload_6 hC d_X_cut_57 ?_
      refine j_nezN hC 66 (by decide) (by omega) d_X_cut_59 (fun c_59 => ?_) (fun c_59 => ?_)
      · refine j_aload_0 hC d_X_cut_66 ?_
        refine x_get_body hC d_X_cut_67 ?_
        refine j_iload_3 hC d_X_cut_70 ?_
        refine x_ld_body hC (by omega) d_X_cut_71 ?_
        refine j_iload_4 hC d_X_cut_72 ?_
        refine j_addN hC d_X_cut_74 ?_
        refine x_st_body hC (by omega) d_X_cut_75 ?_
        refine j_aload_0 hC d_X_cut_76 ?_
        refine x_get_length hC d_X_cut_77 ?_
        refine j_iload_3 hC d_X_cut_80 ?_
        refine j_iload_6 hC d_X_cut_81 ?_
        refine x_st_length hC (by omega) d_X_cut_83 ?_
        refine j_iload_6 hC d_X_cut_84 ?_
        refine j_ireturn hC hr ?_ d_X_cut_86
        exact RX_cut hR hp4 hp0 (by omega) hnt (by omega) (by omega)
      · refine j_iconst hC ic_0 d_X_cut_62 ?_
        refine j_goto hC 75 (by decide) d_X_cut_63 ?_
        refine x_st_body hC (by omega) d_X_cut_75 ?_
        refine j_aload_0 hC d_X_cut_76 ?_
        refine x_get_length hC d_X_cut_77 ?_
        refine j_iload_3 hC d_X_cut_80 ?_
        refine j_iload_6 hC d_X_cut_81 ?_
        refine x_st_length hC (by omega) d_X_cut_83 ?_
        refine j_iload_6 hC d_X_cut_84 ?_
        refine j_ireturn hC hr ?_ d_X_cut_86
        exact RX_cut hR hp4 hp0 (by omega) hnt (by omega) (by omega)
set_option maxRecDepth 20000 in
/-- left -/
theorem c_X_left (l : Launch) (a : Ab) (u : SX) (hR : RX a u) (hW : Wf a.1 a.2.1) {v : Int32}  : CtI l y_X_left b_X_left 2 (some .int) 3 wX [.int v] u (fun r u' => ∃ a', sp_left a v = (r, a') ∧ RX a' u') := by
  obtain ⟨p, n, ch⟩ := a
  obtain ⟨kd, li, pi, le, bd, bo, sr, wa, ta⟩ := u
  have hR : RXc p n ch kd li pi le bd bo sr := hR
  have hW : Wf p n := hW
  obtain ⟨h1, h2⟩ : kd = n 10 ∧ pi = p := ⟨hR.1, hR.2.2.1⟩
  subst h1
  subst h2
  have hp4 := hW.1
  have hn40 := hW.2.1
  have hs := hW.2.2
  have hd := hR.2.2.2.2.2
  have hl := hR.2.2.2.2.1
  have hli := hR.2.1
  have hbo := hR.2.2.2.1
  have hle : ∀ d, d < 10 → le d ≤ 40 := fun d h => (hl d h).1
  have hsl : sumN le (6 + pi) = sumN n (6 + pi) := sumN_cg (fun d h => (hd d h).1)
  refine CtI.of1 (by decide +kernel) rfl (by decide) (fun E q hl hC hr => ?_)
  subst hl
  refine j_aload_0 hC d_X_left_0 ?_
  refine j_iload_1 hC d_X_left_1 ?_
  refine x_calli1 hC (c_X_badByte (eL E)) v_X_badByte k_X_49 (by decide) (Nat.le_of_ble_eq_true rfl) d_X_left_2 (fun r0 u' h9 => ?_)
  obtain ⟨rfl, hb⟩ := h9
  refine j_if_eq hC 10 (by decide) d_X_left_5 (fun c_5 => ?_) (fun c_5 => ?_)
  · obtain ⟨j, hj, rfl⟩ := okB (hb.mp c_5)
    refine j_aload_0 hC d_X_left_10 ?_
    refine x_get_piled hC d_X_left_11 ?_
    refine j_nezN hC 20 (by decide) (by omega) d_X_left_14 (fun c_14 => ?_) (fun c_14 => ?_)
    · refine j_aload_0 hC d_X_left_20 ?_
      refine j_iconst hC ic_0 d_X_left_21 ?_
      refine j_iload_1 hC d_X_left_22 ?_
      refine x_calli2 hC (c_X_cut (eL E) (pi, n, ch) (n 10, li, pi, le, bd, bo, sr, wa, ta) hR hW (by show 0 < pi; omega) (i := 0) (m := j) (by omega) (by omega)) v_X_cut k_X_74 (by decide) (Nat.le_of_ble_eq_true rfl) d_X_left_23 (fun r u' h9 => ?_)
      obtain ⟨a', h5, h6⟩ := h9
      refine j_ireturn hC hr ?_ d_X_left_26
      exact ⟨a', (sp_left_N hj c_14).trans h5, h6⟩
    · refine j_bipush hC bm3 d_X_left_17 ?_
      refine j_ireturn hC hr ?_ d_X_left_19
      exact ⟨_, (if_neg (notB hj)).trans (if_pos c_14), hR⟩
  · refine j_iconst hC im1 d_X_left_8 ?_
    refine j_ireturn hC hr ?_ d_X_left_9
    exact ⟨_, if_pos (Decidable.byContradiction fun z => c_5 (hb.mpr z)), hR⟩
set_option maxRecDepth 20000 in
/-- right -/
theorem c_X_right (l : Launch) (a : Ab) (u : SX) (hR : RX a u) (hW : Wf a.1 a.2.1) {v : Int32}  : CtI l y_X_right b_X_right 3 (some .int) 3 wX [.int v] u (fun r u' => ∃ a', sp_right a v = (r, a') ∧ RX a' u') := by
  obtain ⟨p, n, ch⟩ := a
  obtain ⟨kd, li, pi, le, bd, bo, sr, wa, ta⟩ := u
  have hR : RXc p n ch kd li pi le bd bo sr := hR
  have hW : Wf p n := hW
  obtain ⟨h1, h2⟩ : kd = n 10 ∧ pi = p := ⟨hR.1, hR.2.2.1⟩
  subst h1
  subst h2
  have hp4 := hW.1
  have hn40 := hW.2.1
  have hs := hW.2.2
  have hd := hR.2.2.2.2.2
  have hl := hR.2.2.2.2.1
  have hli := hR.2.1
  have hbo := hR.2.2.2.1
  have hle : ∀ d, d < 10 → le d ≤ 40 := fun d h => (hl d h).1
  have hsl : sumN le (6 + pi) = sumN n (6 + pi) := sumN_cg (fun d h => (hd d h).1)
  refine CtI.of1 (by decide +kernel) rfl (by decide) (fun E q hl hC hr => ?_)
  subst hl
  refine j_aload_0 hC d_X_right_0 ?_
  refine j_iload_1 hC d_X_right_1 ?_
  refine x_calli1 hC (c_X_badByte (eL E)) v_X_badByte k_X_49 (by decide) (Nat.le_of_ble_eq_true rfl) d_X_right_2 (fun r0 u' h9 => ?_)
  obtain ⟨rfl, hb⟩ := h9
  refine j_if_eq hC 10 (by decide) d_X_right_5 (fun c_5 => ?_) (fun c_5 => ?_)
  · obtain ⟨j, hj, rfl⟩ := okB (hb.mp c_5)
    refine j_aload_0 hC d_X_right_10 ?_
    refine x_get_piled hC d_X_right_11 ?_
    refine j_nezN hC 20 (by decide) (by omega) d_X_right_14 (fun c_14 => ?_) (fun c_14 => ?_)
    · have hlt := hl (5 + pi) (by omega)
      have het := (hd (5 + pi) (by omega)).1
      refine j_aload_0 hC d_X_right_20 ?_
      refine x_get_length hC d_X_right_21 ?_
      refine j_aload_0 hC d_X_right_24 ?_
      refine x_calli0 hC (c_X_top (eL E)) v_X_top k_X_46 (by decide) (Nat.le_of_ble_eq_true rfl) d_X_right_25 (fun r u' h9 => ?_)
      obtain ⟨rfl, rfl⟩ := h9
      rw [show 6 + pi - 1 = 5 + pi by omega]
      refine x_ld_length hC (by omega) d_X_right_28 ?_
      refine j_istore_2 hC (by decide) d_X_right_29 ?_
      refine j_iload_1 hC d_X_right_30 ?_
      refine j_iload_2 hC d_X_right_31 ?_
      refine j_geN hC 46 (by decide) (by omega) (by omega) d_X_right_32 (fun c_32 => ?_) (fun c_32 => ?_)
      · refine j_aload_0 hC d_X_right_46 ?_
        refine j_iconst hC ic_0 d_X_right_47 ?_
        refine j_iload_2 hC d_X_right_48 ?_
        refine x_calli2 hC (c_X_cut (eL E) (pi, n, ch) (n 10, li, pi, le, bd, bo, sr, wa, ta) hR hW (by show 0 < pi; omega) (i := 0) (m := le (5 + pi)) (by omega) (by omega)) v_X_cut k_X_74 (by decide) (Nat.le_of_ble_eq_true rfl) d_X_right_49 (fun r u' h9 => ?_)
        obtain ⟨a', h5, h6⟩ := h9
        refine j_ireturn hC hr ?_ d_X_right_52
        rw [het, show n (5 + pi) = (pi, n, ch).2.1 (5 + (pi, n, ch).1) from rfl, sp_cut_all] at h5
        cases h5
        exact ⟨_, sp_right_A hj c_14 (by show n (5 + pi) ≤ j; omega), h6⟩
      · refine j_aload_0 hC d_X_right_35 ?_
        refine j_iload_2 hC d_X_right_36 ?_
        refine j_iload_1 hC d_X_right_37 ?_
        refine j_subN hC (by omega) d_X_right_38 ?_
        refine j_iload_1 hC d_X_right_39 ?_
        refine x_calli2 hC (c_X_cut (eL E) (pi, n, ch) (n 10, li, pi, le, bd, bo, sr, wa, ta) hR hW (by show 0 < pi; omega) (i := le (5 + pi) - j) (m := j) (by omega) (by omega)) v_X_cut k_X_74 (by decide) (Nat.le_of_ble_eq_true rfl) d_X_right_40 (fun r u' h9 => ?_)
        obtain ⟨a', h5, h6⟩ := h9
        refine j_goto hC 52 (by decide) d_X_right_43 ?_
        refine j_ireturn hC hr ?_ d_X_right_52
        rw [het] at h5
        exact ⟨a', (sp_right_N hj c_14 (by show j < n (5 + pi); omega)).trans h5, h6⟩
    · refine j_bipush hC bm3 d_X_right_17 ?_
      refine j_ireturn hC hr ?_ d_X_right_19
      exact ⟨_, (if_neg (notB hj)).trans (if_pos c_14), hR⟩
  · refine j_iconst hC im1 d_X_right_8 ?_
    refine j_ireturn hC hr ?_ d_X_right_9
    exact ⟨_, if_pos (Decidable.byContradiction fun z => c_5 (hb.mpr z)), hR⟩
set_option maxRecDepth 20000 in
/-- mid -/
theorem c_X_mid (l : Launch) (a : Ab) (u : SX) (hR : RX a u) (hW : Wf a.1 a.2.1) {i : Int32} {v : Int32}  : CtI l y_X_mid b_X_mid 3 (some .int) 3 wX [.int i, .int v] u (fun r u' => ∃ a', sp_mid a i v = (r, a') ∧ RX a' u') := by
  obtain ⟨p, n, ch⟩ := a
  obtain ⟨kd, li, pi, le, bd, bo, sr, wa, ta⟩ := u
  have hR : RXc p n ch kd li pi le bd bo sr := hR
  have hW : Wf p n := hW
  obtain ⟨h1, h2⟩ : kd = n 10 ∧ pi = p := ⟨hR.1, hR.2.2.1⟩
  subst h1
  subst h2
  have hp4 := hW.1
  have hn40 := hW.2.1
  have hs := hW.2.2
  have hd := hR.2.2.2.2.2
  have hl := hR.2.2.2.2.1
  have hli := hR.2.1
  have hbo := hR.2.2.2.1
  have hle : ∀ d, d < 10 → le d ≤ 40 := fun d h => (hl d h).1
  have hsl : sumN le (6 + pi) = sumN n (6 + pi) := sumN_cg (fun d h => (hd d h).1)
  refine CtI.of2 (by decide +kernel) rfl (by decide) (fun E q hl hC hr => ?_)
  subst hl
  refine j_iload_1 hC d_X_mid_0 ?_
  refine j_iconst hC ir_1 d_X_mid_1 ?_
  refine j_icmp_lt hC 20 (by decide) d_X_mid_2 (fun c_2 => ?_) (fun c_2 => ?_)
  · refine j_iconst hC im1 d_X_mid_20 ?_
    refine j_ireturn hC hr ?_ d_X_mid_21
    exact ⟨_, if_pos (Or.inl (Or.inl c_2)), hR⟩
  · refine j_iload_1 hC d_X_mid_5 ?_
    refine j_sipush hC sr_255 d_X_mid_6 ?_
    refine j_icmp_gt hC 20 (by decide) d_X_mid_9 (fun c_9 => ?_) (fun c_9 => ?_)
    · refine j_iconst hC im1 d_X_mid_20 ?_
      refine j_ireturn hC hr ?_ d_X_mid_21
      exact ⟨_, if_pos (Or.inl (Or.inr c_9)), hR⟩
    · refine j_aload_0 hC d_X_mid_12 ?_
      refine j_iload_2 hC d_X_mid_13 ?_
      refine x_calli1 hC (c_X_badByte (eL E)) v_X_badByte k_X_49 (by decide) (Nat.le_of_ble_eq_true rfl) d_X_mid_14 (fun r0 u' h9 => ?_)
      obtain ⟨rfl, hb⟩ := h9
      refine j_if_eq hC 22 (by decide) d_X_mid_17 (fun c_17 => ?_) (fun c_17 => ?_)
      · obtain ⟨j, hj0, hj, rfl⟩ := ok1 (v := i) (fun z => z.elim c_2 c_9)
        obtain ⟨m, hm, rfl⟩ := okB (hb.mp c_17)
        refine j_aload_0 hC d_X_mid_22 ?_
        refine x_get_piled hC d_X_mid_23 ?_
        refine j_nezN hC 32 (by decide) (by omega) d_X_mid_26 (fun c_26 => ?_) (fun c_26 => ?_)
        · refine j_aload_0 hC d_X_mid_32 ?_
          refine j_iload_1 hC d_X_mid_33 ?_
          refine j_iconst hC ic_1 d_X_mid_34 ?_
          refine j_subN hC (by omega) d_X_mid_35 ?_
          refine j_iload_2 hC d_X_mid_36 ?_
          refine x_calli2 hC (c_X_cut (eL E) (pi, n, ch) (n 10, li, pi, le, bd, bo, sr, wa, ta) hR hW (by show 0 < pi; omega) (i := j - 1) (m := m) (by omega) (by omega)) v_X_cut k_X_74 (by decide) (Nat.le_of_ble_eq_true rfl) d_X_mid_37 (fun r u' h9 => ?_)
          obtain ⟨a', h5, h6⟩ := h9
          refine j_ireturn hC hr ?_ d_X_mid_40
          exact ⟨a', (sp_mid_N hj0 hj hm c_26).trans h5, h6⟩
        · refine j_bipush hC bm3 d_X_mid_29 ?_
          refine j_ireturn hC hr ?_ d_X_mid_31
          exact ⟨_, (if_neg (fun z => z.elim (not1 hj0 hj) (notB hm))).trans (if_pos c_26), hR⟩
      · refine j_iconst hC im1 d_X_mid_20 ?_
        refine j_ireturn hC hr ?_ d_X_mid_21
        exact ⟨_, if_pos (Or.inr (Decidable.byContradiction fun z => c_17 (hb.mpr z))), hR⟩
theorem sp_rep {a : Ab} {j : Nat} {c : Int32} (hj : j < 256) (hc : ¬ (c < 0 ∨ 255 < c)) : sp_repeat a (nI j) c = if a.1 = 4 then (-2, a) else if 40 < j then (-5, a) else if 100 < sumN a.2.1 (6 + a.1) + j then (-2, a) else (nI j, (a.1 + 1, upN a.2.1 (6 + a.1) j, upC a.2.2 (6 + a.1) (fun _ => c))) := by
  unfold sp_repeat
  rw [if_neg (fun q => q.elim (notB hj) hc), cl (by omega)]
set_option maxRecDepth 20000 in
/-- repeat -/
theorem c_X_repeat (l : Launch) (a : Ab) (u : SX) (hR : RX a u) (hW : Wf a.1 a.2.1) {c : Int32} {v : Int32}  : CtI l y_X_repeat b_X_repeat 6 (some .int) 3 wX [.int v, .int c] u (fun r u' => ∃ a', sp_repeat a v c = (r, a') ∧ RX a' u') := by
  obtain ⟨p, n, ch⟩ := a
  obtain ⟨kd, li, pi, le, bd, bo, sr, wa, ta⟩ := u
  have hR : RXc p n ch kd li pi le bd bo sr := hR
  have hW : Wf p n := hW
  obtain ⟨h1, h2⟩ : kd = n 10 ∧ pi = p := ⟨hR.1, hR.2.2.1⟩
  subst h1
  subst h2
  have hp4 := hW.1
  have hn40 := hW.2.1
  have hs := hW.2.2
  have hd := hR.2.2.2.2.2
  have hl := hR.2.2.2.2.1
  have hli := hR.2.1
  have hbo := hR.2.2.2.1
  have hle : ∀ d, d < 10 → le d ≤ 40 := fun d h => (hl d h).1
  have hsl : sumN le (6 + pi) = sumN n (6 + pi) := sumN_cg (fun d h => (hd d h).1)
  refine CtI.of2 (by decide +kernel) rfl (by decide) (fun E q hl hC hr => ?_)
  subst hl
  refine j_aload_0 hC d_X_repeat_0 ?_
  refine j_iload_1 hC d_X_repeat_1 ?_
  refine x_calli1 hC (c_X_badByte (eL E)) v_X_badByte k_X_49 (by decide) (Nat.le_of_ble_eq_true rfl) d_X_repeat_2 (fun r0 u' h9 => ?_)
  obtain ⟨rfl, hb⟩ := h9
  refine j_if_ne hC 16 (by decide) d_X_repeat_5 (fun c_5 => ?_) (fun c_5 => ?_)
  · refine j_iconst hC im1 d_X_repeat_16 ?_
    refine j_ireturn hC hr ?_ d_X_repeat_17
    exact ⟨_, if_pos (Or.inl (Decidable.byContradiction fun z => c_5 (hb.mpr z))), hR⟩
  · refine j_aload_0 hC d_X_repeat_8 ?_
    refine j_iload_2 hC d_X_repeat_9 ?_
    refine x_calli1 hC (c_X_badByte (eL E)) v_X_badByte k_X_49 (by decide) (Nat.le_of_ble_eq_true rfl) d_X_repeat_10 (fun r1 u' h9 => ?_)
    obtain ⟨rfl, hb2⟩ := h9
    refine j_if_eq hC 18 (by decide) d_X_repeat_13 (fun c_13 => ?_) (fun c_13 => ?_)
    · obtain ⟨j, hj, rfl⟩ := okB (hb.mp c_5)
      have hsr := sp_rep (a := (pi, n, ch)) hj (hb2.mp c_13)
      refine j_aload_0 hC d_X_repeat_18 ?_
      refine j_iload_1 hC d_X_repeat_19 ?_
      refine x_calli1 hC (c_X_refuse (eL E) hp4 hle (m := j) (by omega)) v_X_refuse k_X_56 (by decide) (Nat.le_of_ble_eq_true rfl) d_X_repeat_20 (fun r u' h9 => ?_)
      obtain ⟨rfl, hx⟩ := h9
      refine j_istore_3 hC (by decide) d_X_repeat_23 ?_
      refine j_iload_3 hC d_X_repeat_24 ?_
      refine j_if_ge hC 30 (by decide) d_X_repeat_25 (fun c_25 => ?_) (fun c_25 => ?_)
      · obtain ⟨hp3, hm40, hsm⟩ : pi < 4 ∧ j ≤ 40 ∧ sumN le (6 + pi) + j ≤ 100 := by
          rcases hx with ⟨z, -⟩ | ⟨-, z⟩
          · exact absurd z (Int32.not_lt.mpr c_25)
          · exact z
        refine j_aload_0 hC d_X_repeat_30 ?_
        refine j_iload_1 hC d_X_repeat_31 ?_
        refine x_calli1 hC (c_X_take (eL E) hp4 hR hs (m := j) hm40) v_X_take k_X_60 (by decide) (Nat.le_of_ble_eq_true rfl) d_X_repeat_32 (fun r u' h9 => ?_)
        obtain ⟨t, sr', wa', bd', ta', rfl, ht, hR2, ht2, rfl⟩ := h9
        refine j_istore_4 hC (by decide) d_X_repeat_35 ?_
        refine j_iconst hC ic_0 d_X_repeat_37 ?_
        refine j_istore_5 hC (by decide) d_X_repeat_38 ?_
        have lp : ∀ (k i : Nat) (s : Nat → Int32), j - i < k → i ≤ j → (∀ y, y < i → s (t + y) = c) → (∀ x, (x < t ∨ t + i ≤ x) → s x = sr' x) → J E (QI E q wX (fun r u' => ∃ a', sp_repeat (pi, n, ch) (nI j) c = (r, a') ∧ RX a' u')) (wX (eI E) (eZ E) q (n 10, li, pi, le, bd', t, s, wa', ta')) (some (.ref (q 0))) (some (.int (nI j))) (some (.int c)) (some (.int r)) (some (.int (nI t))) (some (.int (nI i))) none none 40 [] := by
          intro k
          induction k with
          | zero =>
            intro i s hk hi h1 h2
            exact absurd hk (Nat.not_lt_zero _)
          | succ k ih_lp =>
            intro i s hk hi h1 h2
            refine j_iload_5 hC d_X_repeat_40 ?_
            refine j_iload_1 hC d_X_repeat_42 ?_
            refine j_geN hC 63 (by decide) (by omega) (by omega) d_X_repeat_43 (fun c_43 => ?_) (fun c_43 => ?_)
            · refine j_aload_0 hC d_X_repeat_63 ?_
              refine j_iload_4 hC d_X_repeat_64 ?_
              refine j_iload_1 hC d_X_repeat_66 ?_
              refine x_callv2 hC (c_X_pushBody (eL E) hp3 (by omega)) v_X_pushBody k_X_63 (by decide) (Nat.le_of_ble_eq_true rfl) d_X_repeat_67 (fun u' h9 => ?_)
              subst h9
              refine j_iload_1 hC d_X_repeat_70 ?_
              refine j_ireturn hC hr ?_ d_X_repeat_71
              have e : i = j := by omega
              subst e
              refine ⟨_, hsr.trans ((if_neg (by show ¬ pi = 4; omega)).trans ((if_neg (by omega)).trans (if_neg (by show ¬ 100 < sumN n (6 + pi) + i; omega)))), RX_new (RX_sr hR2 (fun d hd1 hn i hi => h2 _ (by have := ht2 d hd1 hn; omega))) hp3 hm40 (by omega) (fun _ => ⟨Nat.le_refl _, by omega, fun i hi => h1 i hi⟩)⟩
            · refine j_aload_0 hC d_X_repeat_46 ?_
              refine x_get_store hC d_X_repeat_47 ?_
              refine j_iload_4 hC d_X_repeat_50 ?_
              refine j_iload_5 hC d_X_repeat_52 ?_
              refine j_addN hC d_X_repeat_54 ?_
              refine j_iload_2 hC d_X_repeat_55 ?_
              refine x_st_store hC (by omega) d_X_repeat_56 ?_
              refine j_iinc_5 hC inc1 (by decide) d_X_repeat_57 ?_
              refine j_goto hC 40 (by decide) d_X_repeat_60 ?_
              refine ih_lp (i + 1) _ (by omega) (by omega) (fun y hy => ?_) (fun x hx2 => ?_)
              · by_cases e : y = i
                · subst e; rw [pk_us]
                · rw [pk_un (by omega)]; exact h1 y (by omega)
              · rw [pk_un (by omega)]; exact h2 x (by omega)
        exact lp (j + 1) 0 sr' (by omega) (Nat.zero_le _) (fun y hy => by omega) (fun x _ => rfl)
      · refine j_iload_3 hC d_X_repeat_28 ?_
        refine j_ireturn hC hr ?_ d_X_repeat_29
        rcases hx with ⟨-, hr2, hc⟩ | ⟨rfl, -⟩
        rotate_left
        · exact absurd c_25 nge0
        refine ⟨(pi, n, ch), hsr.trans ?_, hR⟩
        show (if pi = 4 then _ else _) = _
        rw [hr2]
        by_cases z1 : pi = 4
        · rw [if_pos z1, if_pos z1]
        · rw [if_neg z1, if_neg z1]
          by_cases z2 : 40 < j
          · rw [if_pos z2, if_pos z2]
          · rw [if_neg z2, if_neg z2, if_pos (by show 100 < sumN n (6 + pi) + j; omega)]
    · refine j_iconst hC im1 d_X_repeat_16 ?_
      refine j_ireturn hC hr ?_ d_X_repeat_17
      exact ⟨_, if_pos (Or.inr (Decidable.byContradiction fun z => c_13 (hb2.mpr z))), hR⟩
end X2
end
section
section X3
/-- join: the new string of the pile -/
theorem RX_join {p kd bo : Nat} {li sr wa : Nat → Int32} {n le bd ta : Nat → Nat} {ch : Nat → Nat → Int32} (h : RXc p n ch kd li p le bd bo sr) (hp : p ≤ 4) (hp2 : 2 ≤ p) {b m : Nat} (hm : m = n (4 + p) + n (5 + p)) (hm40 : m ≤ 40) (hb : b ≤ 144)
    (hs : 0 < m → bo ≤ b ∧ b + m ≤ 144 ∧ (∀ i, i < n (4 + p) → sr (b + i) = ch (4 + p) i) ∧ ∀ i, i < n (5 + p) → sr (b + n (4 + p) + i) = ch (5 + p) i) : ∃ a', sp_join (p, n, ch) = (nI m, a') ∧ RX a' (kd, li, p - 1, upN le (4 + p) m, upN bd (4 + p) b, bo, sr, wa, ta) := by
  subst hm
  refine ⟨_, (if_neg (by show ¬ p < 2; omega)).trans (if_neg (by show ¬ 40 < n (4 + p) + n (5 + p); omega)), RX_set (m := n (4 + p) + n (5 + p)) h (by omega) (fun e h1 _ => by omega) hm40 hb (fun hm => ?_)⟩
  obtain ⟨q1, q2, q3, q4⟩ := hs hm
  refine ⟨q1, q2, fun i hi => ?_⟩
  show sr (b + i) = if i < n (4 + p) then ch (4 + p) i else ch (5 + p) (i - n (4 + p))
  by_cases z : i < n (4 + p)
  · rw [if_pos z]; exact q3 i z
  · rw [if_neg z]
    have := q4 (i - n (4 + p)) (by omega)
    rw [show b + n (4 + p) + (i - n (4 + p)) = b + i by omega] at this
    exact this
set_option maxRecDepth 20000 in
/-- join -/
theorem c_X_join (l : Launch) (a : Ab) (u : SX) (hR : RX a u) (hW : Wf a.1 a.2.1)   : CtI l y_X_join b_X_join 5 (some .int) 3 wX [] u (fun r u' => ∃ a', sp_join a = (r, a') ∧ RX a' u') := by
  obtain ⟨p, n, ch⟩ := a
  obtain ⟨kd, li, pi, le, bd, bo, sr, wa, ta⟩ := u
  have hR : RXc p n ch kd li pi le bd bo sr := hR
  have hW : Wf p n := hW
  obtain ⟨h1, h2⟩ : kd = n 10 ∧ pi = p := ⟨hR.1, hR.2.2.1⟩
  subst h1
  subst h2
  have hp4 := hW.1
  have hn40 := hW.2.1
  have hs := hW.2.2
  have hd := hR.2.2.2.2.2
  have hl := hR.2.2.2.2.1
  have hli := hR.2.1
  have hbo := hR.2.2.2.1
  have hle : ∀ d, d < 10 → le d ≤ 40 := fun d h => (hl d h).1
  have hsl : sumN le (6 + pi) = sumN n (6 + pi) := sumN_cg (fun d h => (hd d h).1)
  refine CtI.of0 (by decide +kernel) rfl (by decide) (fun E q hl hC hr => ?_)
  subst hl
  refine j_aload_0 hC d_X_join_0 ?_
  refine x_get_piled hC d_X_join_1 ?_
  refine j_iconst hC ic_2 d_X_join_4 ?_
  refine j_geN hC 11 (by decide) (by omega) (by omega) d_X_join_5 (fun c_5 => ?_) (fun c_5 => ?_)
  · have hlx := hl (4 + pi) (by omega)
    have hly := hl (5 + pi) (by omega)
    have hdx := hd (4 + pi) (by omega)
    have hdy := hd (5 + pi) (by omega)
    have hex := hdx.1
    have hey := hdy.1
    refine j_aload_0 hC d_X_join_11 ?_
    refine x_calli0 hC (c_X_top (eL E)) v_X_top k_X_46 (by decide) (Nat.le_of_ble_eq_true rfl) d_X_join_12 (fun r u' h9 => ?_)
    obtain ⟨rfl, rfl⟩ := h9
    rw [show 6 + pi - 1 = 5 + pi by omega]
    refine j_istore_1 hC (by decide) d_X_join_15 ?_
    refine j_iload_1 hC d_X_join_16 ?_
    refine j_iconst hC ic_1 d_X_join_17 ?_
    refine j_subN hC (by omega) d_X_join_18 ?_
    rw [show 5 + pi - 1 = 4 + pi by omega]
    refine j_istore_2 hC (by decide) d_X_join_19 ?_
    refine j_aload_0 hC d_X_join_20 ?_
    refine x_get_length hC d_X_join_21 ?_
    refine j_iload_2 hC d_X_join_24 ?_
    refine x_ld_length hC (by omega) d_X_join_25 ?_
    refine j_aload_0 hC d_X_join_26 ?_
    refine x_get_length hC d_X_join_27 ?_
    refine j_iload_1 hC d_X_join_30 ?_
    refine x_ld_length hC (by omega) d_X_join_31 ?_
    refine j_addN hC d_X_join_32 ?_
    refine j_istore_3 hC (by decide) d_X_join_33 ?_
    refine j_iload_3 hC d_X_join_34 ?_
    refine j_bipush hC bp_40 d_X_join_35 ?_
    refine j_leN hC 43 (by decide) (by omega) (by omega) d_X_join_37 (fun c_37 => ?_) (fun c_37 => ?_)
    · refine j_aload_0 hC d_X_join_43 ?_
      refine x_get_length hC d_X_join_44 ?_
      refine j_iload_2 hC d_X_join_47 ?_
      refine x_ld_length hC (by omega) d_X_join_48 ?_
      refine j_lezN hC 144 (by decide) (by omega) d_X_join_49 (fun c_49 => ?_) (fun c_49 => ?_)
      · refine j_aload_0 hC d_X_join_144 ?_
        refine x_get_length hC d_X_join_145 ?_
        refine j_iload_2 hC d_X_join_148 ?_
        refine x_ld_length hC (by omega) d_X_join_149 ?_
        refine j_nezN hC 165 (by decide) (by omega) d_X_join_150 (fun c_150 => ?_) (fun c_150 => ?_)
        · refine j_aload_0 hC d_X_join_165 ?_
          refine x_get_length hC d_X_join_166 ?_
          refine j_iload_2 hC d_X_join_169 ?_
          refine j_iload_3 hC d_X_join_170 ?_
          refine x_st_length hC (by omega) d_X_join_171 ?_
          refine j_aload_0 hC d_X_join_172 ?_
          refine j_dup hC rfl d_X_join_173 ?_
          refine x_get_piled hC d_X_join_174 ?_
          refine j_iconst hC ic_1 d_X_join_177 ?_
          refine j_subN hC (by omega) d_X_join_178 ?_
          refine x_put_piled hC d_X_join_179 ?_
          refine j_iload_3 hC d_X_join_182 ?_
          refine j_ireturn hC hr ?_ d_X_join_183
          exact absurd c_150 (by omega)
        · refine j_aload_0 hC d_X_join_153 ?_
          refine x_get_body hC d_X_join_154 ?_
          refine j_iload_2 hC d_X_join_157 ?_
          refine j_aload_0 hC d_X_join_158 ?_
          refine x_get_body hC d_X_join_159 ?_
          refine j_iload_1 hC d_X_join_162 ?_
          refine x_ld_body hC (by omega) d_X_join_163 ?_
          refine x_st_body hC (by omega) d_X_join_164 ?_
          refine j_aload_0 hC d_X_join_165 ?_
          refine x_get_length hC d_X_join_166 ?_
          refine j_iload_2 hC d_X_join_169 ?_
          refine j_iload_3 hC d_X_join_170 ?_
          refine x_st_length hC (by omega) d_X_join_171 ?_
          refine j_aload_0 hC d_X_join_172 ?_
          refine j_dup hC rfl d_X_join_173 ?_
          refine x_get_piled hC d_X_join_174 ?_
          refine j_iconst hC ic_1 d_X_join_177 ?_
          refine j_subN hC (by omega) d_X_join_178 ?_
          refine x_put_piled hC d_X_join_179 ?_
          refine j_iload_3 hC d_X_join_182 ?_
          refine j_ireturn hC hr ?_ d_X_join_183
          refine RX_join hR hp4 (by omega) (by omega) (by omega) (by omega) (fun z => ?_)
          obtain ⟨y1, y2, y3⟩ := hdy.2 (by omega)
          refine ⟨y1, by omega, fun i hi => by omega, fun i hi => ?_⟩
          rw [show bd (5 + pi) + n (4 + pi) = bd (5 + pi) by omega]
          exact y3 i hi
      · refine j_aload_0 hC d_X_join_52 ?_
        refine x_get_length hC d_X_join_53 ?_
        refine j_iload_1 hC d_X_join_56 ?_
        refine x_ld_length hC (by omega) d_X_join_57 ?_
        refine j_lezN hC 144 (by decide) (by omega) d_X_join_58 (fun c_58 => ?_) (fun c_58 => ?_)
        · refine j_aload_0 hC d_X_join_144 ?_
          refine x_get_length hC d_X_join_145 ?_
          refine j_iload_2 hC d_X_join_148 ?_
          refine x_ld_length hC (by omega) d_X_join_149 ?_
          refine j_nezN hC 165 (by decide) (by omega) d_X_join_150 (fun c_150 => ?_) (fun c_150 => ?_)
          · refine j_aload_0 hC d_X_join_165 ?_
            refine x_get_length hC d_X_join_166 ?_
            refine j_iload_2 hC d_X_join_169 ?_
            refine j_iload_3 hC d_X_join_170 ?_
            refine x_st_length hC (by omega) d_X_join_171 ?_
            refine j_aload_0 hC d_X_join_172 ?_
            refine j_dup hC rfl d_X_join_173 ?_
            refine x_get_piled hC d_X_join_174 ?_
            refine j_iconst hC ic_1 d_X_join_177 ?_
            refine j_subN hC (by omega) d_X_join_178 ?_
            refine x_put_piled hC d_X_join_179 ?_
            refine j_iload_3 hC d_X_join_182 ?_
            refine j_ireturn hC hr ?_ d_X_join_183
            rw [← upN_id (f := bd) (k := 4 + pi)]
            refine RX_join hR hp4 (by omega) (by omega) (by omega) (by omega) (fun z => ?_)
            obtain ⟨y1, y2, y3⟩ := hdx.2 (by omega)
            exact ⟨y1, by omega, y3, fun i hi => by omega⟩
          · refine j_aload_0 hC d_X_join_153 ?_
            refine x_get_body hC d_X_join_154 ?_
            refine j_iload_2 hC d_X_join_157 ?_
            refine j_aload_0 hC d_X_join_158 ?_
            refine x_get_body hC d_X_join_159 ?_
            refine j_iload_1 hC d_X_join_162 ?_
            refine x_ld_body hC (by omega) d_X_join_163 ?_
            refine x_st_body hC (by omega) d_X_join_164 ?_
            refine j_aload_0 hC d_X_join_165 ?_
            refine x_get_length hC d_X_join_166 ?_
            refine j_iload_2 hC d_X_join_169 ?_
            refine j_iload_3 hC d_X_join_170 ?_
            refine x_st_length hC (by omega) d_X_join_171 ?_
            refine j_aload_0 hC d_X_join_172 ?_
            refine j_dup hC rfl d_X_join_173 ?_
            refine x_get_piled hC d_X_join_174 ?_
            refine j_iconst hC ic_1 d_X_join_177 ?_
            refine j_subN hC (by omega) d_X_join_178 ?_
            refine x_put_piled hC d_X_join_179 ?_
            refine j_iload_3 hC d_X_join_182 ?_
            refine j_ireturn hC hr ?_ d_X_join_183
            refine RX_join hR hp4 (by omega) (by omega) (by omega) (by omega) (fun z => ?_)
            obtain ⟨y1, y2, y3⟩ := hdy.2 (by omega)
            refine ⟨y1, by omega, fun i hi => by omega, fun i hi => ?_⟩
            rw [show bd (5 + pi) + n (4 + pi) = bd (5 + pi) by omega]
            exact y3 i hi
        · refine j_aload_0 hC d_X_join_61 ?_
          refine x_get_body hC d_X_join_62 ?_
          refine j_iload_2 hC d_X_join_65 ?_
          refine x_ld_body hC (by omega) d_X_join_66 ?_
          refine j_aload_0 hC d_X_join_67 ?_
          refine x_get_length hC d_X_join_68 ?_
          refine j_iload_2 hC d_X_join_71 ?_
          refine x_ld_length hC (by omega) d_X_join_72 ?_
          refine j_addN hC d_X_join_73 ?_
          refine j_aload_0 hC d_X_join_74 ?_
          refine x_get_body hC d_X_join_75 ?_
          refine j_iload_1 hC d_X_join_78 ?_
          refine x_ld_body hC (by omega) d_X_join_79 ?_
          refine j_eqN hC 144 (by decide) (by omega) (by omega) d_X_join_80 (fun c_80 => ?_) (fun c_80 => ?_)
          · refine j_aload_0 hC d_X_join_144 ?_
            refine x_get_length hC d_X_join_145 ?_
            refine j_iload_2 hC d_X_join_148 ?_
            refine x_ld_length hC (by omega) d_X_join_149 ?_
            refine j_nezN hC 165 (by decide) (by omega) d_X_join_150 (fun c_150 => ?_) (fun c_150 => ?_)
            · refine j_aload_0 hC d_X_join_165 ?_
              refine x_get_length hC d_X_join_166 ?_
              refine j_iload_2 hC d_X_join_169 ?_
              refine j_iload_3 hC d_X_join_170 ?_
              refine x_st_length hC (by omega) d_X_join_171 ?_
              refine j_aload_0 hC d_X_join_172 ?_
              refine j_dup hC rfl d_X_join_173 ?_
              refine x_get_piled hC d_X_join_174 ?_
              refine j_iconst hC ic_1 d_X_join_177 ?_
              refine j_subN hC (by omega) d_X_join_178 ?_
              refine x_put_piled hC d_X_join_179 ?_
              refine j_iload_3 hC d_X_join_182 ?_
              refine j_ireturn hC hr ?_ d_X_join_183
              rw [← upN_id (f := bd) (k := 4 + pi)]
              refine RX_join hR hp4 (by omega) (by omega) (by omega) (by omega) (fun z => ?_)
              obtain ⟨x1, x2, x3⟩ := hdx.2 (by omega)
              obtain ⟨y1, y2, y3⟩ := hdy.2 (by omega)
              refine ⟨x1, by omega, x3, fun i hi => ?_⟩
              rw [show bd (4 + pi) + n (4 + pi) = bd (5 + pi) by omega]
              exact y3 i hi
            · refine j_aload_0 hC d_X_join_153 ?_
              refine x_get_body hC d_X_join_154 ?_
              refine j_iload_2 hC d_X_join_157 ?_
              refine j_aload_0 hC d_X_join_158 ?_
              refine x_get_body hC d_X_join_159 ?_
              refine j_iload_1 hC d_X_join_162 ?_
              refine x_ld_body hC (by omega) d_X_join_163 ?_
              refine x_st_body hC (by omega) d_X_join_164 ?_
              refine j_aload_0 hC d_X_join_165 ?_
              refine x_get_length hC d_X_join_166 ?_
              refine j_iload_2 hC d_X_join_169 ?_
              refine j_iload_3 hC d_X_join_170 ?_
              refine x_st_length hC (by omega) d_X_join_171 ?_
              refine j_aload_0 hC d_X_join_172 ?_
              refine j_dup hC rfl d_X_join_173 ?_
              refine x_get_piled hC d_X_join_174 ?_
              refine j_iconst hC ic_1 d_X_join_177 ?_
              refine j_subN hC (by omega) d_X_join_178 ?_
              refine x_put_piled hC d_X_join_179 ?_
              refine j_iload_3 hC d_X_join_182 ?_
              refine j_ireturn hC hr ?_ d_X_join_183
              refine RX_join hR hp4 (by omega) (by omega) (by omega) (by omega) (fun z => ?_)
              obtain ⟨y1, y2, y3⟩ := hdy.2 (by omega)
              refine ⟨y1, by omega, fun i hi => by omega, fun i hi => ?_⟩
              rw [show bd (5 + pi) + n (4 + pi) = bd (5 + pi) by omega]
              exact y3 i hi
          · refine j_aload_0 hC d_X_join_83 ?_
            refine j_iload_3 hC d_X_join_84 ?_
            refine x_calli1 hC (c_X_take (eL E) hp4 hR hs (m := le (4 + pi) + le (5 + pi)) (by omega)) v_X_take k_X_60 (by decide) (Nat.le_of_ble_eq_true rfl) d_X_join_85 (fun r u' h9 => ?_)
            obtain ⟨t, sr', wa', bd', ta', rfl, ht, hR2, ht2, rfl⟩ := h9
            have hxs := (hR2.2.2.2.2.2 (4 + pi) (by omega)).2 (by omega)
            have hys := (hR2.2.2.2.2.2 (5 + pi) (by omega)).2 (by omega)
            have hx2 := ht2 (4 + pi) (by omega) (by omega)
            have hy2 := ht2 (5 + pi) (by omega) (by omega)
            refine j_istore_4 hC (by decide) d_X_join_88 ?_
            refine j_aload_0 hC d_X_join_90 ?_
            refine j_aload_0 hC d_X_join_91 ?_
            refine x_get_body hC d_X_join_92 ?_
            refine j_iload_2 hC d_X_join_95 ?_
            refine x_ld_body hC (by omega) d_X_join_96 ?_
            refine j_iload_4 hC d_X_join_97 ?_
            refine j_aload_0 hC d_X_join_99 ?_
            refine x_get_length hC d_X_join_100 ?_
            refine j_iload_2 hC d_X_join_103 ?_
            refine x_ld_length hC (by omega) d_X_join_104 ?_
            refine x_callv3 hC (c_X_copy (eL E) (f := bd' (4 + pi)) (t := t) (m := le (4 + pi)) (by omega) (by omega) (fun _ => by omega)) v_X_copy k_X_70 (by decide) (Nat.le_of_ble_eq_true rfl) d_X_join_105 (fun u' h9 => ?_)
            obtain ⟨s1, g1, g2, rfl⟩ := h9
            refine j_aload_0 hC d_X_join_108 ?_
            refine j_aload_0 hC d_X_join_109 ?_
            refine x_get_body hC d_X_join_110 ?_
            refine j_iload_1 hC d_X_join_113 ?_
            refine x_ld_body hC (by omega) d_X_join_114 ?_
            refine j_iload_4 hC d_X_join_115 ?_
            refine j_aload_0 hC d_X_join_117 ?_
            refine x_get_length hC d_X_join_118 ?_
            refine j_iload_2 hC d_X_join_121 ?_
            refine x_ld_length hC (by omega) d_X_join_122 ?_
            refine j_addN hC d_X_join_123 ?_
            refine j_aload_0 hC d_X_join_124 ?_
            refine x_get_length hC d_X_join_125 ?_
            refine j_iload_1 hC d_X_join_128 ?_
            refine x_ld_length hC (by omega) d_X_join_129 ?_
            refine x_callv3 hC (c_X_copy (eL E) (f := bd' (5 + pi)) (t := t + le (4 + pi)) (m := le (5 + pi)) (by omega) (by omega) (fun _ => by omega)) v_X_copy k_X_70 (by decide) (Nat.le_of_ble_eq_true rfl) d_X_join_130 (fun u' h9 => ?_)
            obtain ⟨s2, g3, g4, rfl⟩ := h9
            have hR4 : RXc pi n ch (n 10) li pi le bd' t s2 := RX_sr hR2 (fun d hd1 hn i hi => by
              have := ht2 d hd1 hn
              rw [g4 _ (by omega), g2 _ (by omega)])
            refine j_aload_0 hC d_X_join_133 ?_
            refine x_get_body hC d_X_join_134 ?_
            refine j_iload_2 hC d_X_join_137 ?_
            refine j_iload_4 hC d_X_join_138 ?_
            refine x_st_body hC (by omega) d_X_join_140 ?_
            refine j_goto hC 165 (by decide) d_X_join_141 ?_
            refine j_aload_0 hC d_X_join_165 ?_
            refine x_get_length hC d_X_join_166 ?_
            refine j_iload_2 hC d_X_join_169 ?_
            refine j_iload_3 hC d_X_join_170 ?_
            refine x_st_length hC (by omega) d_X_join_171 ?_
            refine j_aload_0 hC d_X_join_172 ?_
            refine j_dup hC rfl d_X_join_173 ?_
            refine x_get_piled hC d_X_join_174 ?_
            refine j_iconst hC ic_1 d_X_join_177 ?_
            refine j_subN hC (by omega) d_X_join_178 ?_
            refine x_put_piled hC d_X_join_179 ?_
            refine j_iload_3 hC d_X_join_182 ?_
            refine j_ireturn hC hr ?_ d_X_join_183
            refine RX_join hR4 hp4 (by omega) (by omega) (by omega) (by omega) (fun _ => ⟨Nat.le_refl _, by omega, fun i hi => ?_, fun i hi => ?_⟩)
            · rw [g4 (t + i) (by omega), g1 i (by omega)]; exact (hxs.2.2 i hi)
            · rw [← hex, g3 i (by omega), g2 (bd' (5 + pi) + i) (by omega)]; exact (hys.2.2 i hi)
    · refine j_bipush hC bm5 d_X_join_40 ?_
      refine j_ireturn hC hr ?_ d_X_join_42
      exact ⟨_, (if_neg (by show ¬ pi < 2; omega)).trans (if_pos (by show 40 < n (4 + pi) + n (5 + pi); omega)), hR⟩
  · refine j_bipush hC bm3 d_X_join_8 ?_
    refine j_ireturn hC hr ?_ d_X_join_10
    exact ⟨_, if_pos c_5, hR⟩
theorem ordG_eq {f g : Nat → Int32} {m m' : Nat} : ∀ {k i : Nat}, (∀ j, i ≤ j → j < i + k → f j = g j) → ordG f g m m' k i = ordG f g m m' 0 0
  | 0, _, _ => rfl
  | k + 1, i, h => by
    show (if f i = g i then ordG f g m m' k (i + 1) else _) = _
    rw [if_pos (h i (Nat.le_refl _) (by omega))]
    exact ordG_eq (fun j h1 h2 => h j (by omega) (by omega))
theorem ordG_no {f g : Nat → Int32} {m m' k i : Nat} (h : ¬ f i = g i) : ordG f g m m' (k + 1) i = if f i < g i then nI 1 else nI 2 := if_neg h
theorem ordG_go {f g : Nat → Int32} {m m' k i : Nat} (h : f i = g i) : ordG f g m m' (k + 1) i = ordG f g m m' k (i + 1) := if_pos h
set_option maxRecDepth 20000 in
/-- compare -/
theorem c_X_compare (l : Launch) (a : Ab) (u : SX) (hR : RX a u) (hW : Wf a.1 a.2.1)   : CtI l y_X_compare b_X_compare 7 (some .int) 3 wX [] u (fun r u' => ∃ a', sp_compare a = (r, a') ∧ RX a' u') := by
  obtain ⟨p, n, ch⟩ := a
  obtain ⟨kd, li, pi, le, bd, bo, sr, wa, ta⟩ := u
  have hR : RXc p n ch kd li pi le bd bo sr := hR
  have hW : Wf p n := hW
  obtain ⟨h1, h2⟩ : kd = n 10 ∧ pi = p := ⟨hR.1, hR.2.2.1⟩
  subst h1
  subst h2
  have hp4 := hW.1
  have hn40 := hW.2.1
  have hs := hW.2.2
  have hd := hR.2.2.2.2.2
  have hl := hR.2.2.2.2.1
  have hli := hR.2.1
  have hbo := hR.2.2.2.1
  have hle : ∀ d, d < 10 → le d ≤ 40 := fun d h => (hl d h).1
  have hsl : sumN le (6 + pi) = sumN n (6 + pi) := sumN_cg (fun d h => (hd d h).1)
  refine CtI.of0 (by decide +kernel) rfl (by decide) (fun E q hl hC hr => ?_)
  subst hl
  refine j_aload_0 hC d_X_compare_0 ?_
  refine x_get_piled hC d_X_compare_1 ?_
  refine j_iconst hC ic_2 d_X_compare_4 ?_
  refine j_geN hC 11 (by decide) (by omega) (by omega) d_X_compare_5 (fun c_5 => ?_) (fun c_5 => ?_)
  · have hlx := hl (4 + pi) (by omega)
    have hly := hl (5 + pi) (by omega)
    have hdx := hd (4 + pi) (by omega)
    have hdy := hd (5 + pi) (by omega)
    have hex := hdx.1
    have hey := hdy.1
    refine j_aload_0 hC d_X_compare_11 ?_
    refine x_calli0 hC (c_X_top (eL E)) v_X_top k_X_46 (by decide) (Nat.le_of_ble_eq_true rfl) d_X_compare_12 (fun r u' h9 => ?_)
    obtain ⟨rfl, rfl⟩ := h9
    rw [show 6 + pi - 1 = 5 + pi by omega]
    refine j_istore_1 hC (by decide) d_X_compare_15 ?_
    refine j_iload_1 hC d_X_compare_16 ?_
    refine j_iconst hC ic_1 d_X_compare_17 ?_
    refine j_subN hC (by omega) d_X_compare_18 ?_
    rw [show 5 + pi - 1 = 4 + pi by omega]
    refine j_istore_2 hC (by decide) d_X_compare_19 ?_
    have mg : ∀ b : Nat, b = min (n (4 + pi)) (n (5 + pi)) → J E (QI E q wX (fun r u' => ∃ a', sp_compare (pi, n, ch) = (r, a') ∧ RX a' u')) (wX (eI E) (eZ E) q (n 10, li, pi, le, bd, bo, sr, wa, ta)) (some (.ref (q 0))) (some (.int (nI (5 + pi)))) (some (.int (nI (4 + pi)))) none none none none none 50 [.int (nI b)] := by
      intro b hb
      refine j_istore_3 hC (by decide) d_X_compare_50 ?_
      refine j_aload_0 hC d_X_compare_51 ?_
      refine j_aload_0 hC d_X_compare_52 ?_
      refine x_get_piled hC d_X_compare_53 ?_
      refine j_iconst hC ic_2 d_X_compare_56 ?_
      refine j_subN hC (by omega) d_X_compare_57 ?_
      refine x_put_piled hC d_X_compare_58 ?_
      refine j_aload_0 hC d_X_compare_61 ?_
      refine x_get_body hC d_X_compare_62 ?_
      refine j_iload_2 hC d_X_compare_65 ?_
      refine x_ld_body hC (by omega) d_X_compare_66 ?_
      refine j_aload_0 hC d_X_compare_67 ?_
      refine x_get_body hC d_X_compare_68 ?_
      refine j_iload_1 hC d_X_compare_71 ?_
      refine x_ld_body hC (by omega) d_X_compare_72 ?_
      refine j_eqN hC 143 (by decide) (by omega) (by omega) d_X_compare_73 (fun c_73 => ?_) (fun c_73 => ?_)
      · refine j_aload_0 hC d_X_compare_143 ?_
        refine x_get_length hC d_X_compare_144 ?_
        refine j_iload_2 hC d_X_compare_147 ?_
        refine x_ld_length hC (by omega) d_X_compare_148 ?_
        refine j_aload_0 hC d_X_compare_149 ?_
        refine x_get_length hC d_X_compare_150 ?_
        refine j_iload_1 hC d_X_compare_153 ?_
        refine x_ld_length hC (by omega) d_X_compare_154 ?_
        refine j_neN hC 160 (by decide) (by omega) (by omega) d_X_compare_155 (fun c_155 => ?_) (fun c_155 => ?_)
        · refine j_aload_0 hC d_X_compare_160 ?_
          refine x_get_length hC d_X_compare_161 ?_
          refine j_iload_2 hC d_X_compare_164 ?_
          refine x_ld_length hC (by omega) d_X_compare_165 ?_
          refine j_aload_0 hC d_X_compare_166 ?_
          refine x_get_length hC d_X_compare_167 ?_
          refine j_iload_1 hC d_X_compare_170 ?_
          refine x_ld_length hC (by omega) d_X_compare_171 ?_
          refine j_geN hC 179 (by decide) (by omega) (by omega) d_X_compare_172 (fun c_172 => ?_) (fun c_172 => ?_)
          · refine j_iconst hC ic_2 d_X_compare_179 ?_
            refine j_ireturn hC hr ?_ d_X_compare_180
            refine ⟨_, (if_neg (by show ¬ pi < 2; omega)).trans (Prod.ext ?_ rfl), RX_less (by omega) hR⟩
            show ordG (ch (4 + pi)) (ch (5 + pi)) (n (4 + pi)) (n (5 + pi)) (min (n (4 + pi)) (n (5 + pi))) 0 = _
            rw [ordG_eq (fun j _ h2 => ?_)]
            rotate_left
            · obtain ⟨x1, x2, x3⟩ := hdx.2 (by omega)
              obtain ⟨y1, y2, y3⟩ := hdy.2 (by omega)
              rw [← x3 j (by omega), ← y3 j (by omega), c_73]
            show (if n (4 + pi) = n (5 + pi) then nI 0 else if n (4 + pi) < n (5 + pi) then nI 1 else nI 2) = _
            rw [if_neg (by omega), if_neg (by omega)]
          · refine j_iconst hC ic_1 d_X_compare_175 ?_
            refine j_goto hC 180 (by decide) d_X_compare_176 ?_
            refine j_ireturn hC hr ?_ d_X_compare_180
            refine ⟨_, (if_neg (by show ¬ pi < 2; omega)).trans (Prod.ext ?_ rfl), RX_less (by omega) hR⟩
            show ordG (ch (4 + pi)) (ch (5 + pi)) (n (4 + pi)) (n (5 + pi)) (min (n (4 + pi)) (n (5 + pi))) 0 = _
            rw [ordG_eq (fun j _ h2 => ?_)]
            rotate_left
            · obtain ⟨x1, x2, x3⟩ := hdx.2 (by omega)
              obtain ⟨y1, y2, y3⟩ := hdy.2 (by omega)
              rw [← x3 j (by omega), ← y3 j (by omega), c_73]
            show (if n (4 + pi) = n (5 + pi) then nI 0 else if n (4 + pi) < n (5 + pi) then nI 1 else nI 2) = _
            rw [if_neg (by omega), if_pos (by omega)]
        · refine j_iconst hC ic_0 d_X_compare_158 ?_
          refine j_ireturn hC hr ?_ d_X_compare_159
          refine ⟨_, (if_neg (by show ¬ pi < 2; omega)).trans (Prod.ext ?_ rfl), RX_less (by omega) hR⟩
          show ordG (ch (4 + pi)) (ch (5 + pi)) (n (4 + pi)) (n (5 + pi)) (min (n (4 + pi)) (n (5 + pi))) 0 = _
          rw [ordG_eq (fun j _ h2 => ?_)]
          rotate_left
          · obtain ⟨x1, x2, x3⟩ := hdx.2 (by omega)
            obtain ⟨y1, y2, y3⟩ := hdy.2 (by omega)
            rw [← x3 j (by omega), ← y3 j (by omega), c_73]
          show (if n (4 + pi) = n (5 + pi) then nI 0 else if n (4 + pi) < n (5 + pi) then nI 1 else nI 2) = _
          rw [if_pos (by omega)]
      · refine j_iconst hC ic_0 d_X_compare_76 ?_
        refine j_istore_4 hC (by decide) d_X_compare_77 ?_
        have lp : ∀ (k i : Nat) (l5 l6 : Option Value), b - i < k → i ≤ b → ordG (ch (4 + pi)) (ch (5 + pi)) (n (4 + pi)) (n (5 + pi)) (min (n (4 + pi)) (n (5 + pi))) 0 = ordG (ch (4 + pi)) (ch (5 + pi)) (n (4 + pi)) (n (5 + pi)) (b - i) i → J E (QI E q wX (fun r u' => ∃ a', sp_compare (pi, n, ch) = (r, a') ∧ RX a' u')) (wX (eI E) (eZ E) q (n 10, li, pi - 2, le, bd, bo, sr, wa, ta)) (some (.ref (q 0))) (some (.int (nI (5 + pi)))) (some (.int (nI (4 + pi)))) (some (.int (nI b))) (some (.int (nI i))) l5 l6 none 79 [] := by
          intro k
          induction k with
          | zero =>
            intro i l5 l6 hk hi hi2
            exact absurd hk (Nat.not_lt_zero _)
          | succ k ih_lp =>
            intro i l5 l6 hk hi hi2
            refine j_iload_4 hC d_X_compare_79 ?_
            refine j_iload_3 hC d_X_compare_81 ?_
            refine j_geN hC 143 (by decide) (by omega) (by omega) d_X_compare_82 (fun c_82 => ?_) (fun c_82 => ?_)
            · refine j_aload_0 hC d_X_compare_143 ?_
              refine x_get_length hC d_X_compare_144 ?_
              refine j_iload_2 hC d_X_compare_147 ?_
              refine x_ld_length hC (by omega) d_X_compare_148 ?_
              refine j_aload_0 hC d_X_compare_149 ?_
              refine x_get_length hC d_X_compare_150 ?_
              refine j_iload_1 hC d_X_compare_153 ?_
              refine x_ld_length hC (by omega) d_X_compare_154 ?_
              refine j_neN hC 160 (by decide) (by omega) (by omega) d_X_compare_155 (fun c_155 => ?_) (fun c_155 => ?_)
              · refine j_aload_0 hC d_X_compare_160 ?_
                refine x_get_length hC d_X_compare_161 ?_
                refine j_iload_2 hC d_X_compare_164 ?_
                refine x_ld_length hC (by omega) d_X_compare_165 ?_
                refine j_aload_0 hC d_X_compare_166 ?_
                refine x_get_length hC d_X_compare_167 ?_
                refine j_iload_1 hC d_X_compare_170 ?_
                refine x_ld_length hC (by omega) d_X_compare_171 ?_
                refine j_geN hC 179 (by decide) (by omega) (by omega) d_X_compare_172 (fun c_172 => ?_) (fun c_172 => ?_)
                · refine j_iconst hC ic_2 d_X_compare_179 ?_
                  refine j_ireturn hC hr ?_ d_X_compare_180
                  refine ⟨_, (if_neg (by show ¬ pi < 2; omega)).trans (Prod.ext ?_ rfl), RX_less (by omega) hR⟩
                  show ordG (ch (4 + pi)) (ch (5 + pi)) (n (4 + pi)) (n (5 + pi)) (min (n (4 + pi)) (n (5 + pi))) 0 = _
                  rw [hi2, show b - i = 0 by omega]
                  show (if n (4 + pi) = n (5 + pi) then nI 0 else if n (4 + pi) < n (5 + pi) then nI 1 else nI 2) = _
                  rw [if_neg (by omega), if_neg (by omega)]
                · refine j_iconst hC ic_1 d_X_compare_175 ?_
                  refine j_goto hC 180 (by decide) d_X_compare_176 ?_
                  refine j_ireturn hC hr ?_ d_X_compare_180
                  refine ⟨_, (if_neg (by show ¬ pi < 2; omega)).trans (Prod.ext ?_ rfl), RX_less (by omega) hR⟩
                  show ordG (ch (4 + pi)) (ch (5 + pi)) (n (4 + pi)) (n (5 + pi)) (min (n (4 + pi)) (n (5 + pi))) 0 = _
                  rw [hi2, show b - i = 0 by omega]
                  show (if n (4 + pi) = n (5 + pi) then nI 0 else if n (4 + pi) < n (5 + pi) then nI 1 else nI 2) = _
                  rw [if_neg (by omega), if_pos (by omega)]
              · refine j_iconst hC ic_0 d_X_compare_158 ?_
                refine j_ireturn hC hr ?_ d_X_compare_159
                refine ⟨_, (if_neg (by show ¬ pi < 2; omega)).trans (Prod.ext ?_ rfl), RX_less (by omega) hR⟩
                show ordG (ch (4 + pi)) (ch (5 + pi)) (n (4 + pi)) (n (5 + pi)) (min (n (4 + pi)) (n (5 + pi))) 0 = _
                rw [hi2, show b - i = 0 by omega]
                show (if n (4 + pi) = n (5 + pi) then nI 0 else if n (4 + pi) < n (5 + pi) then nI 1 else nI 2) = _
                rw [if_pos (by omega)]
            · obtain ⟨x1, x2, x3⟩ := hdx.2 (by omega)
              obtain ⟨y1, y2, y3⟩ := hdy.2 (by omega)
              have hxi := x3 i (by omega)
              have hyi := y3 i (by omega)
              refine j_aload_0 hC d_X_compare_85 ?_
              refine x_get_store hC d_X_compare_86 ?_
              refine j_aload_0 hC d_X_compare_89 ?_
              refine x_get_body hC d_X_compare_90 ?_
              refine j_iload_2 hC d_X_compare_93 ?_
              refine x_ld_body hC (by omega) d_X_compare_94 ?_
              refine j_iload_4 hC d_X_compare_95 ?_
              refine j_addN hC d_X_compare_97 ?_
              refine x_ld_store hC (by omega) d_X_compare_98 ?_
              refine j_istore_5 hC (by decide) d_X_compare_99 ?_
              refine j_aload_0 hC d_X_compare_101 ?_
              refine x_get_store hC d_X_compare_102 ?_
              refine j_aload_0 hC d_X_compare_105 ?_
              refine x_get_body hC d_X_compare_106 ?_
              refine j_iload_1 hC d_X_compare_109 ?_
              refine x_ld_body hC (by omega) d_X_compare_110 ?_
              refine j_iload_4 hC d_X_compare_111 ?_
              refine j_addN hC d_X_compare_113 ?_
              refine x_ld_store hC (by omega) d_X_compare_114 ?_
              refine j_istore_6 hC (by decide) d_X_compare_115 ?_
              refine j_iload_5 hC d_X_compare_117 ?_
              refine j_iload_6 hC d_X_compare_119 ?_
              refine j_icmp_eq hC 137 (by decide) d_X_compare_121 (fun c_121 => ?_) (fun c_121 => ?_)
              · refine j_iinc_4 hC inc1 (by decide) d_X_compare_137 ?_
                refine j_goto hC 79 (by decide) d_X_compare_140 ?_
                rw [show b - i = (b - (i + 1)) + 1 by omega, ordG_go (by rw [← hxi, ← hyi]; exact c_121)] at hi2
                exact ih_lp (i + 1) _ _ (by omega) (by omega) hi2
              · refine j_iload_5 hC d_X_compare_124 ?_
                refine j_iload_6 hC d_X_compare_126 ?_
                refine j_icmp_ge hC 135 (by decide) d_X_compare_128 (fun c_128 => ?_) (fun c_128 => ?_)
                · refine j_iconst hC ic_2 d_X_compare_135 ?_
                  refine j_ireturn hC hr ?_ d_X_compare_136
                  refine ⟨_, (if_neg (by show ¬ pi < 2; omega)).trans (Prod.ext ?_ rfl), RX_less (by omega) hR⟩
                  show ordG (ch (4 + pi)) (ch (5 + pi)) (n (4 + pi)) (n (5 + pi)) (min (n (4 + pi)) (n (5 + pi))) 0 = _
                  rw [hi2, show b - i = (b - (i + 1)) + 1 by omega, ordG_no (by rw [← hxi, ← hyi]; exact c_121), ← hxi, ← hyi]
                  rw [if_neg (Int32.not_lt.mpr c_128)]
                · refine j_iconst hC ic_1 d_X_compare_131 ?_
                  refine j_goto hC 136 (by decide) d_X_compare_132 ?_
                  refine j_ireturn hC hr ?_ d_X_compare_136
                  refine ⟨_, (if_neg (by show ¬ pi < 2; omega)).trans (Prod.ext ?_ rfl), RX_less (by omega) hR⟩
                  show ordG (ch (4 + pi)) (ch (5 + pi)) (n (4 + pi)) (n (5 + pi)) (min (n (4 + pi)) (n (5 + pi))) 0 = _
                  rw [hi2, show b - i = (b - (i + 1)) + 1 by omega, ordG_no (by rw [← hxi, ← hyi]; exact c_121), ← hxi, ← hyi]
                  rw [if_pos (Int32.not_le.mp c_128)]
        exact lp (b + 1) 0 none none (by omega) (Nat.zero_le _) (by rw [Nat.sub_zero, hb])
    refine j_aload_0 hC d_X_compare_20 ?_
    refine x_get_length hC d_X_compare_21 ?_
    refine j_iload_2 hC d_X_compare_24 ?_
    refine x_ld_length hC (by omega) d_X_compare_25 ?_
    refine j_aload_0 hC d_X_compare_26 ?_
    refine x_get_length hC d_X_compare_27 ?_
    refine j_iload_1 hC d_X_compare_30 ?_
    refine x_ld_length hC (by omega) d_X_compare_31 ?_
    refine j_geN hC 44 (by decide) (by omega) (by omega) d_X_compare_32 (fun c_32 => ?_) (fun c_32 => ?_)
    · refine j_aload_0 hC d_X_compare_44 ?_
      refine x_get_length hC d_X_compare_45 ?_
      refine j_iload_1 hC d_X_compare_48 ?_
      refine x_ld_length hC (by omega) d_X_compare_49 ?_
      exact mg _ (by omega)
    · refine j_aload_0 hC d_X_compare_35 ?_
      refine x_get_length hC d_X_compare_36 ?_
      refine j_iload_2 hC d_X_compare_39 ?_
      refine x_ld_length hC (by omega) d_X_compare_40 ?_
      refine j_goto hC 50 (by decide) d_X_compare_41 ?_
      exact mg _ (by omega)
  · refine j_bipush hC bm3 d_X_compare_8 ?_
    refine j_ireturn hC hr ?_ d_X_compare_10
    exact ⟨_, if_pos c_5, hR⟩
set_option maxRecDepth 20000 in
/-- beginsAt -/
theorem c_X_beginsAt (l : Launch) (a : Ab) (u : SX) (hR : RX a u) (hW : Wf a.1 a.2.1)  {x v i : Nat} (hx : x < 6) (hv : v < 6) (hi : i + a.2.1 v ≤ a.2.1 x) : CtI l y_X_beginsAt b_X_beginsAt 5 (some .boolean) 0 wX [.int (nI x), .int (nI v), .int (nI i)] u (fun r u' => u' = u ∧ (r = 0 ↔ ¬ ∀ y, y < a.2.1 v → a.2.2 x (i + y) = a.2.2 v y)) := by
  obtain ⟨p, n, ch⟩ := a
  obtain ⟨kd, li, pi, le, bd, bo, sr, wa, ta⟩ := u
  have hR : RXc p n ch kd li pi le bd bo sr := hR
  have hW : Wf p n := hW
  obtain ⟨h1, h2⟩ : kd = n 10 ∧ pi = p := ⟨hR.1, hR.2.2.1⟩
  subst h1
  subst h2
  have hp4 := hW.1
  have hn40 := hW.2.1
  have hs := hW.2.2
  have hd := hR.2.2.2.2.2
  have hl := hR.2.2.2.2.1
  have hli := hR.2.1
  have hbo := hR.2.2.2.1
  have hle : ∀ d, d < 10 → le d ≤ 40 := fun d h => (hl d h).1
  have hsl : sumN le (6 + pi) = sumN n (6 + pi) := sumN_cg (fun d h => (hd d h).1)
  have hi : i + n v ≤ n x := hi
  have hlx := hl x (by omega)
  have hlv := hl v (by omega)
  have hdx := hd x (by omega)
  have hdv := hd v (by omega)
  have hex := hdx.1
  have hev := hdv.1
  refine CtI.of3 (by decide +kernel) rfl (by decide) (fun E q hl hC hr => ?_)
  subst hl
  refine j_iconst hC ic_0 d_X_beginsAt_0 ?_
  refine j_istore_4 hC (by decide) d_X_beginsAt_1 ?_
  have lp : ∀ (k y : Nat), n v - y < k → y ≤ n v → (∀ z, z < y → ch x (i + z) = ch v z) → J E (QI E q wX (fun r u' => u' = (n 10, li, pi, le, bd, bo, sr, wa, ta) ∧ (r = 0 ↔ ¬ ∀ y, y < n v → ch x (i + y) = ch v y))) (wX (eI E) (eZ E) q (n 10, li, pi, le, bd, bo, sr, wa, ta)) (some (.ref (q 0))) (some (.int (nI x))) (some (.int (nI v))) (some (.int (nI i))) (some (.int (nI y))) none none none 3 [] := by
    intro k
    induction k with
    | zero =>
      intro y hk hy h1
      exact absurd hk (Nat.not_lt_zero _)
    | succ k ih_lp =>
      intro y hk hy h1
      refine j_iload_4 hC d_X_beginsAt_3 ?_
      refine j_aload_0 hC d_X_beginsAt_5 ?_
      refine x_get_length hC d_X_beginsAt_6 ?_
      refine j_iload_2 hC d_X_beginsAt_9 ?_
      refine x_ld_length hC (by omega) d_X_beginsAt_10 ?_
      refine j_geN hC 55 (by decide) (by omega) (by omega) d_X_beginsAt_11 (fun c_11 => ?_) (fun c_11 => ?_)
      · refine j_iconst hC ic_1 d_X_beginsAt_55 ?_
        refine j_zreturn hC bz1 hr ?_ d_X_beginsAt_56
        exact ⟨rfl, fun z => absurd z z1n, fun z => absurd (fun y2 hy2 => h1 y2 (by omega)) z⟩
      · obtain ⟨x1, x2, x3⟩ := hdx.2 (by omega)
        obtain ⟨y1, y2, y3⟩ := hdv.2 (by omega)
        have hxi := x3 (i + y) (by omega)
        have hvi := y3 y (by omega)
        rw [← Nat.add_assoc] at hxi
        refine j_aload_0 hC d_X_beginsAt_14 ?_
        refine x_get_store hC d_X_beginsAt_15 ?_
        refine j_aload_0 hC d_X_beginsAt_18 ?_
        refine x_get_body hC d_X_beginsAt_19 ?_
        refine j_iload_1 hC d_X_beginsAt_22 ?_
        refine x_ld_body hC (by omega) d_X_beginsAt_23 ?_
        refine j_iload_3 hC d_X_beginsAt_24 ?_
        refine j_addN hC d_X_beginsAt_25 ?_
        refine j_iload_4 hC d_X_beginsAt_26 ?_
        refine j_addN hC d_X_beginsAt_28 ?_
        refine x_ld_store hC (by omega) d_X_beginsAt_29 ?_
        refine j_aload_0 hC d_X_beginsAt_30 ?_
        refine x_get_store hC d_X_beginsAt_31 ?_
        refine j_aload_0 hC d_X_beginsAt_34 ?_
        refine x_get_body hC d_X_beginsAt_35 ?_
        refine j_iload_2 hC d_X_beginsAt_38 ?_
        refine x_ld_body hC (by omega) d_X_beginsAt_39 ?_
        refine j_iload_4 hC d_X_beginsAt_40 ?_
        refine j_addN hC d_X_beginsAt_42 ?_
        refine x_ld_store hC (by omega) d_X_beginsAt_43 ?_
        refine j_icmp_eq hC 49 (by decide) d_X_beginsAt_44 (fun c_44 => ?_) (fun c_44 => ?_)
        · refine j_iinc_4 hC inc1 (by decide) d_X_beginsAt_49 ?_
          refine j_goto hC 3 (by decide) d_X_beginsAt_52 ?_
          refine ih_lp (y + 1) (by omega) (by omega) (fun z hz => ?_)
          by_cases e : z = y
          · subst e; rw [← hxi, ← hvi]; exact c_44
          · exact h1 z (by omega)
        · refine j_iconst hC ic_0 d_X_beginsAt_47 ?_
          refine j_zreturn hC bz0 hr ?_ d_X_beginsAt_48
          exact ⟨rfl, fun _ z => c_44 (by rw [hxi, hvi]; exact z y (by omega)), fun _ => nI_0⟩
  exact lp (n v + 1) 0 (by omega) (Nat.zero_le _) (fun z hz => by omega)
theorem finG_no {f g : Nat → Int32} {m m' : Nat} : ∀ {k i : Nat}, m < i + m' → finG f g m m' k i = 0
  | 0, _, _ => rfl
  | k + 1, i, h => by
    show (if i + m' ≤ m ∧ _ then i + 1 else finG f g m m' k (i + 1)) = 0
    rw [if_neg (fun z => by omega)]
    exact finG_no (by omega)
theorem finG_yes {f g : Nat → Int32} {m m' k i : Nat} (h : i + m' ≤ m) (h2 : ∀ y, y < m' → f (i + y) = g y) : finG f g m m' (k + 1) i = i + 1 := if_pos ⟨h, h2⟩
theorem finG_go {f g : Nat → Int32} {m m' k i : Nat} (h2 : ¬ ∀ y, y < m' → f (i + y) = g y) : finG f g m m' (k + 1) i = finG f g m m' k (i + 1) := if_neg (fun z => h2 z.2)
theorem sp_find_N {a : Ab} {i j : Nat} (hi : i < 6) (hj : j < 6) : sp_find a (nI i) (nI j) = (nI (finG (a.2.2 i) (a.2.2 j) (a.2.1 i) (a.2.1 j) (a.2.1 i) 0), a) := by
  unfold sp_find
  rw [if_neg (fun q => q.elim (notV hi) (notV hj)), cl (by omega), cl (by omega)]
set_option maxRecDepth 20000 in
/-- find -/
theorem c_X_find (l : Launch) (a : Ab) (u : SX) (hR : RX a u) (hW : Wf a.1 a.2.1) {u0 : Int32} {v0 : Int32}  : CtI l y_X_find b_X_find 5 (some .int) 3 wX [.int u0, .int v0] u (fun r u' => ∃ a', sp_find a u0 v0 = (r, a') ∧ RX a' u') := by
  obtain ⟨p, n, ch⟩ := a
  obtain ⟨kd, li, pi, le, bd, bo, sr, wa, ta⟩ := u
  have hR : RXc p n ch kd li pi le bd bo sr := hR
  have hW : Wf p n := hW
  obtain ⟨h1, h2⟩ : kd = n 10 ∧ pi = p := ⟨hR.1, hR.2.2.1⟩
  subst h1
  subst h2
  have hp4 := hW.1
  have hn40 := hW.2.1
  have hs := hW.2.2
  have hd := hR.2.2.2.2.2
  have hl := hR.2.2.2.2.1
  have hli := hR.2.1
  have hbo := hR.2.2.2.1
  have hle : ∀ d, d < 10 → le d ≤ 40 := fun d h => (hl d h).1
  have hsl : sumN le (6 + pi) = sumN n (6 + pi) := sumN_cg (fun d h => (hd d h).1)
  refine CtI.of2 (by decide +kernel) rfl (by decide) (fun E q hl hC hr => ?_)
  subst hl
  refine j_aload_0 hC d_X_find_0 ?_
  refine j_iload_1 hC d_X_find_1 ?_
  refine x_calli1 hC (c_X_badVariable (eL E)) v_X_badVariable k_X_67 (by decide) (Nat.le_of_ble_eq_true rfl) d_X_find_2 (fun r0 u' h9 => ?_)
  obtain ⟨rfl, hb⟩ := h9
  refine j_if_ne hC 16 (by decide) d_X_find_5 (fun c_5 => ?_) (fun c_5 => ?_)
  · refine j_iconst hC im1 d_X_find_16 ?_
    refine j_ireturn hC hr ?_ d_X_find_17
    exact ⟨_, if_pos (Or.inl (Decidable.byContradiction fun z => c_5 (hb.mpr z))), hR⟩
  · refine j_aload_0 hC d_X_find_8 ?_
    refine j_iload_2 hC d_X_find_9 ?_
    refine x_calli1 hC (c_X_badVariable (eL E)) v_X_badVariable k_X_67 (by decide) (Nat.le_of_ble_eq_true rfl) d_X_find_10 (fun r1 u' h9 => ?_)
    obtain ⟨rfl, hb2⟩ := h9
    refine j_if_eq hC 18 (by decide) d_X_find_13 (fun c_13 => ?_) (fun c_13 => ?_)
    · obtain ⟨x, hx, rfl⟩ := okV (hb.mp c_5)
      obtain ⟨v, hv, rfl⟩ := okV (hb2.mp c_13)
      have hlx := hl x (by omega)
      have hlv := hl v (by omega)
      have hex := (hd x (by omega)).1
      have hev := (hd v (by omega)).1
      refine j_aload_0 hC d_X_find_18 ?_
      refine x_get_length hC d_X_find_19 ?_
      refine j_iload_1 hC d_X_find_22 ?_
      refine x_ld_length hC (by omega) d_X_find_23 ?_
      refine j_nezN hC 29 (by decide) (by omega) d_X_find_24 (fun c_24 => ?_) (fun c_24 => ?_)
      · refine j_iconst hC ic_0 d_X_find_29 ?_
        refine j_istore_3 hC (by decide) d_X_find_30 ?_
        have lp : ∀ (k i : Nat) (l4 : Option Value), n x + 1 - i < k → (i < n x ∨ 0 < n v) → i ≤ n x → finG (ch x) (ch v) (n x) (n v) (n x) 0 = finG (ch x) (ch v) (n x) (n v) (n x - i) i → J E (QI E q wX (fun r u' => ∃ a', sp_find (pi, n, ch) (nI x) (nI v) = (r, a') ∧ RX a' u')) (wX (eI E) (eZ E) q (n 10, li, pi, le, bd, bo, sr, wa, ta)) (some (.ref (q 0))) (some (.int (nI x))) (some (.int (nI v))) (some (.int (nI i))) l4 none none none 31 [] := by
          intro k
          induction k with
          | zero =>
            intro i l4 hk hi hi3 hi2
            exact absurd hk (Nat.not_lt_zero _)
          | succ k ih_lp =>
            intro i l4 hk hi hi3 hi2
            refine j_iload_3 hC d_X_find_31 ?_
            refine j_aload_0 hC d_X_find_32 ?_
            refine x_get_length hC d_X_find_33 ?_
            refine j_iload_2 hC d_X_find_36 ?_
            refine x_ld_length hC (by omega) d_X_find_37 ?_
            refine j_addN hC d_X_find_38 ?_
            refine j_aload_0 hC d_X_find_39 ?_
            refine x_get_length hC d_X_find_40 ?_
            refine j_iload_1 hC d_X_find_43 ?_
            refine x_ld_length hC (by omega) d_X_find_44 ?_
            refine j_gtN hC 72 (by decide) (by omega) (by omega) d_X_find_45 (fun c_45 => ?_) (fun c_45 => ?_)
            · refine j_iconst hC ic_0 d_X_find_72 ?_
              refine j_ireturn hC hr ?_ d_X_find_73
              refine ⟨_, (sp_find_N hx hv).trans (Prod.ext ?_ rfl), hR⟩
              show nI (finG (ch x) (ch v) (n x) (n v) (n x) 0) = nI 0
              rw [hi2, finG_no (by omega)]
            · refine j_aload_0 hC d_X_find_48 ?_
              refine j_iload_1 hC d_X_find_49 ?_
              refine j_iload_2 hC d_X_find_50 ?_
              refine j_iload_3 hC d_X_find_51 ?_
              refine x_calli3 hC (c_X_beginsAt (eL E) (pi, n, ch) (n 10, li, pi, le, bd, bo, sr, wa, ta) hR hW hx hv (i := i) (by show i + n v ≤ n x; omega)) v_X_beginsAt k_X_78 (by decide) (Nat.le_of_ble_eq_true rfl) d_X_find_52 (fun r u' h9 => ?_)
              obtain ⟨rfl, hbg⟩ := h9
              refine j_istore_4 hC (by decide) d_X_find_55 ?_
              refine j_iload_4 hC d_X_find_57 ?_
              refine j_if_eq hC 66 (by decide) d_X_find_59 (fun c_59 => ?_) (fun c_59 => ?_)
              · refine j_iinc_3 hC inc1 (by decide) d_X_find_66 ?_
                refine j_goto hC 31 (by decide) d_X_find_69 ?_
                have hv0 : 0 < n v := Nat.pos_of_ne_zero (fun z => hbg.mp c_59 (fun y hy => absurd hy (by show ¬ y < n v; omega)))
                rw [show n x - i = (n x - (i + 1)) + 1 by omega, finG_go (hbg.mp c_59)] at hi2
                exact ih_lp (i + 1) _ (by omega) (Or.inr hv0) (by omega) hi2
              · refine j_iload_3 hC d_X_find_62 ?_
                refine j_iconst hC ic_1 d_X_find_63 ?_
                refine j_addN hC d_X_find_64 ?_
                refine j_ireturn hC hr ?_ d_X_find_65
                refine ⟨_, (sp_find_N hx hv).trans (Prod.ext ?_ rfl), hR⟩
                show nI (finG (ch x) (ch v) (n x) (n v) (n x) 0) = nI (i + 1)
                rw [hi2, show n x - i = (n x - (i + 1)) + 1 by omega, finG_yes (f := ch x) (g := ch v) (m := n x) (m' := n v) (by omega) (Decidable.byContradiction fun z => c_59 (hbg.mpr z))]
        exact lp (n x + 2) 0 none (by omega) (Or.inl (by omega)) (Nat.zero_le _) rfl
      · refine j_iconst hC ic_0 d_X_find_27 ?_
        refine j_ireturn hC hr ?_ d_X_find_28
        refine ⟨_, (sp_find_N hx hv).trans (Prod.ext ?_ rfl), hR⟩
        show nI (finG (ch x) (ch v) (n x) (n v) (n x) 0) = nI 0
        rw [show n x = 0 by omega]
        rfl
    · refine j_iconst hC im1 d_X_find_16 ?_
      refine j_ireturn hC hr ?_ d_X_find_17
      exact ⟨_, if_pos (Or.inr (Decidable.byContradiction fun z => c_13 (hb2.mpr z))), hR⟩
set_option maxRecDepth 20000 in
/-- shared -/
theorem c_X_shared (l : Launch) (a : Ab) (u : SX) (hR : RX a u) (hW : Wf a.1 a.2.1)  {v : Nat} (hv : v < 6) : CtI l y_X_shared b_X_shared 5 (some .boolean) 0 wX [.int (nI v)] u (fun r u' => u' = u ∧ (r = 0 → ∀ e, e < 6 + a.1 → e ≠ v → 0 < a.2.1 e → u.2.2.2.2.1 e + a.2.1 e ≤ u.2.2.2.2.1 v ∨ u.2.2.2.2.1 v + a.2.1 v ≤ u.2.2.2.2.1 e)) := by
  obtain ⟨p, n, ch⟩ := a
  obtain ⟨kd, li, pi, le, bd, bo, sr, wa, ta⟩ := u
  have hR : RXc p n ch kd li pi le bd bo sr := hR
  have hW : Wf p n := hW
  obtain ⟨h1, h2⟩ : kd = n 10 ∧ pi = p := ⟨hR.1, hR.2.2.1⟩
  subst h1
  subst h2
  have hp4 := hW.1
  have hn40 := hW.2.1
  have hs := hW.2.2
  have hd := hR.2.2.2.2.2
  have hl := hR.2.2.2.2.1
  have hli := hR.2.1
  have hbo := hR.2.2.2.1
  have hle : ∀ d, d < 10 → le d ≤ 40 := fun d h => (hl d h).1
  have hsl : sumN le (6 + pi) = sumN n (6 + pi) := sumN_cg (fun d h => (hd d h).1)
  have hlv := hl v (by omega)
  have hev := (hd v (by omega)).1
  refine CtI.of1 (by decide +kernel) rfl (by decide) (fun E q hl hC hr => ?_)
  subst hl
  refine j_iconst hC ic_0 d_X_shared_0 ?_
  refine j_istore_2 hC (by decide) d_X_shared_1 ?_
  refine j_iconst hC ic_0 d_X_shared_2 ?_
  refine j_istore_3 hC (by decide) d_X_shared_3 ?_
  have lp : ∀ (k d f : Nat) (l4 : Option Value), 10 - d < k → d ≤ 10 → f ≤ 1 → (f = 0 → ∀ e, e < d → e < 6 + pi → e ≠ v → 0 < n e → bd e + n e ≤ bd v ∨ bd v + n v ≤ bd e) → J E (QI E q wX (fun r u' => u' = (n 10, li, pi, le, bd, bo, sr, wa, ta) ∧ (r = 0 → ∀ e, e < 6 + pi → e ≠ v → 0 < n e → bd e + n e ≤ bd v ∨ bd v + n v ≤ bd e))) (wX (eI E) (eZ E) q (n 10, li, pi, le, bd, bo, sr, wa, ta)) (some (.ref (q 0))) (some (.int (nI v))) (some (.int (nI f))) (some (.int (nI d))) l4 none none none 4 [] := by
    intro k
    induction k with
    | zero =>
      intro d f l4 hk hdd hf h1
      exact absurd hk (Nat.not_lt_zero _)
    | succ k ih_lp =>
      intro d f l4 hk hdd hf h1
      refine j_iload_3 hC d_X_shared_4 ?_
      refine j_bipush hC bp_10 d_X_shared_5 ?_
      refine j_geN hC 99 (by decide) (by omega) (by omega) d_X_shared_7 (fun c_7 => ?_) (fun c_7 => ?_)
      · refine j_iload_2 hC d_X_shared_99 ?_
        refine j_zreturn hC (by rcases (show f = 0 ∨ f = 1 by omega) with rfl | rfl <;> decide +kernel) hr ?_ d_X_shared_100
        refine ⟨rfl, fun z e h3 => ?_⟩
        exact h1 ((nI_eq0 (by omega)).mp z) e (by omega) h3
      · have hld := hl d (by omega)
        refine j_iload_3 hC d_X_shared_10 ?_
        refine j_iload_1 hC d_X_shared_11 ?_
        refine j_eqN hC 39 (by decide) (by omega) (by omega) d_X_shared_12 (fun c_12 => ?_) (fun c_12 => ?_)
        · refine j_iconst hC ic_0 d_X_shared_39 ?_
          refine j_istore_4 hC (by decide) d_X_shared_40 ?_
          refine j_iload_4 hC d_X_shared_42 ?_
          refine j_eqzN hC 93 (by decide) (by omega) d_X_shared_44 (fun c_44 => ?_) (fun c_44 => ?_)
          · refine j_iinc_3 hC inc1 (by decide) d_X_shared_93 ?_
            refine j_goto hC 4 (by decide) d_X_shared_96 ?_
            refine ih_lp (d + 1) f _ (by omega) (by omega) hf (fun z e h3 h4 h5 h6 => ?_)
            by_cases w : e = d
            · subst w; omega
            · exact h1 z e (by omega) h4 h5 h6
          · exact absurd rfl c_44
        · refine j_iload_3 hC d_X_shared_15 ?_
          refine j_bipush hC bp_6 d_X_shared_16 ?_
          refine j_aload_0 hC d_X_shared_18 ?_
          refine x_get_piled hC d_X_shared_19 ?_
          refine j_addN hC d_X_shared_22 ?_
          refine j_geN hC 39 (by decide) (by omega) (by omega) d_X_shared_23 (fun c_23 => ?_) (fun c_23 => ?_)
          · refine j_iconst hC ic_0 d_X_shared_39 ?_
            refine j_istore_4 hC (by decide) d_X_shared_40 ?_
            refine j_iload_4 hC d_X_shared_42 ?_
            refine j_eqzN hC 93 (by decide) (by omega) d_X_shared_44 (fun c_44 => ?_) (fun c_44 => ?_)
            · refine j_iinc_3 hC inc1 (by decide) d_X_shared_93 ?_
              refine j_goto hC 4 (by decide) d_X_shared_96 ?_
              refine ih_lp (d + 1) f _ (by omega) (by omega) hf (fun z e h3 h4 h5 h6 => ?_)
              by_cases w : e = d
              · subst w; omega
              · exact h1 z e (by omega) h4 h5 h6
            · exact absurd rfl c_44
          · have hed := (hd d (by omega)).1
            refine j_aload_0 hC d_X_shared_26 ?_
            refine x_get_length hC d_X_shared_27 ?_
            refine j_iload_3 hC d_X_shared_30 ?_
            refine x_ld_length hC (by omega) d_X_shared_31 ?_
            refine j_lezN hC 39 (by decide) (by omega) d_X_shared_32 (fun c_32 => ?_) (fun c_32 => ?_)
            · refine j_iconst hC ic_0 d_X_shared_39 ?_
              refine j_istore_4 hC (by decide) d_X_shared_40 ?_
              refine j_iload_4 hC d_X_shared_42 ?_
              refine j_eqzN hC 93 (by decide) (by omega) d_X_shared_44 (fun c_44 => ?_) (fun c_44 => ?_)
              · refine j_iinc_3 hC inc1 (by decide) d_X_shared_93 ?_
                refine j_goto hC 4 (by decide) d_X_shared_96 ?_
                refine ih_lp (d + 1) f _ (by omega) (by omega) hf (fun z e h3 h4 h5 h6 => ?_)
                by_cases w : e = d
                · subst w; omega
                · exact h1 z e (by omega) h4 h5 h6
              · exact absurd rfl c_44
            · refine j_iconst hC ic_1 d_X_shared_35 ?_
              refine j_goto hC 40 (by decide) d_X_shared_36 ?_
              refine j_istore_4 hC (by decide) d_X_shared_40 ?_
              refine j_iload_4 hC d_X_shared_42 ?_
              refine j_eqzN hC 93 (by decide) (by omega) d_X_shared_44 (fun c_44 => ?_) (fun c_44 => ?_)
              · exact absurd c_44 (by decide)
              · refine j_aload_0 hC d_X_shared_47 ?_
                refine x_get_body hC d_X_shared_48 ?_
                refine j_iload_3 hC d_X_shared_51 ?_
                refine x_ld_body hC (by omega) d_X_shared_52 ?_
                refine j_aload_0 hC d_X_shared_53 ?_
                refine x_get_body hC d_X_shared_54 ?_
                refine j_iload_1 hC d_X_shared_57 ?_
                refine x_ld_body hC (by omega) d_X_shared_58 ?_
                refine j_aload_0 hC d_X_shared_59 ?_
                refine x_get_length hC d_X_shared_60 ?_
                refine j_iload_1 hC d_X_shared_63 ?_
                refine x_ld_length hC (by omega) d_X_shared_64 ?_
                refine j_addN hC d_X_shared_65 ?_
                refine j_geN hC 93 (by decide) (by omega) (by omega) d_X_shared_66 (fun c_66 => ?_) (fun c_66 => ?_)
                · refine j_iinc_3 hC inc1 (by decide) d_X_shared_93 ?_
                  refine j_goto hC 4 (by decide) d_X_shared_96 ?_
                  refine ih_lp (d + 1) f _ (by omega) (by omega) hf (fun z e h3 h4 h5 h6 => ?_)
                  by_cases w : e = d
                  · subst w; omega
                  · exact h1 z e (by omega) h4 h5 h6
                · refine j_aload_0 hC d_X_shared_69 ?_
                  refine x_get_body hC d_X_shared_70 ?_
                  refine j_iload_1 hC d_X_shared_73 ?_
                  refine x_ld_body hC (by omega) d_X_shared_74 ?_
                  refine j_aload_0 hC d_X_shared_75 ?_
                  refine x_get_body hC d_X_shared_76 ?_
                  refine j_iload_3 hC d_X_shared_79 ?_
                  refine x_ld_body hC (by omega) d_X_shared_80 ?_
                  refine j_aload_0 hC d_X_shared_81 ?_
                  refine x_get_length hC d_X_shared_82 ?_
                  refine j_iload_3 hC d_X_shared_85 ?_
                  refine x_ld_length hC (by omega) d_X_shared_86 ?_
                  refine j_addN hC d_X_shared_87 ?_
                  refine j_geN hC 93 (by decide) (by omega) (by omega) d_X_shared_88 (fun c_88 => ?_) (fun c_88 => ?_)
                  · refine j_iinc_3 hC inc1 (by decide) d_X_shared_93 ?_
                    refine j_goto hC 4 (by decide) d_X_shared_96 ?_
                    refine ih_lp (d + 1) f _ (by omega) (by omega) hf (fun z e h3 h4 h5 h6 => ?_)
                    by_cases w : e = d
                    · subst w; omega
                    · exact h1 z e (by omega) h4 h5 h6
                  · refine j_iconst hC ic_1 d_X_shared_91 ?_
                    refine j_istore_2 hC (by decide) d_X_shared_92 ?_
                    refine j_iinc_3 hC inc1 (by decide) d_X_shared_93 ?_
                    refine j_goto hC 4 (by decide) d_X_shared_96 ?_
                    exact ih_lp (d + 1) 1 _ (by omega) (by omega) (by omega) (fun z => absurd z (by decide))
  exact lp 11 0 0 none (by omega) (Nat.zero_le _) (by omega) (fun _ e he => by omega)
theorem sp_swap_N {a : Ab} {i j : Nat} (hi : i < 6) (hj : j < 6) : sp_swap a (nI i) (nI j) = sp_swapN a i j := by
  unfold sp_swap
  rw [if_neg (fun q => q.elim (notV hi) (notV hj)), cl (by omega), cl (by omega)]
theorem sp_chr_N {a : Ab} {d i : Nat} (h0 : 0 < i) (h : i ≤ a.2.1 d) (hm : a.2.1 d < 1000) : sp_chr a d (nI i) = (a.2.2 d (i - 1), a) := by
  unfold sp_chr
  rw [if_neg (notI h0 h hm), cl (by omega)]
theorem sp_at_N {a : Ab} {j : Nat} {i : Int32} (hj : j < 6) : sp_at a (nI j) i = sp_chr a j i := by
  unfold sp_at
  rw [if_neg (notV hj), cl (by omega)]
set_option maxRecDepth 20000 in
/-- swap -/
theorem c_X_swap (l : Launch) (a : Ab) (u : SX) (hR : RX a u) (hW : Wf a.1 a.2.1) {u0 : Int32} {v0 : Int32}  : CtI l y_X_swap b_X_swap 5 (some .int) 3 wX [.int u0, .int v0] u (fun r u' => ∃ a', sp_swap a u0 v0 = (r, a') ∧ RX a' u') := by
  obtain ⟨p, n, ch⟩ := a
  obtain ⟨kd, li, pi, le, bd, bo, sr, wa, ta⟩ := u
  have hR : RXc p n ch kd li pi le bd bo sr := hR
  have hW : Wf p n := hW
  obtain ⟨h1, h2⟩ : kd = n 10 ∧ pi = p := ⟨hR.1, hR.2.2.1⟩
  subst h1
  subst h2
  have hp4 := hW.1
  have hn40 := hW.2.1
  have hs := hW.2.2
  have hd := hR.2.2.2.2.2
  have hl := hR.2.2.2.2.1
  have hli := hR.2.1
  have hbo := hR.2.2.2.1
  have hle : ∀ d, d < 10 → le d ≤ 40 := fun d h => (hl d h).1
  have hsl : sumN le (6 + pi) = sumN n (6 + pi) := sumN_cg (fun d h => (hd d h).1)
  refine CtI.of2 (by decide +kernel) rfl (by decide) (fun E q hl hC hr => ?_)
  subst hl
  refine j_aload_0 hC d_X_swap_0 ?_
  refine j_iload_1 hC d_X_swap_1 ?_
  refine x_calli1 hC (c_X_badVariable (eL E)) v_X_badVariable k_X_67 (by decide) (Nat.le_of_ble_eq_true rfl) d_X_swap_2 (fun r0 u' h9 => ?_)
  obtain ⟨rfl, hb⟩ := h9
  refine j_if_ne hC 16 (by decide) d_X_swap_5 (fun c_5 => ?_) (fun c_5 => ?_)
  · refine j_iconst hC im1 d_X_swap_16 ?_
    refine j_ireturn hC hr ?_ d_X_swap_17
    exact ⟨_, if_pos (Or.inl (Decidable.byContradiction fun z => c_5 (hb.mpr z))), hR⟩
  · refine j_aload_0 hC d_X_swap_8 ?_
    refine j_iload_2 hC d_X_swap_9 ?_
    refine x_calli1 hC (c_X_badVariable (eL E)) v_X_badVariable k_X_67 (by decide) (Nat.le_of_ble_eq_true rfl) d_X_swap_10 (fun r1 u' h9 => ?_)
    obtain ⟨rfl, hb2⟩ := h9
    refine j_if_eq hC 18 (by decide) d_X_swap_13 (fun c_13 => ?_) (fun c_13 => ?_)
    · obtain ⟨x, hx, rfl⟩ := okV (hb.mp c_5)
      obtain ⟨v, hv, rfl⟩ := okV (hb2.mp c_13)
      have hlx := hl x (by omega)
      have hlv := hl v (by omega)
      have hdx := hd x (by omega)
      have hdv := hd v (by omega)
      refine j_aload_0 hC d_X_swap_18 ?_
      refine x_get_body hC d_X_swap_19 ?_
      refine j_iload_1 hC d_X_swap_22 ?_
      refine x_ld_body hC (by omega) d_X_swap_23 ?_
      refine j_istore_3 hC (by decide) d_X_swap_24 ?_
      refine j_aload_0 hC d_X_swap_25 ?_
      refine x_get_length hC d_X_swap_26 ?_
      refine j_iload_1 hC d_X_swap_29 ?_
      refine x_ld_length hC (by omega) d_X_swap_30 ?_
      refine j_istore_4 hC (by decide) d_X_swap_31 ?_
      refine j_aload_0 hC d_X_swap_33 ?_
      refine x_get_body hC d_X_swap_34 ?_
      refine j_iload_1 hC d_X_swap_37 ?_
      refine j_aload_0 hC d_X_swap_38 ?_
      refine x_get_body hC d_X_swap_39 ?_
      refine j_iload_2 hC d_X_swap_42 ?_
      refine x_ld_body hC (by omega) d_X_swap_43 ?_
      refine x_st_body hC (by omega) d_X_swap_44 ?_
      refine j_aload_0 hC d_X_swap_45 ?_
      refine x_get_length hC d_X_swap_46 ?_
      refine j_iload_1 hC d_X_swap_49 ?_
      refine j_aload_0 hC d_X_swap_50 ?_
      refine x_get_length hC d_X_swap_51 ?_
      refine j_iload_2 hC d_X_swap_54 ?_
      refine x_ld_length hC (by omega) d_X_swap_55 ?_
      refine x_st_length hC (by omega) d_X_swap_56 ?_
      refine j_aload_0 hC d_X_swap_57 ?_
      refine x_get_body hC d_X_swap_58 ?_
      refine j_iload_2 hC d_X_swap_61 ?_
      refine j_iload_3 hC d_X_swap_62 ?_
      refine x_st_body hC (by omega) d_X_swap_63 ?_
      refine j_aload_0 hC d_X_swap_64 ?_
      refine x_get_length hC d_X_swap_65 ?_
      refine j_iload_2 hC d_X_swap_68 ?_
      refine j_iload_4 hC d_X_swap_69 ?_
      refine x_st_length hC (by omega) d_X_swap_71 ?_
      refine j_iconst hC ic_0 d_X_swap_72 ?_
      refine j_ireturn hC hr ?_ d_X_swap_73
      refine ⟨_, sp_swap_N hx hv, ?_⟩
      have e1 := hdx.1
      have e2 := hdv.1
      rw [e1, e2]
      exact RX_set (m := n x) (RX_set (m := n v) hR (by omega) (fun e h3 _ => h3) (by omega) (by omega) hdv.2) (by omega) (fun e h3 _ => h3) (by omega) (by omega) hdx.2
    · refine j_iconst hC im1 d_X_swap_16 ?_
      refine j_ireturn hC hr ?_ d_X_swap_17
      exact ⟨_, if_pos (Or.inr (Decidable.byContradiction fun z => c_13 (hb2.mpr z))), hR⟩
set_option maxRecDepth 20000 in
/-- length -/
theorem c_X_length (l : Launch) (a : Ab) (u : SX) (hR : RX a u) (hW : Wf a.1 a.2.1) {v : Int32}  : CtI l y_X_length b_X_length 2 (some .int) 3 wX [.int v] u (fun r u' => ∃ a', sp_length a v = (r, a') ∧ RX a' u') := by
  obtain ⟨p, n, ch⟩ := a
  obtain ⟨kd, li, pi, le, bd, bo, sr, wa, ta⟩ := u
  have hR : RXc p n ch kd li pi le bd bo sr := hR
  have hW : Wf p n := hW
  obtain ⟨h1, h2⟩ : kd = n 10 ∧ pi = p := ⟨hR.1, hR.2.2.1⟩
  subst h1
  subst h2
  have hp4 := hW.1
  have hn40 := hW.2.1
  have hs := hW.2.2
  have hd := hR.2.2.2.2.2
  have hl := hR.2.2.2.2.1
  have hli := hR.2.1
  have hbo := hR.2.2.2.1
  have hle : ∀ d, d < 10 → le d ≤ 40 := fun d h => (hl d h).1
  have hsl : sumN le (6 + pi) = sumN n (6 + pi) := sumN_cg (fun d h => (hd d h).1)
  refine CtI.of1 (by decide +kernel) rfl (by decide) (fun E q hl hC hr => ?_)
  subst hl
  refine j_aload_0 hC d_X_length_0 ?_
  refine j_iload_1 hC d_X_length_1 ?_
  refine x_calli1 hC (c_X_badVariable (eL E)) v_X_badVariable k_X_67 (by decide) (Nat.le_of_ble_eq_true rfl) d_X_length_2 (fun r0 u' h9 => ?_)
  obtain ⟨rfl, hb⟩ := h9
  refine j_if_eq hC 12 (by decide) d_X_length_5 (fun c_5 => ?_) (fun c_5 => ?_)
  · obtain ⟨j, hj, rfl⟩ := okV (hb.mp c_5)
    have hej := (hd j (by omega)).1
    refine j_aload_0 hC d_X_length_12 ?_
    refine x_get_length hC d_X_length_13 ?_
    refine j_iload_1 hC d_X_length_16 ?_
    refine x_ld_length hC (by omega) d_X_length_17 ?_
    refine j_ireturn hC hr ?_ d_X_length_18
    rw [hej]
    exact ⟨(pi, n, ch), (if_neg (notV hj)).trans (by rw [cl (by omega)]), hR⟩
  · refine j_iconst hC im1 d_X_length_8 ?_
    refine j_goto hC 18 (by decide) d_X_length_9 ?_
    refine j_ireturn hC hr ?_ d_X_length_18
    exact ⟨_, if_pos (Decidable.byContradiction fun z => c_5 (hb.mpr z)), hR⟩
set_option maxRecDepth 20000 in
/-- at -/
theorem c_X_at (l : Launch) (a : Ab) (u : SX) (hR : RX a u) (hW : Wf a.1 a.2.1) {i0 : Int32} {v : Int32}  : CtI l y_X_at b_X_at 3 (some .int) 3 wX [.int v, .int i0] u (fun r u' => ∃ a', sp_at a v i0 = (r, a') ∧ RX a' u') := by
  obtain ⟨p, n, ch⟩ := a
  obtain ⟨kd, li, pi, le, bd, bo, sr, wa, ta⟩ := u
  have hR : RXc p n ch kd li pi le bd bo sr := hR
  have hW : Wf p n := hW
  obtain ⟨h1, h2⟩ : kd = n 10 ∧ pi = p := ⟨hR.1, hR.2.2.1⟩
  subst h1
  subst h2
  have hp4 := hW.1
  have hn40 := hW.2.1
  have hs := hW.2.2
  have hd := hR.2.2.2.2.2
  have hl := hR.2.2.2.2.1
  have hli := hR.2.1
  have hbo := hR.2.2.2.1
  have hle : ∀ d, d < 10 → le d ≤ 40 := fun d h => (hl d h).1
  have hsl : sumN le (6 + pi) = sumN n (6 + pi) := sumN_cg (fun d h => (hd d h).1)
  refine CtI.of2 (by decide +kernel) rfl (by decide) (fun E q hl hC hr => ?_)
  subst hl
  refine j_aload_0 hC d_X_at_0 ?_
  refine j_iload_1 hC d_X_at_1 ?_
  refine x_calli1 hC (c_X_badVariable (eL E)) v_X_badVariable k_X_67 (by decide) (Nat.le_of_ble_eq_true rfl) d_X_at_2 (fun r0 u' h9 => ?_)
  obtain ⟨rfl, hb⟩ := h9
  refine j_if_ne hC 23 (by decide) d_X_at_5 (fun c_5 => ?_) (fun c_5 => ?_)
  · refine j_iconst hC ic_0 d_X_at_23 ?_
    refine j_ireturn hC hr ?_ d_X_at_24
    exact ⟨_, if_pos (Decidable.byContradiction fun z => c_5 (hb.mpr z)), hR⟩
  · obtain ⟨j, hj, rfl⟩ := okV (hb.mp c_5)
    have hlj := hl j (by omega)
    have hdj := hd j (by omega)
    have hej := hdj.1
    have hnj := hn40 j (by omega)
    refine j_iload_2 hC d_X_at_8 ?_
    refine j_iconst hC ir_1 d_X_at_9 ?_
    refine j_icmp_lt hC 23 (by decide) d_X_at_10 (fun c_10 => ?_) (fun c_10 => ?_)
    · refine j_iconst hC ic_0 d_X_at_23 ?_
      refine j_ireturn hC hr ?_ d_X_at_24
      exact ⟨_, (sp_at_N hj).trans (if_pos (Or.inl c_10)), hR⟩
    · refine j_iload_2 hC d_X_at_13 ?_
      refine j_aload_0 hC d_X_at_14 ?_
      refine x_get_length hC d_X_at_15 ?_
      refine j_iload_1 hC d_X_at_18 ?_
      refine x_ld_length hC (by omega) d_X_at_19 ?_
      refine j_icmp_le hC 25 (by decide) d_X_at_20 (fun c_20 => ?_) (fun c_20 => ?_)
      · rw [hej] at c_20
        obtain ⟨i, hi0, hi, rfl⟩ := okI (m := n j) (by omega) (fun z => z.elim c_10 (fun z => absurd c_20 (Int32.not_le.mpr z)))
        obtain ⟨x1, x2, x3⟩ := hdj.2 (by omega)
        have hx3 := x3 (i - 1) (by omega)
        rw [show bd j + (i - 1) = bd j + i - 1 by omega] at hx3
        refine j_aload_0 hC d_X_at_25 ?_
        refine x_get_store hC d_X_at_26 ?_
        refine j_aload_0 hC d_X_at_29 ?_
        refine x_get_body hC d_X_at_30 ?_
        refine j_iload_1 hC d_X_at_33 ?_
        refine x_ld_body hC (by omega) d_X_at_34 ?_
        refine j_iload_2 hC d_X_at_35 ?_
        refine j_addN hC d_X_at_36 ?_
        refine j_iconst hC ic_1 d_X_at_37 ?_
        refine j_subN hC (by omega) d_X_at_38 ?_
        refine x_ld_store hC (by omega) d_X_at_39 ?_
        refine j_ireturn hC hr ?_ d_X_at_40
        rw [hx3]
        exact ⟨_, (sp_at_N hj).trans (sp_chr_N hi0 hi (by show n j < 1000; omega)), hR⟩
      · refine j_iconst hC ic_0 d_X_at_23 ?_
        refine j_ireturn hC hr ?_ d_X_at_24
        rw [hej] at c_20
        exact ⟨_, (sp_at_N hj).trans (if_pos (Or.inr (Int32.not_le.mp c_20))), hR⟩
set_option maxRecDepth 20000 in
/-- pile -/
theorem c_X_pile (l : Launch) (a : Ab) (u : SX) (hR : RX a u) (hW : Wf a.1 a.2.1)   : CtI l y_X_pile b_X_pile 1 (some .int) 3 wX [] u (fun r u' => ∃ a', sp_pile a = (r, a') ∧ RX a' u') := by
  obtain ⟨p, n, ch⟩ := a
  obtain ⟨kd, li, pi, le, bd, bo, sr, wa, ta⟩ := u
  have hR : RXc p n ch kd li pi le bd bo sr := hR
  have hW : Wf p n := hW
  obtain ⟨h1, h2⟩ : kd = n 10 ∧ pi = p := ⟨hR.1, hR.2.2.1⟩
  subst h1
  subst h2
  have hp4 := hW.1
  have hn40 := hW.2.1
  have hs := hW.2.2
  have hd := hR.2.2.2.2.2
  have hl := hR.2.2.2.2.1
  have hli := hR.2.1
  have hbo := hR.2.2.2.1
  have hle : ∀ d, d < 10 → le d ≤ 40 := fun d h => (hl d h).1
  have hsl : sumN le (6 + pi) = sumN n (6 + pi) := sumN_cg (fun d h => (hd d h).1)
  refine CtI.of0 (by decide +kernel) rfl (by decide) (fun E q hl hC hr => ?_)
  subst hl
  refine j_aload_0 hC d_X_pile_0 ?_
  refine x_get_piled hC d_X_pile_1 ?_
  refine j_ireturn hC hr ?_ d_X_pile_4
  exact ⟨_, rfl, hR⟩
set_option maxRecDepth 20000 in
/-- topLength -/
theorem c_X_topLength (l : Launch) (a : Ab) (u : SX) (hR : RX a u) (hW : Wf a.1 a.2.1)   : CtI l y_X_topLength b_X_topLength 1 (some .int) 3 wX [] u (fun r u' => ∃ a', sp_topLength a = (r, a') ∧ RX a' u') := by
  obtain ⟨p, n, ch⟩ := a
  obtain ⟨kd, li, pi, le, bd, bo, sr, wa, ta⟩ := u
  have hR : RXc p n ch kd li pi le bd bo sr := hR
  have hW : Wf p n := hW
  obtain ⟨h1, h2⟩ : kd = n 10 ∧ pi = p := ⟨hR.1, hR.2.2.1⟩
  subst h1
  subst h2
  have hp4 := hW.1
  have hn40 := hW.2.1
  have hs := hW.2.2
  have hd := hR.2.2.2.2.2
  have hl := hR.2.2.2.2.1
  have hli := hR.2.1
  have hbo := hR.2.2.2.1
  have hle : ∀ d, d < 10 → le d ≤ 40 := fun d h => (hl d h).1
  have hsl : sumN le (6 + pi) = sumN n (6 + pi) := sumN_cg (fun d h => (hd d h).1)
  refine CtI.of0 (by decide +kernel) rfl (by decide) (fun E q hl hC hr => ?_)
  subst hl
  refine j_aload_0 hC d_X_topLength_0 ?_
  refine x_get_piled hC d_X_topLength_1 ?_
  refine j_nezN hC 12 (by decide) (by omega) d_X_topLength_4 (fun c_4 => ?_) (fun c_4 => ?_)
  · have het := (hd (5 + pi) (by omega)).1
    refine j_aload_0 hC d_X_topLength_12 ?_
    refine x_get_length hC d_X_topLength_13 ?_
    refine j_aload_0 hC d_X_topLength_16 ?_
    refine x_calli0 hC (c_X_top (eL E)) v_X_top k_X_46 (by decide) (Nat.le_of_ble_eq_true rfl) d_X_topLength_17 (fun r u' h9 => ?_)
    obtain ⟨rfl, rfl⟩ := h9
    rw [show 6 + pi - 1 = 5 + pi by omega]
    refine x_ld_length hC (by omega) d_X_topLength_20 ?_
    refine j_ireturn hC hr ?_ d_X_topLength_21
    rw [het]
    exact ⟨_, if_neg c_4, hR⟩
  · refine j_bipush hC bm3 d_X_topLength_7 ?_
    refine j_goto hC 21 (by decide) d_X_topLength_9 ?_
    refine j_ireturn hC hr ?_ d_X_topLength_21
    exact ⟨_, if_pos c_4, hR⟩
set_option maxRecDepth 20000 in
/-- topAt -/
theorem c_X_topAt (l : Launch) (a : Ab) (u : SX) (hR : RX a u) (hW : Wf a.1 a.2.1) {i0 : Int32}  : CtI l y_X_topAt b_X_topAt 3 (some .int) 3 wX [.int i0] u (fun r u' => ∃ a', sp_topAt a i0 = (r, a') ∧ RX a' u') := by
  obtain ⟨p, n, ch⟩ := a
  obtain ⟨kd, li, pi, le, bd, bo, sr, wa, ta⟩ := u
  have hR : RXc p n ch kd li pi le bd bo sr := hR
  have hW : Wf p n := hW
  obtain ⟨h1, h2⟩ : kd = n 10 ∧ pi = p := ⟨hR.1, hR.2.2.1⟩
  subst h1
  subst h2
  have hp4 := hW.1
  have hn40 := hW.2.1
  have hs := hW.2.2
  have hd := hR.2.2.2.2.2
  have hl := hR.2.2.2.2.1
  have hli := hR.2.1
  have hbo := hR.2.2.2.1
  have hle : ∀ d, d < 10 → le d ≤ 40 := fun d h => (hl d h).1
  have hsl : sumN le (6 + pi) = sumN n (6 + pi) := sumN_cg (fun d h => (hd d h).1)
  refine CtI.of1 (by decide +kernel) rfl (by decide) (fun E q hl hC hr => ?_)
  subst hl
  refine j_aload_0 hC d_X_topAt_0 ?_
  refine x_get_piled hC d_X_topAt_1 ?_
  refine j_nezN hC 9 (by decide) (by omega) d_X_topAt_4 (fun c_4 => ?_) (fun c_4 => ?_)
  · have hlj := hl (5 + pi) (by omega)
    have hdj := hd (5 + pi) (by omega)
    have hej := hdj.1
    have hnj := hn40 (5 + pi) (by omega)
    refine j_aload_0 hC d_X_topAt_9 ?_
    refine x_calli0 hC (c_X_top (eL E)) v_X_top k_X_46 (by decide) (Nat.le_of_ble_eq_true rfl) d_X_topAt_10 (fun r u' h9 => ?_)
    obtain ⟨rfl, rfl⟩ := h9
    rw [show 6 + pi - 1 = 5 + pi by omega]
    refine j_istore_2 hC (by decide) d_X_topAt_13 ?_
    refine j_iload_1 hC d_X_topAt_14 ?_
    refine j_iconst hC ir_1 d_X_topAt_15 ?_
    refine j_icmp_lt hC 29 (by decide) d_X_topAt_16 (fun c_16 => ?_) (fun c_16 => ?_)
    · refine j_iconst hC ic_0 d_X_topAt_29 ?_
      refine j_ireturn hC hr ?_ d_X_topAt_30
      exact ⟨_, (if_neg c_4).trans (if_pos (Or.inl c_16)), hR⟩
    · refine j_iload_1 hC d_X_topAt_19 ?_
      refine j_aload_0 hC d_X_topAt_20 ?_
      refine x_get_length hC d_X_topAt_21 ?_
      refine j_iload_2 hC d_X_topAt_24 ?_
      refine x_ld_length hC (by omega) d_X_topAt_25 ?_
      refine j_icmp_le hC 31 (by decide) d_X_topAt_26 (fun c_26 => ?_) (fun c_26 => ?_)
      · rw [hej] at c_26
        obtain ⟨i, hi0, hi, rfl⟩ := okI (m := n (5 + pi)) (by omega) (fun z => z.elim c_16 (fun z => absurd c_26 (Int32.not_le.mpr z)))
        obtain ⟨x1, x2, x3⟩ := hdj.2 (by omega)
        have hx3 := x3 (i - 1) (by omega)
        rw [show bd (5 + pi) + (i - 1) = bd (5 + pi) + i - 1 by omega] at hx3
        refine j_aload_0 hC d_X_topAt_31 ?_
        refine x_get_store hC d_X_topAt_32 ?_
        refine j_aload_0 hC d_X_topAt_35 ?_
        refine x_get_body hC d_X_topAt_36 ?_
        refine j_iload_2 hC d_X_topAt_39 ?_
        refine x_ld_body hC (by omega) d_X_topAt_40 ?_
        refine j_iload_1 hC d_X_topAt_41 ?_
        refine j_addN hC d_X_topAt_42 ?_
        refine j_iconst hC ic_1 d_X_topAt_43 ?_
        refine j_subN hC (by omega) d_X_topAt_44 ?_
        refine x_ld_store hC (by omega) d_X_topAt_45 ?_
        refine j_ireturn hC hr ?_ d_X_topAt_46
        rw [hx3]
        exact ⟨_, (if_neg c_4).trans (sp_chr_N hi0 hi (by show n (5 + pi) < 1000; omega)), hR⟩
      · refine j_iconst hC ic_0 d_X_topAt_29 ?_
        refine j_ireturn hC hr ?_ d_X_topAt_30
        rw [hej] at c_26
        exact ⟨_, (if_neg c_4).trans (if_pos (Or.inr (Int32.not_le.mp c_26))), hR⟩
  · refine j_iconst hC ic_0 d_X_topAt_7 ?_
    refine j_ireturn hC hr ?_ d_X_topAt_8
    exact ⟨_, if_pos c_4, hR⟩
set_option maxRecDepth 20000 in
/-- used -/
theorem c_X_used_R (l : Launch) (a : Ab) (u : SX) (hR : RX a u) (hW : Wf a.1 a.2.1)   : CtI l y_X_used b_X_used 3 (some .int) 3 wX [] u (fun r u' => ∃ a', sp_used a = (r, a') ∧ RX a' u') := by
  obtain ⟨p, n, ch⟩ := a
  obtain ⟨kd, li, pi, le, bd, bo, sr, wa, ta⟩ := u
  have hR : RXc p n ch kd li pi le bd bo sr := hR
  have hW : Wf p n := hW
  obtain ⟨h1, h2⟩ : kd = n 10 ∧ pi = p := ⟨hR.1, hR.2.2.1⟩
  subst h1
  subst h2
  have hp4 := hW.1
  have hn40 := hW.2.1
  have hs := hW.2.2
  have hd := hR.2.2.2.2.2
  have hl := hR.2.2.2.2.1
  have hli := hR.2.1
  have hbo := hR.2.2.2.1
  have hle : ∀ d, d < 10 → le d ≤ 40 := fun d h => (hl d h).1
  have hsl : sumN le (6 + pi) = sumN n (6 + pi) := sumN_cg (fun d h => (hd d h).1)
  refine CtI.of0 (by decide +kernel) rfl (by decide) (fun E q hl hC hr => ?_)
  subst hl
  refine j_iconst hC ic_0 d_X_used_0 ?_
  refine j_istore_1 hC (by decide) d_X_used_1 ?_
  refine j_iconst hC ic_0 d_X_used_2 ?_
  refine j_istore_2 hC (by decide) d_X_used_3 ?_
  have lp : ∀ (k i : Nat), 6 + pi - i < k → i ≤ 6 + pi → J E (QI E q wX (fun r u' => ∃ a', sp_used (pi, n, ch) = (r, a') ∧ RX a' u')) (wX (eI E) (eZ E) q (n 10, li, pi, le, bd, bo, sr, wa, ta)) (some (.ref (q 0))) (some (.int (nI (sumN le i)))) (some (.int (nI i))) none none none none none 4 [] := by
    intro k
    induction k with
    | zero =>
      intro i hk hi
      exact absurd hk (Nat.not_lt_zero _)
    | succ k ih_lp =>
      intro i hk hi
      refine j_iload_2 hC d_X_used_4 ?_
      refine j_aload_0 hC d_X_used_5 ?_
      refine x_calli0 hC (c_X_descriptors (eL E)) v_X_descriptors k_X_85 (by decide) (Nat.le_of_ble_eq_true rfl) d_X_used_6 (fun r u' hp => ?_)
      obtain ⟨rfl, rfl⟩ := hp
      refine j_geN hC 27 (by decide) (by omega) (by omega) d_X_used_9 (fun c_9 => ?_) (fun c_9 => ?_)
      · refine j_iload_1 hC d_X_used_27 ?_
        refine j_ireturn hC hr ?_ d_X_used_28
        have e : i = 6 + pi := by omega
        subst e
        rw [hsl]
        exact ⟨_, rfl, hR⟩
      · refine j_iload_1 hC d_X_used_12 ?_
        refine j_aload_0 hC d_X_used_13 ?_
        refine x_get_length hC d_X_used_14 ?_
        refine j_iload_2 hC d_X_used_17 ?_
        refine x_ld_length hC (by omega) d_X_used_18 ?_
        refine j_addN hC d_X_used_19 ?_
        refine j_istore_1 hC (by decide) d_X_used_20 ?_
        refine j_iinc_2 hC inc1 (by decide) d_X_used_21 ?_
        refine j_goto hC 4 (by decide) d_X_used_24 ?_
        exact ih_lp (i + 1) (by omega) (by omega)
  exact lp (7 + pi) 0 (by omega) (Nat.zero_le _)
end X3
end
section
section X4
theorem sp_setMid_N {a : Ab} {j i : Nat} (hj : j < 6) (hi0 : 0 < i) (hi : i < 256) (hp : a.1 ≠ 0) : sp_setMid a (nI j) (nI i) = sp_setMidN a j (i - 1) := by
  unfold sp_setMid
  rw [if_neg (fun q => q.elim (notV hj) (not1 hi0 hi)), if_neg hp, cl (by omega), cl (by omega)]
theorem ovr_0 {f g : Nat → Int32} {i : Nat} : ovr f g i 0 = f := by
  funext j
  exact if_neg (by omega)
theorem sub_lt1 {a b : Nat} (h : a < b) (hb : b < 1000) : nI a - nI b + nI 1 < nI 1 := by
  have e : nI a - nI b + nI 1 = nI (a + 1) - nI b := by
    rw [Int32.sub_eq_add_neg, Int32.add_assoc, Int32.add_comm (-nI b), ← Int32.add_assoc, nI_add, ← Int32.sub_eq_add_neg]
  rw [e, Int32.lt_iff_toInt_lt, pk_sub_toInt (by omega) (by omega), nI_toInt (by decide)]
  omega
/-- nothing is set -/
theorem RX_mid0 {p kd bo : Nat} {li sr wa : Nat → Int32} {n le bd ta : Nat → Nat} {ch : Nat → Nat → Int32} (h : RXc p n ch kd li p le bd bo sr) {j i : Nat} (h0 : min (n (5 + p)) (n j - i) = 0) : ∃ a', sp_setMidN (p, n, ch) j i = (nI 0, a') ∧ RX a' (kd, li, p - 1, le, bd, bo, sr, wa, ta) := by
  refine ⟨(p - 1, n, ch), ?_, RX_less (Nat.sub_le _ _) h⟩
  show (nI (min (n (5 + p)) (n j - i)), (p - 1, n, upC ch j (ovr (ch j) (ch (5 + p)) i (min (n (5 + p)) (n j - i))))) = _
  rw [h0, ovr_0, upC_id]
theorem RX_mid {p kd bo : Nat} {li sr sr' wa : Nat → Int32} {n le bd ta : Nat → Nat} {ch : Nat → Nat → Int32} (h : RXc p n ch kd li p le bd bo sr) (hp : p ≤ 4) {j i m : Nat} (hj : j < 6 + p) (hm : m = min (n (5 + p)) (n j - i)) (hm0 : 0 < m)
    (hun : ∀ e, e < 6 + p → e ≠ j → 0 < n e → bd e + n e ≤ bd j ∨ bd j + n j ≤ bd e) (hin : ∀ y, y < m → sr' (bd j + i + y) = ch (5 + p) y) (hout : ∀ x, (x < bd j + i ∨ bd j + i + m ≤ x) → sr' x = sr x) : ∃ a', sp_setMidN (p, n, ch) j i = (nI m, a') ∧ RX a' (kd, li, p - 1, le, bd, bo, sr', wa, ta) := by
  subst hm
  refine ⟨_, rfl, ?_⟩
  rcases RX_over h (k := i) (m := min (n (5 + p)) (n j - i)) (g := ch (5 + p)) hj (by omega) hun hin hout with q | q
  · exact RX_less (Nat.sub_le _ _) q
  · omega
set_option maxRecDepth 20000 in
/-- setMid -/
theorem c_X_setMid (l : Launch) (a : Ab) (u : SX) (hR : RX a u) (hW : Wf a.1 a.2.1) {i0 : Int32} {v : Int32}  : CtI l y_X_setMid b_X_setMid 8 (some .int) 3 wX [.int v, .int i0] u (fun r u' => ∃ a', sp_setMid a v i0 = (r, a') ∧ RX a' u') := by
  obtain ⟨p, n, ch⟩ := a
  obtain ⟨kd, li, pi, le, bd, bo, sr, wa, ta⟩ := u
  have hR : RXc p n ch kd li pi le bd bo sr := hR
  have hW : Wf p n := hW
  obtain ⟨h1, h2⟩ : kd = n 10 ∧ pi = p := ⟨hR.1, hR.2.2.1⟩
  subst h1
  subst h2
  have hp4 := hW.1
  have hn40 := hW.2.1
  have hs := hW.2.2
  have hd := hR.2.2.2.2.2
  have hl := hR.2.2.2.2.1
  have hli := hR.2.1
  have hbo := hR.2.2.2.1
  have hle : ∀ d, d < 10 → le d ≤ 40 := fun d h => (hl d h).1
  have hsl : sumN le (6 + pi) = sumN n (6 + pi) := sumN_cg (fun d h => (hd d h).1)
  refine CtI.of2 (by decide +kernel) rfl (by decide) (fun E q hl hC hr => ?_)
  subst hl
  refine j_aload_0 hC d_X_setMid_0 ?_
  refine j_iload_1 hC d_X_setMid_1 ?_
  refine x_calli1 hC (c_X_badVariable (eL E)) v_X_badVariable k_X_67 (by decide) (Nat.le_of_ble_eq_true rfl) d_X_setMid_2 (fun r0 u' h9 => ?_)
  obtain ⟨rfl, hb⟩ := h9
  refine j_if_ne hC 20 (by decide) d_X_setMid_5 (fun c_5 => ?_) (fun c_5 => ?_)
  · refine j_iconst hC im1 d_X_setMid_20 ?_
    refine j_ireturn hC hr ?_ d_X_setMid_21
    exact ⟨_, if_pos (Or.inl (Decidable.byContradiction fun z => c_5 (hb.mpr z))), hR⟩
  · refine j_iload_2 hC d_X_setMid_8 ?_
    refine j_iconst hC ir_1 d_X_setMid_9 ?_
    refine j_icmp_lt hC 20 (by decide) d_X_setMid_10 (fun c_10 => ?_) (fun c_10 => ?_)
    · refine j_iconst hC im1 d_X_setMid_20 ?_
      refine j_ireturn hC hr ?_ d_X_setMid_21
      exact ⟨_, if_pos (Or.inr (Or.inl c_10)), hR⟩
    · refine j_iload_2 hC d_X_setMid_13 ?_
      refine j_sipush hC sr_255 d_X_setMid_14 ?_
      refine j_icmp_le hC 22 (by decide) d_X_setMid_17 (fun c_17 => ?_) (fun c_17 => ?_)
      · obtain ⟨j, hj, rfl⟩ := okV (hb.mp c_5)
        obtain ⟨i, hi0, hi, rfl⟩ := ok1 (v := i0) (fun z => z.elim c_10 (fun z => absurd c_17 (Int32.not_le.mpr z)))
        have hlj := hl j (by omega)
        have hdj := hd j (by omega)
        have hej := hdj.1
        have hnj := hn40 j (by omega)
        refine j_aload_0 hC d_X_setMid_22 ?_
        refine x_get_piled hC d_X_setMid_23 ?_
        refine j_nezN hC 32 (by decide) (by omega) d_X_setMid_26 (fun c_26 => ?_) (fun c_26 => ?_)
        · have hlt5 := hl (5 + pi) (by omega)
          have hdt := hd (5 + pi) (by omega)
          have het := hdt.1
          refine j_aload_0 hC d_X_setMid_32 ?_
          refine x_calli0 hC (c_X_top (eL E)) v_X_top k_X_46 (by decide) (Nat.le_of_ble_eq_true rfl) d_X_setMid_33 (fun r u' h9 => ?_)
          obtain ⟨rfl, rfl⟩ := h9
          rw [show 6 + pi - 1 = 5 + pi by omega]
          refine j_istore_3 hC (by decide) d_X_setMid_36 ?_
          refine j_aload_0 hC d_X_setMid_37 ?_
          refine x_get_length hC d_X_setMid_38 ?_
          refine j_iload_1 hC d_X_setMid_41 ?_
          refine x_ld_length hC (by omega) d_X_setMid_42 ?_
          refine j_iload_2 hC d_X_setMid_43 ?_
          by_cases hz : i ≤ le j
          · refine j_subN hC (by omega) d_X_setMid_44 ?_
            refine j_iconst hC ic_1 d_X_setMid_45 ?_
            refine j_addN hC d_X_setMid_46 ?_
            refine j_istore_4 hC (by decide) d_X_setMid_47 ?_
            have m1 : ∀ m : Nat, m = min (n (5 + pi)) (n j - (i - 1)) → J E (QI E q wX (fun r u' => ∃ a', sp_setMid (pi, n, ch) (nI j) (nI i) = (r, a') ∧ RX a' u')) (wX (eI E) (eZ E) q (n 10, li, pi, le, bd, bo, sr, wa, ta)) (some (.ref (q 0))) (some (.int (nI j))) (some (.int (nI i))) (some (.int (nI (5 + pi)))) (some (.int (nI (le j - i + 1)))) none none none 71 [.int (nI m)] := by
              intro m hm
              refine j_istore_5 hC (by decide) d_X_setMid_71 ?_
              refine j_iload_5 hC d_X_setMid_73 ?_
              refine j_iconst hC ic_1 d_X_setMid_75 ?_
              refine j_geN hC 91 (by decide) (by omega) (by omega) d_X_setMid_76 (fun c_76 => ?_) (fun c_76 => ?_)
              · have m2 : ∀ (bd2 ta2 : Nat → Nat) (bo2 : Nat) (s2 wa2 : Nat → Int32) (l6 l7 : Option Value), RXc pi n ch (n 10) li pi le bd2 bo2 s2 → (∀ e, e < 6 + pi → e ≠ j → 0 < n e → bd2 e + n e ≤ bd2 j ∨ bd2 j + n j ≤ bd2 e) → J E (QI E q wX (fun r u' => ∃ a', sp_setMid (pi, n, ch) (nI j) (nI i) = (r, a') ∧ RX a' u')) (wX (eI E) (eZ E) q (n 10, li, pi, le, bd2, bo2, s2, wa2, ta2)) (some (.ref (q 0))) (some (.int (nI j))) (some (.int (nI i))) (some (.int (nI (5 + pi)))) (some (.int (nI (le j - i + 1)))) (some (.int (nI m))) l6 l7 141 [] := by
                  intro bd2 ta2 bo2 s2 wa2 l6 l7 hR2 hun
                  obtain ⟨x1, x2, x3⟩ := (hR2.2.2.2.2.2 j (by omega)).2 (by omega)
                  obtain ⟨y1, y2, y3⟩ := (hR2.2.2.2.2.2 (5 + pi) (by omega)).2 (by omega)
                  have hu5 := hun (5 + pi) (by omega) (by omega) (by omega)
                  refine j_aload_0 hC d_X_setMid_141 ?_
                  refine j_aload_0 hC d_X_setMid_142 ?_
                  refine x_get_body hC d_X_setMid_143 ?_
                  refine j_iload_3 hC d_X_setMid_146 ?_
                  refine x_ld_body hC (by omega) d_X_setMid_147 ?_
                  refine j_aload_0 hC d_X_setMid_148 ?_
                  refine x_get_body hC d_X_setMid_149 ?_
                  refine j_iload_1 hC d_X_setMid_152 ?_
                  refine x_ld_body hC (by omega) d_X_setMid_153 ?_
                  refine j_iload_2 hC d_X_setMid_154 ?_
                  refine j_addN hC d_X_setMid_155 ?_
                  refine j_iconst hC ic_1 d_X_setMid_156 ?_
                  refine j_subN hC (by omega) d_X_setMid_157 ?_
                  refine j_iload_5 hC d_X_setMid_158 ?_
                  refine x_callv3 hC (c_X_copy (eL E) (f := bd2 (5 + pi)) (t := bd2 j + i - 1) (m := m) (by omega) (by omega) (fun _ => by omega)) v_X_copy k_X_70 (by decide) (Nat.le_of_ble_eq_true rfl) d_X_setMid_160 (fun u' h9 => ?_)
                  obtain ⟨s3, g1, g2, rfl⟩ := h9
                  refine j_aload_0 hC d_X_setMid_163 ?_
                  refine j_dup hC rfl d_X_setMid_164 ?_
                  refine x_get_piled hC d_X_setMid_165 ?_
                  refine j_iconst hC ic_1 d_X_setMid_168 ?_
                  refine j_subN hC (by omega) d_X_setMid_169 ?_
                  refine x_put_piled hC d_X_setMid_170 ?_
                  refine j_iload_5 hC d_X_setMid_173 ?_
                  refine j_ireturn hC hr ?_ d_X_setMid_175
                  rw [sp_setMid_N hj hi0 hi c_26]
                  refine RX_mid hR2 hp4 (by omega) hm (by omega) hun (fun y hy => ?_) (fun x hx => g2 x (by omega))
                  rw [show bd2 j + (i - 1) + y = bd2 j + i - 1 + y by omega, g1 y hy]
                  exact y3 y (by omega)
                refine j_aload_0 hC d_X_setMid_91 ?_
                refine j_iload_1 hC d_X_setMid_92 ?_
                refine x_calli1 hC (c_X_shared (eL E) (pi, n, ch) (n 10, li, pi, le, bd, bo, sr, wa, ta) hR hW hj) v_X_shared k_X_82 (by decide) (Nat.le_of_ble_eq_true rfl) d_X_setMid_93 (fun r u' h9 => ?_)
                obtain ⟨rfl, hsh⟩ := h9
                have hsh : r = 0 → ∀ e, e < 6 + pi → e ≠ j → 0 < n e → bd e + n e ≤ bd j ∨ bd j + n j ≤ bd e := hsh
                refine j_istore_6 hC (by decide) d_X_setMid_96 ?_
                refine j_iload_6 hC d_X_setMid_98 ?_
                refine j_if_eq hC 141 (by decide) d_X_setMid_100 (fun c_100 => ?_) (fun c_100 => ?_)
                · exact m2 _ _ _ _ _ _ _ hR (hsh c_100)
                · refine j_aload_0 hC d_X_setMid_103 ?_
                  refine j_aload_0 hC d_X_setMid_104 ?_
                  refine x_get_length hC d_X_setMid_105 ?_
                  refine j_iload_1 hC d_X_setMid_108 ?_
                  refine x_ld_length hC (by omega) d_X_setMid_109 ?_
                  refine x_calli1 hC (c_X_take (eL E) hp4 hR hs (m := le j) (by omega)) v_X_take k_X_60 (by decide) (Nat.le_of_ble_eq_true rfl) d_X_setMid_110 (fun r2 u' h9 => ?_)
                  obtain ⟨t, sr', wa', bd', ta', rfl, ht, hR2, ht2, rfl⟩ := h9
                  obtain ⟨w1, w2, w3⟩ := (hR2.2.2.2.2.2 j (by omega)).2 (by omega)
                  have w4 := ht2 j (by omega) (by omega)
                  refine j_istore_7 hC (by decide) d_X_setMid_113 ?_
                  refine j_aload_0 hC d_X_setMid_115 ?_
                  refine j_aload_0 hC d_X_setMid_116 ?_
                  refine x_get_body hC d_X_setMid_117 ?_
                  refine j_iload_1 hC d_X_setMid_120 ?_
                  refine x_ld_body hC (by omega) d_X_setMid_121 ?_
                  refine j_iload_7 hC d_X_setMid_122 ?_
                  refine j_aload_0 hC d_X_setMid_124 ?_
                  refine x_get_length hC d_X_setMid_125 ?_
                  refine j_iload_1 hC d_X_setMid_128 ?_
                  refine x_ld_length hC (by omega) d_X_setMid_129 ?_
                  refine x_callv3 hC (c_X_copy (eL E) (f := bd' j) (t := t) (m := le j) (by omega) (by omega) (fun _ => by omega)) v_X_copy k_X_70 (by decide) (Nat.le_of_ble_eq_true rfl) d_X_setMid_130 (fun u' h9 => ?_)
                  obtain ⟨s1, g1, g2, rfl⟩ := h9
                  have hR3 : RXc pi n ch (n 10) li pi le bd' t s1 := RX_sr hR2 (fun d hd1 hn y hy => by
                    have := ht2 d hd1 hn
                    rw [g2 _ (by omega)])
                  have hR4 : RXc pi n ch (n 10) li pi le (upN bd' j t) t s1 := by
                    have z := RX_set (p' := pi) (d := j) (m := n j) (b := t) (f := ch j) hR3 (by omega) (fun e h1 _ => h1) (by omega) (by omega) (fun _ => ⟨Nat.le_refl _, by omega, fun y hy => by rw [g1 y (by omega)]; exact w3 y hy⟩)
                    rw [upN_id, upC_id] at z
                    rw [← hej, upN_id] at z
                    exact z
                  refine j_aload_0 hC d_X_setMid_133 ?_
                  refine x_get_body hC d_X_setMid_134 ?_
                  refine j_iload_1 hC d_X_setMid_137 ?_
                  refine j_iload_7 hC d_X_setMid_138 ?_
                  refine x_st_body hC (by omega) d_X_setMid_140 ?_
                  refine m2 _ _ _ _ _ _ _ hR4 (fun e h1 h2 h3 => ?_)
                  rw [upN_s, upN_n h2]
                  have := ht2 e h1 h3
                  exact Or.inr (by omega)
              · refine j_aload_0 hC d_X_setMid_79 ?_
                refine j_dup hC rfl d_X_setMid_80 ?_
                refine x_get_piled hC d_X_setMid_81 ?_
                refine j_iconst hC ic_1 d_X_setMid_84 ?_
                refine j_subN hC (by omega) d_X_setMid_85 ?_
                refine x_put_piled hC d_X_setMid_86 ?_
                refine j_iconst hC ic_0 d_X_setMid_89 ?_
                refine j_ireturn hC hr ?_ d_X_setMid_90
                rw [sp_setMid_N hj hi0 hi c_26]
                exact RX_mid0 hR (by omega)
            refine j_iload_4 hC d_X_setMid_49 ?_
            refine j_aload_0 hC d_X_setMid_51 ?_
            refine x_get_length hC d_X_setMid_52 ?_
            refine j_iload_3 hC d_X_setMid_55 ?_
            refine x_ld_length hC (by omega) d_X_setMid_56 ?_
            refine j_geN hC 65 (by decide) (by omega) (by omega) d_X_setMid_57 (fun c_57 => ?_) (fun c_57 => ?_)
            · refine j_aload_0 hC d_X_setMid_65 ?_
              refine x_get_length hC d_X_setMid_66 ?_
              refine j_iload_3 hC d_X_setMid_69 ?_
              refine x_ld_length hC (by omega) d_X_setMid_70 ?_
              exact m1 _ (by omega)
            · refine j_iload_4 hC d_X_setMid_60 ?_
              refine j_goto hC 71 (by decide) d_X_setMid_62 ?_
              exact m1 _ (by omega)
          · obtain ⟨rh, hrh, hlt⟩ : ∃ rh : Int32, rh = nI (le j) - nI i + nI 1 ∧ rh < nI 1 := ⟨_, rfl, sub_lt1 (by omega) (by omega)⟩
            refine j_isub hC d_X_setMid_44 ?_
            refine j_iconst hC ic_1 d_X_setMid_45 ?_
            refine j_iadd hC d_X_setMid_46 ?_
            rw [← hrh]
            refine j_istore_4 hC (by decide) d_X_setMid_47 ?_
            refine j_iload_4 hC d_X_setMid_49 ?_
            refine j_aload_0 hC d_X_setMid_51 ?_
            refine x_get_length hC d_X_setMid_52 ?_
            refine j_iload_3 hC d_X_setMid_55 ?_
            refine x_ld_length hC (by omega) d_X_setMid_56 ?_
            refine j_icmp_ge hC 65 (by decide) d_X_setMid_57 (fun c_57 => ?_) (fun c_57 => ?_)
            · refine j_aload_0 hC d_X_setMid_65 ?_
              refine x_get_length hC d_X_setMid_66 ?_
              refine j_iload_3 hC d_X_setMid_69 ?_
              refine x_ld_length hC (by omega) d_X_setMid_70 ?_
              refine j_istore_5 hC (by decide) d_X_setMid_71 ?_
              refine j_iload_5 hC d_X_setMid_73 ?_
              refine j_iconst hC ic_1 d_X_setMid_75 ?_
              refine j_geN hC 91 (by decide) (by omega) (by omega) d_X_setMid_76 (fun c_76 => ?_) (fun c_76 => ?_)
              · exact absurd (Int32.lt_of_le_of_lt (Int32.le_trans (nI_le c_76 (by omega)) c_57) hlt) (Int32.lt_irrefl)
              · refine j_aload_0 hC d_X_setMid_79 ?_
                refine j_dup hC rfl d_X_setMid_80 ?_
                refine x_get_piled hC d_X_setMid_81 ?_
                refine j_iconst hC ic_1 d_X_setMid_84 ?_
                refine j_subN hC (by omega) d_X_setMid_85 ?_
                refine x_put_piled hC d_X_setMid_86 ?_
                refine j_iconst hC ic_0 d_X_setMid_89 ?_
                refine j_ireturn hC hr ?_ d_X_setMid_90
                rw [sp_setMid_N hj hi0 hi c_26]
                exact RX_mid0 hR (by omega)
            · refine j_iload_4 hC d_X_setMid_60 ?_
              refine j_goto hC 71 (by decide) d_X_setMid_62 ?_
              refine j_istore_5 hC (by decide) d_X_setMid_71 ?_
              refine j_iload_5 hC d_X_setMid_73 ?_
              refine j_iconst hC ic_1 d_X_setMid_75 ?_
              refine j_icmp_ge hC 91 (by decide) d_X_setMid_76 (fun c_76 => ?_) (fun c_76 => ?_)
              · exact absurd hlt (Int32.not_lt.mpr c_76)
              · refine j_aload_0 hC d_X_setMid_79 ?_
                refine j_dup hC rfl d_X_setMid_80 ?_
                refine x_get_piled hC d_X_setMid_81 ?_
                refine j_iconst hC ic_1 d_X_setMid_84 ?_
                refine j_subN hC (by omega) d_X_setMid_85 ?_
                refine x_put_piled hC d_X_setMid_86 ?_
                refine j_iconst hC ic_0 d_X_setMid_89 ?_
                refine j_ireturn hC hr ?_ d_X_setMid_90
                rw [sp_setMid_N hj hi0 hi c_26]
                exact RX_mid0 hR (by omega)
        · refine j_bipush hC bm3 d_X_setMid_29 ?_
          refine j_ireturn hC hr ?_ d_X_setMid_31
          exact ⟨_, (if_neg (fun q => q.elim (notV hj) (not1 hi0 hi))).trans (if_pos c_26), hR⟩
      · refine j_iconst hC im1 d_X_setMid_20 ?_
        refine j_ireturn hC hr ?_ d_X_setMid_21
        exact ⟨_, if_pos (Or.inr (Or.inr (Int32.not_le.mp c_17))), hR⟩
end X4
end
section
section M1
section PM
variable {p pl : Nat} {n ln : Nat → Nat} {ch : Nat → Nat → Int32} {c0 : Nat → Int32}
theorem RM_less {p' : Nat} (hp : p' ≤ p) (h : RMc p n ch c0 ln p) : RMc p' n ch c0 ln p' := ⟨rfl, fun d hd => h.2 d (by omega)⟩
/-- one string is set -/
theorem RM_set (h : RMc p n ch c0 ln p) (hn : ∀ d, d < 11 → n d ≤ 40) {p' d m : Nat} {f c1 : Nat → Int32} (hp' : p' ≤ 4) (hcov : ∀ e, e < 6 + p' → e ≠ d → e < 6 + p) (hin : ∀ i, i < m → c1 (40 * d + i) = f i) (hout : ∀ x, (x < 40 * d ∨ 40 * d + 40 ≤ x) → c1 x = c0 x) : RMc p' (upN n d m) (upC ch d f) c1 (upN ln d m) p' := by
  refine ⟨rfl, fun e he => ?_⟩
  by_cases q : e = d
  · subst q
    rw [upN_s, upN_s, upC_s]
    exact ⟨rfl, hin⟩
  · rw [upN_n q, upN_n q, upC_n q]
    have h10 : e < 6 + p ∨ e = 10 := he.imp (fun z => hcov e z q) id
    obtain ⟨a, b⟩ := h.2 e h10
    have h40 := hn e (by omega)
    exact ⟨a, fun i hi => (hout _ (by omega)).trans (b i hi)⟩
theorem lt5 {v : Int32} : (5 : Int32) < v ↔ 6 ≤ v := by
  rw [Int32.lt_iff_toInt_lt, Int32.le_iff_toInt_le]
  have h1 : (5 : Int32).toInt = 5 := by decide +kernel
  have h2 : (6 : Int32).toInt = 6 := by decide +kernel
  rw [h1, h2]
  omega
theorem ordG_cg {f g f' g' : Nat → Int32} {m m' : Nat} : ∀ {k i : Nat}, (∀ j, i ≤ j → j < i + k → f j = f' j ∧ g j = g' j) → ordG f g m m' k i = ordG f' g' m m' k i
  | 0, _, _ => rfl
  | k + 1, i, h => by
    obtain ⟨h1, h2⟩ := h i (Nat.le_refl _) (by omega)
    show (if f i = g i then ordG f g m m' k (i + 1) else if f i < g i then nI 1 else nI 2) = (if f' i = g' i then ordG f' g' m m' k (i + 1) else if f' i < g' i then nI 1 else nI 2)
    rw [h1, h2, ordG_cg (fun j h1 h2 => h j (by omega) (by omega))]
theorem finG_go2 {f g : Nat → Int32} {m m' k i : Nat} (h2 : ¬ (i + m' ≤ m ∧ ∀ y, y < m' → f (i + y) = g y)) : finG f g m m' (k + 1) i = finG f g m m' k (i + 1) := if_neg h2
end PM
set_option maxRecDepth 20000 in
/-- isVariable -/
theorem c_M_isVariable (l : Launch) {c0 : Nat → Int32} {ln : Nat → Nat} {pl : Nat} {v : Int32}  : CtI l y_M_isVariable b_M_isVariable 2 (some .boolean) 0 wM [.int v] (c0, ln, pl) (fun r u' => u' = (c0, ln, pl) ∧ (r = 0 ↔ (v < 0 ∨ 6 ≤ v))) := by
  refine CtI.of1 (by decide +kernel) rfl (by decide) (fun E q hl hC hr => ?_)
  subst hl
  refine j_iload_1 hC d_M_isVariable_0 ?_
  refine j_if_lt hC 13 (by decide) d_M_isVariable_1 (fun c_1 => ?_) (fun c_1 => ?_)
  · refine j_iconst hC ic_0 d_M_isVariable_13 ?_
    refine j_zreturn hC bz0 hr ?_ d_M_isVariable_14
    exact ⟨rfl, fun _ => Or.inl c_1, fun _ => nI_0⟩
  · refine j_iload_1 hC d_M_isVariable_4 ?_
    refine j_iconst hC ir_5 d_M_isVariable_5 ?_
    refine j_icmp_gt hC 13 (by decide) d_M_isVariable_6 (fun c_6 => ?_) (fun c_6 => ?_)
    · refine j_iconst hC ic_0 d_M_isVariable_13 ?_
      refine j_zreturn hC bz0 hr ?_ d_M_isVariable_14
      exact ⟨rfl, fun _ => Or.inr (lt5.mp c_6), fun _ => nI_0⟩
    · refine j_iconst hC ic_1 d_M_isVariable_9 ?_
      refine j_goto hC 14 (by decide) d_M_isVariable_10 ?_
      refine j_zreturn hC bz1 hr ?_ d_M_isVariable_14
      exact ⟨rfl, fun z => absurd z z1n, fun z => absurd z (fun z => z.elim c_1 (fun z => absurd z (fun z => (c_6 (lt5.mpr z)))))⟩
set_option maxRecDepth 20000 in
/-- isSmall -/
theorem c_M_isSmall (l : Launch) {c0 : Nat → Int32} {ln : Nat → Nat} {pl : Nat} {v : Int32}  : CtI l y_M_isSmall b_M_isSmall 2 (some .boolean) 0 wM [.int v] (c0, ln, pl) (fun r u' => u' = (c0, ln, pl) ∧ (r = 0 ↔ (v < 0 ∨ 255 < v))) := by
  refine CtI.of1 (by decide +kernel) rfl (by decide) (fun E q hl hC hr => ?_)
  subst hl
  refine j_iload_1 hC d_M_isSmall_0 ?_
  refine j_if_lt hC 15 (by decide) d_M_isSmall_1 (fun c_1 => ?_) (fun c_1 => ?_)
  · refine j_iconst hC ic_0 d_M_isSmall_15 ?_
    refine j_zreturn hC bz0 hr ?_ d_M_isSmall_16
    exact ⟨rfl, fun _ => Or.inl c_1, fun _ => nI_0⟩
  · refine j_iload_1 hC d_M_isSmall_4 ?_
    refine j_sipush hC sr_255 d_M_isSmall_5 ?_
    refine j_icmp_gt hC 15 (by decide) d_M_isSmall_8 (fun c_8 => ?_) (fun c_8 => ?_)
    · refine j_iconst hC ic_0 d_M_isSmall_15 ?_
      refine j_zreturn hC bz0 hr ?_ d_M_isSmall_16
      exact ⟨rfl, fun _ => Or.inr c_8, fun _ => nI_0⟩
    · refine j_iconst hC ic_1 d_M_isSmall_11 ?_
      refine j_goto hC 16 (by decide) d_M_isSmall_12 ?_
      refine j_zreturn hC bz1 hr ?_ d_M_isSmall_16
      exact ⟨rfl, fun z => absurd z z1n, fun z => absurd z (fun z => z.elim c_1 (fun z => absurd z (fun z => (c_8 z))))⟩
set_option maxRecDepth 20000 in
/-- used -/
theorem c_M_used (l : Launch) {c0 : Nat → Int32} {ln : Nat → Nat} {pl : Nat}  (hp : pl ≤ 4) : CtI l y_M_used b_M_used 3 (some .int) 0 wM [] (c0, ln, pl) (fun r u' => r = nI (sumN ln (6 + pl)) ∧ u' = (c0, ln, pl)) := by
  refine CtI.of0 (by decide +kernel) rfl (by decide) (fun E q hl hC hr => ?_)
  subst hl
  refine j_iconst hC ic_0 d_M_used_0 ?_
  refine j_istore_1 hC (by decide) d_M_used_1 ?_
  refine j_iconst hC ic_0 d_M_used_2 ?_
  refine j_istore_2 hC (by decide) d_M_used_3 ?_
  have lp : ∀ (k i : Nat), 6 + pl - i < k → i ≤ 6 + pl → J E (QI E q wM (fun r u' => r = nI (sumN ln (6 + pl)) ∧ u' = (c0, ln, pl))) (wM (eI E) (eZ E) q (c0, ln, pl)) (some (.ref (q 0))) (some (.int (nI (sumN ln i)))) (some (.int (nI i))) none none none none none 4 [] := by
    intro k
    induction k with
    | zero =>
      intro i hk hi
      exact absurd hk (Nat.not_lt_zero _)
    | succ k ih_lp =>
      intro i hk hi
      refine j_iload_2 hC d_M_used_4 ?_
      refine j_bipush hC bp_6 d_M_used_5 ?_
      refine j_aload_0 hC d_M_used_7 ?_
      refine m_get_piled hC d_M_used_8 ?_
      refine j_addN hC d_M_used_11 ?_
      refine j_geN hC 30 (by decide) (by omega) (by omega) d_M_used_12 (fun c_12 => ?_) (fun c_12 => ?_)
      · refine j_iload_1 hC d_M_used_30 ?_
        refine j_ireturn hC hr ?_ d_M_used_31
        have e : i = 6 + pl := by omega
        subst e
        exact ⟨rfl, rfl⟩
      · refine j_iload_1 hC d_M_used_15 ?_
        refine j_aload_0 hC d_M_used_16 ?_
        refine m_get_lengths hC d_M_used_17 ?_
        refine j_iload_2 hC d_M_used_20 ?_
        refine m_ld_lengths hC (by omega) d_M_used_21 ?_
        refine j_addN hC d_M_used_22 ?_
        refine j_istore_1 hC (by decide) d_M_used_23 ?_
        refine j_iinc_2 hC inc1 (by decide) d_M_used_24 ?_
        refine j_goto hC 4 (by decide) d_M_used_27 ?_
        exact ih_lp (i + 1) (by omega) (by omega)
  exact lp (7 + pl) 0 (by omega) (Nat.zero_le _)
set_option maxRecDepth 20000 in
/-- copy -/
theorem c_M_copy (l : Launch) {c0 : Nat → Int32} {ln : Nat → Nat} {pl : Nat}  {f t : Nat} (hf : f < 11) (ht : t < 11) (hft : f ≠ t) (hlf : ln f ≤ 40) : CtV l y_M_copy b_M_copy 4 none 0 wM [.int (nI f), .int (nI t)] (c0, ln, pl) (fun u' => ∃ c1 : Nat → Int32, (∀ i, i < ln f → c1 (40 * t + i) = c0 (40 * f + i)) ∧ (∀ x, (x < 40 * t ∨ 40 * t + 40 ≤ x) → c1 x = c0 x) ∧ u' = (c1, upN ln t (ln f), pl)) := by
  refine CtV.of2 (by decide +kernel) rfl (by decide) (fun E q hl hC hr => ?_)
  subst hl
  refine j_iconst hC ic_0 d_M_copy_0 ?_
  refine j_istore_3 hC (by decide) d_M_copy_1 ?_
  have lp : ∀ (k i : Nat) (c1 : Nat → Int32), ln f - i < k → i ≤ ln f → (∀ z, z < i → c1 (40 * t + z) = c0 (40 * f + z)) → (∀ x, (x < 40 * t ∨ 40 * t + 40 ≤ x) → c1 x = c0 x) → J E (QV E q wM (fun u' => ∃ c1 : Nat → Int32, (∀ i, i < ln f → c1 (40 * t + i) = c0 (40 * f + i)) ∧ (∀ x, (x < 40 * t ∨ 40 * t + 40 ≤ x) → c1 x = c0 x) ∧ u' = (c1, upN ln t (ln f), pl))) (wM (eI E) (eZ E) q (c1, ln, pl)) (some (.ref (q 0))) (some (.int (nI f))) (some (.int (nI t))) (some (.int (nI i))) none none none none 2 [] := by
    intro k
    induction k with
    | zero =>
      intro i c1 hk hi h1 h2
      exact absurd hk (Nat.not_lt_zero _)
    | succ k ih_lp =>
      intro i c1 hk hi h1 h2
      refine j_iload_3 hC d_M_copy_2 ?_
      refine j_aload_0 hC d_M_copy_3 ?_
      refine m_get_lengths hC d_M_copy_4 ?_
      refine j_iload_1 hC d_M_copy_7 ?_
      refine m_ld_lengths hC (by omega) d_M_copy_8 ?_
      refine j_geN hC 40 (by decide) (by omega) (by omega) d_M_copy_9 (fun c_9 => ?_) (fun c_9 => ?_)
      · refine j_aload_0 hC d_M_copy_40 ?_
        refine m_get_lengths hC d_M_copy_41 ?_
        refine j_iload_2 hC d_M_copy_44 ?_
        refine j_aload_0 hC d_M_copy_45 ?_
        refine m_get_lengths hC d_M_copy_46 ?_
        refine j_iload_1 hC d_M_copy_49 ?_
        refine m_ld_lengths hC (by omega) d_M_copy_50 ?_
        refine m_st_lengths hC (by omega) d_M_copy_51 ?_
        refine j_return hC hr ?_ d_M_copy_52
        have e : i = ln f := by omega
        exact ⟨c1, fun z hz => h1 z (by omega), h2, rfl⟩
      · refine j_aload_0 hC d_M_copy_12 ?_
        refine m_get_chars hC d_M_copy_13 ?_
        refine j_bipush hC bp_40 d_M_copy_16 ?_
        refine j_iload_2 hC d_M_copy_18 ?_
        refine j_mulN hC d_M_copy_19 ?_
        refine j_iload_3 hC d_M_copy_20 ?_
        refine j_addN hC d_M_copy_21 ?_
        refine j_aload_0 hC d_M_copy_22 ?_
        refine m_get_chars hC d_M_copy_23 ?_
        refine j_bipush hC bp_40 d_M_copy_26 ?_
        refine j_iload_1 hC d_M_copy_28 ?_
        refine j_mulN hC d_M_copy_29 ?_
        refine j_iload_3 hC d_M_copy_30 ?_
        refine j_addN hC d_M_copy_31 ?_
        refine m_ld_chars hC (by omega) d_M_copy_32 ?_
        refine m_st_chars hC (by omega) d_M_copy_33 ?_
        refine j_iinc_3 hC inc1 (by decide) d_M_copy_34 ?_
        refine j_goto hC 2 (by decide) d_M_copy_37 ?_
        refine ih_lp (i + 1) _ (by omega) (by omega) (fun z hz => ?_) (fun x hx => ?_)
        · by_cases e : z = i
          · subst e; rw [pk_us]; exact h2 _ (by omega)
          · rw [pk_un (by omega)]; exact h1 z (by omega)
        · rw [pk_un (by omega)]; exact h2 x hx
  exact lp (ln f + 1) 0 c0 (by omega) (Nat.zero_le _) (fun z hz => by omega) (fun x _ => rfl)
set_option maxRecDepth 20000 in
/-- key -/
theorem c_M_key (l : Launch) (a : Ab) (u : SM) (hR : RM a u) (hW : Wf a.1 a.2.1) {c : Int32}  : CtI l y_M_key b_M_key 2 (some .int) 3 wM [.int c] u (fun r u' => ∃ a', sp_key a c = (r, a') ∧ RM a' u') := by
  obtain ⟨p, n, ch⟩ := a
  obtain ⟨c0, ln, pl⟩ := u
  have hR : RMc p n ch c0 ln pl := hR
  have hW : Wf p n := hW
  have h2 : pl = p := hR.1
  subst h2
  have hp4 := hW.1
  have hn40 := hW.2.1
  have hs := hW.2.2
  have hd := hR.2
  have hsl : sumN ln (6 + pl) = sumN n (6 + pl) := sumN_cg (fun d h => (hd d (Or.inl h)).1)
  have h10 := hn40 10 (by decide)
  have e10 := (hd 10 (Or.inr rfl)).1
  refine CtI.of1 (by decide +kernel) rfl (by decide) (fun E q hl hC hr => ?_)
  subst hl
  refine j_aload_0 hC d_M_key_0 ?_
  refine j_iload_1 hC d_M_key_1 ?_
  refine m_calli1 hC (c_M_isSmall (eL E)) v_M_isSmall k_M_16 (by decide) (Nat.le_of_ble_eq_true rfl) d_M_key_2 (fun r0 u' h9 => ?_)
  obtain ⟨rfl, hb⟩ := h9
  refine j_if_ne hC 10 (by decide) d_M_key_5 (fun c_5 => ?_) (fun c_5 => ?_)
  · refine j_aload_0 hC d_M_key_10 ?_
    refine m_get_lengths hC d_M_key_11 ?_
    refine j_bipush hC bp_10 d_M_key_14 ?_
    refine m_ld_lengths hC (by omega) d_M_key_16 ?_
    refine j_bipush hC bp_40 d_M_key_17 ?_
    refine j_neN hC 25 (by decide) (by omega) (by omega) d_M_key_19 (fun c_19 => ?_) (fun c_19 => ?_)
    · refine j_aload_0 hC d_M_key_25 ?_
      refine m_get_chars hC d_M_key_26 ?_
      refine j_sipush hC sp_400 d_M_key_29 ?_
      refine j_aload_0 hC d_M_key_32 ?_
      refine m_get_lengths hC d_M_key_33 ?_
      refine j_bipush hC bp_10 d_M_key_36 ?_
      refine m_ld_lengths hC (by omega) d_M_key_38 ?_
      refine j_addN hC d_M_key_39 ?_
      refine j_iload_1 hC d_M_key_40 ?_
      refine m_st_chars hC (by omega) d_M_key_41 ?_
      refine j_aload_0 hC d_M_key_42 ?_
      refine m_get_lengths hC d_M_key_43 ?_
      refine j_bipush hC bp_10 d_M_key_46 ?_
      refine j_dup2 hC rfl rfl d_M_key_48 ?_
      refine m_ld_lengths hC (by omega) d_M_key_49 ?_
      refine j_iconst hC ic_1 d_M_key_50 ?_
      refine j_addN hC d_M_key_51 ?_
      refine m_st_lengths hC (by omega) d_M_key_52 ?_
      refine j_aload_0 hC d_M_key_53 ?_
      refine m_get_lengths hC d_M_key_54 ?_
      refine j_bipush hC bp_10 d_M_key_57 ?_
      refine m_ld_lengths hC (by omega) d_M_key_59 ?_
      refine j_ireturn hC hr ?_ d_M_key_60
      rw [upN_s, e10]
      refine ⟨_, (if_neg (fun z => c_5 (hb.mpr z))).trans (if_neg (by show ¬ n 10 = 40; omega)), RM_set hR hn40 hp4 (fun e h1 _ => h1) (fun i hi => ?_) (fun x hx => pk_un (by omega))⟩
      have hi : i < n 10 + 1 := hi
      show upd c0 (400 + n 10) c (400 + i) = upd (ch 10) (n 10) c i
      by_cases z : i = n 10
      · subst z; rw [pk_us, pk_us]
      · rw [pk_un (by omega), pk_un z]; exact (hd 10 (Or.inr rfl)).2 i (by omega)
    · refine j_bipush hC bm5 d_M_key_22 ?_
      refine j_ireturn hC hr ?_ d_M_key_24
      exact ⟨_, (if_neg (fun z => c_5 (hb.mpr z))).trans (if_pos (by show n 10 = 40; omega)), hR⟩
  · refine j_iconst hC im1 d_M_key_8 ?_
    refine j_ireturn hC hr ?_ d_M_key_9
    exact ⟨_, if_pos (hb.mp c_5), hR⟩
set_option maxRecDepth 20000 in
/-- newLine -/
theorem c_M_newLine (l : Launch) (a : Ab) (u : SM) (hR : RM a u) (hW : Wf a.1 a.2.1)   : CtV l y_M_newLine b_M_newLine 1 none 3 wM [] u (fun u' => RM (sp_newLine a) u') := by
  obtain ⟨p, n, ch⟩ := a
  obtain ⟨c0, ln, pl⟩ := u
  have hR : RMc p n ch c0 ln pl := hR
  have hW : Wf p n := hW
  have h2 : pl = p := hR.1
  subst h2
  have hp4 := hW.1
  have hn40 := hW.2.1
  have hs := hW.2.2
  have hd := hR.2
  have hsl : sumN ln (6 + pl) = sumN n (6 + pl) := sumN_cg (fun d h => (hd d (Or.inl h)).1)
  refine CtV.of0 (by decide +kernel) rfl (by decide) (fun E q hl hC hr => ?_)
  subst hl
  refine j_aload_0 hC d_M_newLine_0 ?_
  refine m_get_lengths hC d_M_newLine_1 ?_
  refine j_bipush hC bp_10 d_M_newLine_4 ?_
  refine j_iconst hC ic_0 d_M_newLine_6 ?_
  refine m_st_lengths hC (by omega) d_M_newLine_7 ?_
  refine j_return hC hr ?_ d_M_newLine_8
  have z := RM_set (p' := pl) (d := 10) (m := 0) (f := ch 10) (c1 := c0) hR hn40 hp4 (fun e h1 _ => h1) (fun i hi => by omega) (fun x _ => rfl)
  rw [upC_id] at z
  exact z
set_option maxRecDepth 20000 in
/-- pushCopy -/
theorem c_M_pushCopy (l : Launch) (a : Ab) (u : SM) (hR : RM a u) (hW : Wf a.1 a.2.1)  {j : Nat} (hj : j < 6 ∨ j = 10) : CtI l y_M_pushCopy b_M_pushCopy 2 (some .int) 1 wM [.int (nI j)] u (fun r u' => ∃ a', sp_pushN a j = (r, a') ∧ RM a' u') := by
  obtain ⟨p, n, ch⟩ := a
  obtain ⟨c0, ln, pl⟩ := u
  have hR : RMc p n ch c0 ln pl := hR
  have hW : Wf p n := hW
  have h2 : pl = p := hR.1
  subst h2
  have hp4 := hW.1
  have hn40 := hW.2.1
  have hs := hW.2.2
  have hd := hR.2
  have hsl : sumN ln (6 + pl) = sumN n (6 + pl) := sumN_cg (fun d h => (hd d (Or.inl h)).1)
  have hnj := hn40 j (by omega)
  have hdj := hd j (by omega)
  have hej := hdj.1
  refine CtI.of1 (by decide +kernel) rfl (by decide) (fun E q hl hC hr => ?_)
  subst hl
  refine j_aload_0 hC d_M_pushCopy_0 ?_
  refine m_get_piled hC d_M_pushCopy_1 ?_
  refine j_iconst hC ic_4 d_M_pushCopy_4 ?_
  refine j_eqN hC 24 (by decide) (by omega) (by omega) d_M_pushCopy_5 (fun c_5 => ?_) (fun c_5 => ?_)
  · refine j_bipush hC bm2 d_M_pushCopy_24 ?_
    refine j_ireturn hC hr ?_ d_M_pushCopy_26
    exact ⟨_, if_pos (Or.inl c_5), hR⟩
  · refine j_aload_0 hC d_M_pushCopy_8 ?_
    refine m_calli0 hC (c_M_used (eL E) hp4) v_M_used k_M_24 (by decide) (Nat.le_of_ble_eq_true rfl) d_M_pushCopy_9 (fun r u' h9 => ?_)
    obtain ⟨rfl, rfl⟩ := h9
    refine j_aload_0 hC d_M_pushCopy_12 ?_
    refine m_get_lengths hC d_M_pushCopy_13 ?_
    refine j_iload_1 hC d_M_pushCopy_16 ?_
    refine m_ld_lengths hC (by omega) d_M_pushCopy_17 ?_
    refine j_addN hC d_M_pushCopy_18 ?_
    refine j_bipush hC bp_100 d_M_pushCopy_19 ?_
    refine j_leN hC 27 (by decide) (by omega) (by omega) d_M_pushCopy_21 (fun c_21 => ?_) (fun c_21 => ?_)
    · refine j_aload_0 hC d_M_pushCopy_27 ?_
      refine j_iload_1 hC d_M_pushCopy_28 ?_
      refine j_bipush hC bp_6 d_M_pushCopy_29 ?_
      refine j_aload_0 hC d_M_pushCopy_31 ?_
      refine m_get_piled hC d_M_pushCopy_32 ?_
      refine j_addN hC d_M_pushCopy_35 ?_
      refine m_callv2 hC (c_M_copy (eL E) (f := j) (t := 6 + pl) (by omega) (by omega) (by omega) (by omega)) v_M_copy k_M_28 (by decide) (Nat.le_of_ble_eq_true rfl) d_M_pushCopy_36 (fun u' h9 => ?_)
      obtain ⟨c1, g1, g2, rfl⟩ := h9
      refine j_aload_0 hC d_M_pushCopy_39 ?_
      refine j_dup hC rfl d_M_pushCopy_40 ?_
      refine m_get_piled hC d_M_pushCopy_41 ?_
      refine j_iconst hC ic_1 d_M_pushCopy_44 ?_
      refine j_addN hC d_M_pushCopy_45 ?_
      refine m_put_piled hC d_M_pushCopy_46 ?_
      refine j_aload_0 hC d_M_pushCopy_49 ?_
      refine m_get_lengths hC d_M_pushCopy_50 ?_
      refine j_iload_1 hC d_M_pushCopy_53 ?_
      refine m_ld_lengths hC (by omega) d_M_pushCopy_54 ?_
      refine j_ireturn hC hr ?_ d_M_pushCopy_55
      rw [upN_n (by omega), hej]
      refine ⟨_, if_neg (by show ¬ (pl = 4 ∨ 100 < sumN n (6 + pl) + n j); omega), RM_set (m := n j) hR hn40 (by omega) (fun e h1 _ => by omega) (fun i hi => ?_) g2⟩
      exact (g1 i (by omega)).trans (hdj.2 i hi)
    · refine j_bipush hC bm2 d_M_pushCopy_24 ?_
      refine j_ireturn hC hr ?_ d_M_pushCopy_26
      exact ⟨_, if_pos (Or.inr (by show 100 < sumN n (6 + pl) + n j; omega)), hR⟩
set_option maxRecDepth 20000 in
/-- literal -/
theorem c_M_literal (l : Launch) (a : Ab) (u : SM) (hR : RM a u) (hW : Wf a.1 a.2.1)   : CtI l y_M_literal b_M_literal 1 (some .int) 3 wM [] u (fun r u' => ∃ a', sp_pushN a 10 = (r, a') ∧ RM a' u') := by
  obtain ⟨p, n, ch⟩ := a
  obtain ⟨c0, ln, pl⟩ := u
  have hR : RMc p n ch c0 ln pl := hR
  have hW : Wf p n := hW
  have h2 : pl = p := hR.1
  subst h2
  have hp4 := hW.1
  have hn40 := hW.2.1
  have hs := hW.2.2
  have hd := hR.2
  have hsl : sumN ln (6 + pl) = sumN n (6 + pl) := sumN_cg (fun d h => (hd d (Or.inl h)).1)
  refine CtI.of0 (by decide +kernel) rfl (by decide) (fun E q hl hC hr => ?_)
  subst hl
  refine j_aload_0 hC d_M_literal_0 ?_
  refine j_bipush hC bp_10 d_M_literal_1 ?_
  refine m_calli1 hC (c_M_pushCopy (eL E) (pl, n, ch) (c0, ln, pl) hR hW (Or.inr rfl)) v_M_pushCopy k_M_32 (by decide) (Nat.le_of_ble_eq_true rfl) d_M_literal_3 (fun r u' h9 => ?_)
  refine j_ireturn hC hr ?_ d_M_literal_6
  exact h9
set_option maxRecDepth 20000 in
/-- push -/
theorem c_M_push (l : Launch) (a : Ab) (u : SM) (hR : RM a u) (hW : Wf a.1 a.2.1) {v : Int32}  : CtI l y_M_push b_M_push 2 (some .int) 3 wM [.int v] u (fun r u' => ∃ a', sp_push a v = (r, a') ∧ RM a' u') := by
  obtain ⟨p, n, ch⟩ := a
  obtain ⟨c0, ln, pl⟩ := u
  have hR : RMc p n ch c0 ln pl := hR
  have hW : Wf p n := hW
  have h2 : pl = p := hR.1
  subst h2
  have hp4 := hW.1
  have hn40 := hW.2.1
  have hs := hW.2.2
  have hd := hR.2
  have hsl : sumN ln (6 + pl) = sumN n (6 + pl) := sumN_cg (fun d h => (hd d (Or.inl h)).1)
  refine CtI.of1 (by decide +kernel) rfl (by decide) (fun E q hl hC hr => ?_)
  subst hl
  refine j_aload_0 hC d_M_push_0 ?_
  refine j_iload_1 hC d_M_push_1 ?_
  refine m_calli1 hC (c_M_isVariable (eL E)) v_M_isVariable k_M_36 (by decide) (Nat.le_of_ble_eq_true rfl) d_M_push_2 (fun r0 u' h9 => ?_)
  obtain ⟨rfl, hb⟩ := h9
  refine j_if_eq hC 16 (by decide) d_M_push_5 (fun c_5 => ?_) (fun c_5 => ?_)
  · refine j_iconst hC im1 d_M_push_16 ?_
    refine j_ireturn hC hr ?_ d_M_push_17
    exact ⟨_, if_pos (hb.mp c_5), hR⟩
  · obtain ⟨j, hj, rfl⟩ := okV (fun z => c_5 (hb.mpr z))
    refine j_aload_0 hC d_M_push_8 ?_
    refine j_iload_1 hC d_M_push_9 ?_
    refine m_calli1 hC (c_M_pushCopy (eL E) (pl, n, ch) (c0, ln, pl) hR hW (j := j) (Or.inl hj)) v_M_pushCopy k_M_32 (by decide) (Nat.le_of_ble_eq_true rfl) d_M_push_10 (fun r u' h9 => ?_)
    obtain ⟨a', h5, h6⟩ := h9
    refine j_goto hC 17 (by decide) d_M_push_13 ?_
    refine j_ireturn hC hr ?_ d_M_push_17
    exact ⟨a', (sp_push_N hj).trans h5, h6⟩
set_option maxRecDepth 20000 in
/-- let -/
theorem c_M_let (l : Launch) (a : Ab) (u : SM) (hR : RM a u) (hW : Wf a.1 a.2.1) {v : Int32}  : CtI l y_M_let b_M_let 2 (some .int) 3 wM [.int v] u (fun r u' => ∃ a', sp_let a v = (r, a') ∧ RM a' u') := by
  obtain ⟨p, n, ch⟩ := a
  obtain ⟨c0, ln, pl⟩ := u
  have hR : RMc p n ch c0 ln pl := hR
  have hW : Wf p n := hW
  have h2 : pl = p := hR.1
  subst h2
  have hp4 := hW.1
  have hn40 := hW.2.1
  have hs := hW.2.2
  have hd := hR.2
  have hsl : sumN ln (6 + pl) = sumN n (6 + pl) := sumN_cg (fun d h => (hd d (Or.inl h)).1)
  refine CtI.of1 (by decide +kernel) rfl (by decide) (fun E q hl hC hr => ?_)
  subst hl
  refine j_aload_0 hC d_M_let_0 ?_
  refine j_iload_1 hC d_M_let_1 ?_
  refine m_calli1 hC (c_M_isVariable (eL E)) v_M_isVariable k_M_36 (by decide) (Nat.le_of_ble_eq_true rfl) d_M_let_2 (fun r0 u' h9 => ?_)
  obtain ⟨rfl, hb⟩ := h9
  refine j_if_ne hC 10 (by decide) d_M_let_5 (fun c_5 => ?_) (fun c_5 => ?_)
  · obtain ⟨j, hj, rfl⟩ := okV (fun z => c_5 (hb.mpr z))
    refine j_aload_0 hC d_M_let_10 ?_
    refine m_get_piled hC d_M_let_11 ?_
    refine j_nezN hC 20 (by decide) (by omega) d_M_let_14 (fun c_14 => ?_) (fun c_14 => ?_)
    · have hnt := hn40 (5 + pl) (by omega)
      have hdt := hd (5 + pl) (by omega)
      have het := hdt.1
      refine j_aload_0 hC d_M_let_20 ?_
      refine j_iconst hC ic_5 d_M_let_21 ?_
      refine j_aload_0 hC d_M_let_22 ?_
      refine m_get_piled hC d_M_let_23 ?_
      refine j_addN hC d_M_let_26 ?_
      refine j_iload_1 hC d_M_let_27 ?_
      refine m_callv2 hC (c_M_copy (eL E) (f := 5 + pl) (t := j) (by omega) (by omega) (by omega) (by omega)) v_M_copy k_M_28 (by decide) (Nat.le_of_ble_eq_true rfl) d_M_let_28 (fun u' h9 => ?_)
      obtain ⟨c1, g1, g2, rfl⟩ := h9
      refine j_aload_0 hC d_M_let_31 ?_
      refine j_dup hC rfl d_M_let_32 ?_
      refine m_get_piled hC d_M_let_33 ?_
      refine j_iconst hC ic_1 d_M_let_36 ?_
      refine j_subN hC (by omega) d_M_let_37 ?_
      refine m_put_piled hC d_M_let_38 ?_
      refine j_aload_0 hC d_M_let_41 ?_
      refine m_get_lengths hC d_M_let_42 ?_
      refine j_iload_1 hC d_M_let_45 ?_
      refine m_ld_lengths hC (by omega) d_M_let_46 ?_
      refine j_ireturn hC hr ?_ d_M_let_47
      rw [upN_s, het]
      refine ⟨_, (sp_let_N hj).trans (if_neg c_14), RM_set (m := n (5 + pl)) hR hn40 (by omega) (fun e h1 _ => by omega) (fun i hi => ?_) g2⟩
      exact (g1 i (by omega)).trans (hdt.2 i hi)
    · refine j_bipush hC bm3 d_M_let_17 ?_
      refine j_ireturn hC hr ?_ d_M_let_19
      exact ⟨_, (sp_let_N hj).trans (if_pos c_14), hR⟩
  · refine j_iconst hC im1 d_M_let_8 ?_
    refine j_ireturn hC hr ?_ d_M_let_9
    exact ⟨_, if_pos (hb.mp c_5), hR⟩
set_option maxRecDepth 20000 in
/-- drop -/
theorem c_M_drop (l : Launch) (a : Ab) (u : SM) (hR : RM a u) (hW : Wf a.1 a.2.1)   : CtI l y_M_drop b_M_drop 1 (some .int) 3 wM [] u (fun r u' => ∃ a', sp_drop a = (r, a') ∧ RM a' u') := by
  obtain ⟨p, n, ch⟩ := a
  obtain ⟨c0, ln, pl⟩ := u
  have hR : RMc p n ch c0 ln pl := hR
  have hW : Wf p n := hW
  have h2 : pl = p := hR.1
  subst h2
  have hp4 := hW.1
  have hn40 := hW.2.1
  have hs := hW.2.2
  have hd := hR.2
  have hsl : sumN ln (6 + pl) = sumN n (6 + pl) := sumN_cg (fun d h => (hd d (Or.inl h)).1)
  refine CtI.of0 (by decide +kernel) rfl (by decide) (fun E q hl hC hr => ?_)
  subst hl
  refine j_aload_0 hC d_M_drop_0 ?_
  refine m_get_piled hC d_M_drop_1 ?_
  refine j_nezN hC 10 (by decide) (by omega) d_M_drop_4 (fun c_4 => ?_) (fun c_4 => ?_)
  · refine j_aload_0 hC d_M_drop_10 ?_
    refine j_dup hC rfl d_M_drop_11 ?_
    refine m_get_piled hC d_M_drop_12 ?_
    refine j_iconst hC ic_1 d_M_drop_15 ?_
    refine j_subN hC (by omega) d_M_drop_16 ?_
    refine m_put_piled hC d_M_drop_17 ?_
    refine j_aload_0 hC d_M_drop_20 ?_
    refine m_get_lengths hC d_M_drop_21 ?_
    refine j_bipush hC bp_6 d_M_drop_24 ?_
    refine j_aload_0 hC d_M_drop_26 ?_
    refine m_get_piled hC d_M_drop_27 ?_
    refine j_addN hC d_M_drop_30 ?_
    refine m_ld_lengths hC (by omega) d_M_drop_31 ?_
    refine j_ireturn hC hr ?_ d_M_drop_32
    rw [show 6 + (pl - 1) = 5 + pl by omega, (hd (5 + pl) (by omega)).1]
    exact ⟨_, if_neg c_4, RM_less (by omega) hR⟩
  · refine j_bipush hC bm3 d_M_drop_7 ?_
    refine j_ireturn hC hr ?_ d_M_drop_9
    exact ⟨_, if_pos c_4, hR⟩
set_option maxRecDepth 20000 in
/-- join -/
theorem c_M_join (l : Launch) (a : Ab) (u : SM) (hR : RM a u) (hW : Wf a.1 a.2.1)   : CtI l y_M_join b_M_join 5 (some .int) 3 wM [] u (fun r u' => ∃ a', sp_join a = (r, a') ∧ RM a' u') := by
  obtain ⟨p, n, ch⟩ := a
  obtain ⟨c0, ln, pl⟩ := u
  have hR : RMc p n ch c0 ln pl := hR
  have hW : Wf p n := hW
  have h2 : pl = p := hR.1
  subst h2
  have hp4 := hW.1
  have hn40 := hW.2.1
  have hs := hW.2.2
  have hd := hR.2
  have hsl : sumN ln (6 + pl) = sumN n (6 + pl) := sumN_cg (fun d h => (hd d (Or.inl h)).1)
  refine CtI.of0 (by decide +kernel) rfl (by decide) (fun E q hl hC hr => ?_)
  subst hl
  refine j_aload_0 hC d_M_join_0 ?_
  refine m_get_piled hC d_M_join_1 ?_
  refine j_iconst hC ic_2 d_M_join_4 ?_
  refine j_geN hC 11 (by decide) (by omega) (by omega) d_M_join_5 (fun c_5 => ?_) (fun c_5 => ?_)
  · have hnx := hn40 (4 + pl) (by omega)
    have hny := hn40 (5 + pl) (by omega)
    have hdx := hd (4 + pl) (by omega)
    have hdy := hd (5 + pl) (by omega)
    have hex := hdx.1
    have hey := hdy.1
    refine j_iconst hC ic_5 d_M_join_11 ?_
    refine j_aload_0 hC d_M_join_12 ?_
    refine m_get_piled hC d_M_join_13 ?_
    refine j_addN hC d_M_join_16 ?_
    refine j_istore_1 hC (by decide) d_M_join_17 ?_
    refine j_iload_1 hC d_M_join_18 ?_
    refine j_iconst hC ic_1 d_M_join_19 ?_
    refine j_subN hC (by omega) d_M_join_20 ?_
    rw [show 5 + pl - 1 = 4 + pl by omega]
    refine j_istore_2 hC (by decide) d_M_join_21 ?_
    refine j_aload_0 hC d_M_join_22 ?_
    refine m_get_lengths hC d_M_join_23 ?_
    refine j_iload_2 hC d_M_join_26 ?_
    refine m_ld_lengths hC (by omega) d_M_join_27 ?_
    refine j_aload_0 hC d_M_join_28 ?_
    refine m_get_lengths hC d_M_join_29 ?_
    refine j_iload_1 hC d_M_join_32 ?_
    refine m_ld_lengths hC (by omega) d_M_join_33 ?_
    refine j_addN hC d_M_join_34 ?_
    rw [hex, hey]
    refine j_istore_3 hC (by decide) d_M_join_35 ?_
    refine j_iload_3 hC d_M_join_36 ?_
    refine j_bipush hC bp_40 d_M_join_37 ?_
    refine j_leN hC 45 (by decide) (by omega) (by omega) d_M_join_39 (fun c_39 => ?_) (fun c_39 => ?_)
    · refine j_iconst hC ic_0 d_M_join_45 ?_
      refine j_istore_4 hC (by decide) d_M_join_46 ?_
      have lp : ∀ (k i : Nat) (c1 : Nat → Int32), n (5 + pl) - i < k → i ≤ n (5 + pl) → (∀ z, z < i → c1 (40 * (4 + pl) + n (4 + pl) + z) = c0 (40 * (5 + pl) + z)) → (∀ x, (x < 40 * (4 + pl) + n (4 + pl) ∨ 40 * (4 + pl) + n (4 + pl) + i ≤ x) → c1 x = c0 x) → J E (QI E q wM (fun r u' => ∃ a', sp_join (pl, n, ch) = (r, a') ∧ RM a' u')) (wM (eI E) (eZ E) q (c1, ln, pl)) (some (.ref (q 0))) (some (.int (nI (5 + pl)))) (some (.int (nI (4 + pl)))) (some (.int (nI (n (4 + pl) + n (5 + pl))))) (some (.int (nI i))) none none none 48 [] := by
        intro k
        induction k with
        | zero =>
          intro i c1 hk hi h1 h2
          exact absurd hk (Nat.not_lt_zero _)
        | succ k ih_lp =>
          intro i c1 hk hi h1 h2
          refine j_iload_4 hC d_M_join_48 ?_
          refine j_aload_0 hC d_M_join_50 ?_
          refine m_get_lengths hC d_M_join_51 ?_
          refine j_iload_1 hC d_M_join_54 ?_
          refine m_ld_lengths hC (by omega) d_M_join_55 ?_
          refine j_geN hC 96 (by decide) (by omega) (by omega) d_M_join_56 (fun c_56 => ?_) (fun c_56 => ?_)
          · refine j_aload_0 hC d_M_join_96 ?_
            refine m_get_lengths hC d_M_join_97 ?_
            refine j_iload_2 hC d_M_join_100 ?_
            refine j_iload_3 hC d_M_join_101 ?_
            refine m_st_lengths hC (by omega) d_M_join_102 ?_
            refine j_aload_0 hC d_M_join_103 ?_
            refine j_dup hC rfl d_M_join_104 ?_
            refine m_get_piled hC d_M_join_105 ?_
            refine j_iconst hC ic_1 d_M_join_108 ?_
            refine j_subN hC (by omega) d_M_join_109 ?_
            refine m_put_piled hC d_M_join_110 ?_
            refine j_iload_3 hC d_M_join_113 ?_
            refine j_ireturn hC hr ?_ d_M_join_114
            refine ⟨_, (if_neg (by show ¬ pl < 2; omega)).trans (if_neg (by show ¬ 40 < n (4 + pl) + n (5 + pl); omega)), RM_set (m := n (4 + pl) + n (5 + pl)) hR hn40 (by omega) (fun e h3 _ => by omega) (fun z hz => ?_) (fun x hx => h2 x (by omega))⟩
            show c1 (40 * (4 + pl) + z) = if z < n (4 + pl) then ch (4 + pl) z else ch (5 + pl) (z - n (4 + pl))
            by_cases w : z < n (4 + pl)
            · rw [if_pos w, h2 _ (by omega)]; exact hdx.2 z w
            · rw [if_neg w]
              have h3 := h1 (z - n (4 + pl)) (by omega)
              rw [show 40 * (4 + pl) + n (4 + pl) + (z - n (4 + pl)) = 40 * (4 + pl) + z by omega] at h3
              rw [h3]; exact hdy.2 _ (by omega)
          · refine j_aload_0 hC d_M_join_59 ?_
            refine m_get_chars hC d_M_join_60 ?_
            refine j_bipush hC bp_40 d_M_join_63 ?_
            refine j_iload_2 hC d_M_join_65 ?_
            refine j_mulN hC d_M_join_66 ?_
            refine j_aload_0 hC d_M_join_67 ?_
            refine m_get_lengths hC d_M_join_68 ?_
            refine j_iload_2 hC d_M_join_71 ?_
            refine m_ld_lengths hC (by omega) d_M_join_72 ?_
            refine j_addN hC d_M_join_73 ?_
            refine j_iload_4 hC d_M_join_74 ?_
            refine j_addN hC d_M_join_76 ?_
            refine j_aload_0 hC d_M_join_77 ?_
            refine m_get_chars hC d_M_join_78 ?_
            refine j_bipush hC bp_40 d_M_join_81 ?_
            refine j_iload_1 hC d_M_join_83 ?_
            refine j_mulN hC d_M_join_84 ?_
            refine j_iload_4 hC d_M_join_85 ?_
            refine j_addN hC d_M_join_87 ?_
            refine m_ld_chars hC (by omega) d_M_join_88 ?_
            refine m_st_chars hC (by omega) d_M_join_89 ?_
            refine j_iinc_4 hC inc1 (by decide) d_M_join_90 ?_
            refine j_goto hC 48 (by decide) d_M_join_93 ?_
            rw [hex]
            refine ih_lp (i + 1) _ (by omega) (by omega) (fun z hz => ?_) (fun x hx => ?_)
            · by_cases e : z = i
              · subst e; rw [pk_us]; exact h2 _ (by omega)
              · rw [pk_un (by omega)]; exact h1 z (by omega)
            · rw [pk_un (by omega)]; exact h2 x (by omega)
      exact lp (n (5 + pl) + 1) 0 c0 (by omega) (Nat.zero_le _) (fun z hz => by omega) (fun x _ => rfl)
    · refine j_bipush hC bm5 d_M_join_42 ?_
      refine j_ireturn hC hr ?_ d_M_join_44
      exact ⟨_, (if_neg (by show ¬ pl < 2; omega)).trans (if_pos (by show 40 < n (4 + pl) + n (5 + pl); omega)), hR⟩
  · refine j_bipush hC bm3 d_M_join_8 ?_
    refine j_ireturn hC hr ?_ d_M_join_10
    exact ⟨_, if_pos c_5, hR⟩
set_option maxRecDepth 20000 in
/-- cut -/
theorem c_M_cut (l : Launch) (a : Ab) (u : SM) (hR : RM a u) (hW : Wf a.1 a.2.1)  (hp0 : 0 < a.1) {i m : Nat} (hi : i < 1000) (hm : m < 1000) : CtI l y_M_cut b_M_cut 7 (some .int) 0 wM [.int (nI i), .int (nI m)] u (fun r u' => ∃ a', sp_cutN a i m = (r, a') ∧ RM a' u') := by
  obtain ⟨p, n, ch⟩ := a
  obtain ⟨c0, ln, pl⟩ := u
  have hR : RMc p n ch c0 ln pl := hR
  have hW : Wf p n := hW
  have h2 : pl = p := hR.1
  subst h2
  have hp4 := hW.1
  have hn40 := hW.2.1
  have hs := hW.2.2
  have hd := hR.2
  have hsl : sumN ln (6 + pl) = sumN n (6 + pl) := sumN_cg (fun d h => (hd d (Or.inl h)).1)
  have hp0 : 0 < pl := hp0
  have hnt := hn40 (5 + pl) (by omega)
  have hdt := hd (5 + pl) (by omega)
  have het := hdt.1
  refine CtI.of2 (by decide +kernel) rfl (by decide) (fun E q hl hC hr => ?_)
  subst hl
  refine j_iconst hC ic_5 d_M_cut_0 ?_
  refine j_aload_0 hC d_M_cut_1 ?_
  refine m_get_piled hC d_M_cut_2 ?_
  refine j_addN hC d_M_cut_5 ?_
  refine j_istore_3 hC (by decide) d_M_cut_6 ?_
  refine j_aload_0 hC d_M_cut_7 ?_
  refine m_get_lengths hC d_M_cut_8 ?_
  refine j_iload_3 hC d_M_cut_11 ?_
  refine m_ld_lengths hC (by omega) d_M_cut_12 ?_
  refine j_iload_1 hC d_M_cut_13 ?_
  have mg : ∀ (K : Nat) (l4 : Option Value), K = min m (n (5 + pl) - i) → J E (QI E q wM (fun r u' => ∃ a', sp_cutN (pl, n, ch) i m = (r, a') ∧ RM a' u')) (wM (eI E) (eZ E) q (c0, ln, pl)) (some (.ref (q 0))) (some (.int (nI i))) (some (.int (nI m))) (some (.int (nI (5 + pl)))) l4 none none none 38 [.int (nI K)] := by
    intro K l4 hK
    refine j_istore_5 hC (by decide) d_M_cut_38 ?_
    refine j_iconst hC ic_0 d_M_cut_40 ?_
    refine j_istore_6 hC (by decide) d_M_cut_41 ?_
    have lp : ∀ (k y : Nat) (c1 : Nat → Int32), K - y < k → y ≤ K → (∀ z, z < y → c1 (40 * (5 + pl) + z) = c0 (40 * (5 + pl) + i + z)) → (∀ x, (x < 40 * (5 + pl) ∨ 40 * (5 + pl) + y ≤ x) → c1 x = c0 x) → J E (QI E q wM (fun r u' => ∃ a', sp_cutN (pl, n, ch) i m = (r, a') ∧ RM a' u')) (wM (eI E) (eZ E) q (c1, ln, pl)) (some (.ref (q 0))) (some (.int (nI i))) (some (.int (nI m))) (some (.int (nI (5 + pl)))) l4 (some (.int (nI K))) (some (.int (nI y))) none 43 [] := by
      intro k
      induction k with
      | zero =>
        intro y c1 hk hy h1 h2
        exact absurd hk (Nat.not_lt_zero _)
      | succ k ih_lp =>
        intro y c1 hk hy h1 h2
        refine j_iload_6 hC d_M_cut_43 ?_
        refine j_iload_5 hC d_M_cut_45 ?_
        refine j_geN hC 82 (by decide) (by omega) (by omega) d_M_cut_47 (fun c_47 => ?_) (fun c_47 => ?_)
        · refine j_aload_0 hC d_M_cut_82 ?_
          refine m_get_lengths hC d_M_cut_83 ?_
          refine j_iload_3 hC d_M_cut_86 ?_
          refine j_iload_5 hC d_M_cut_87 ?_
          refine m_st_lengths hC (by omega) d_M_cut_89 ?_
          refine j_iload_5 hC d_M_cut_90 ?_
          refine j_ireturn hC hr ?_ d_M_cut_92
          have e : y = K := by omega
          subst e
          subst hK
          refine ⟨_, rfl, RM_set hR hn40 hp4 (fun e h3 _ => h3) (fun z hz => ?_) (fun x hx => h2 x (by omega))⟩
          have hz : z < min m (n (5 + pl) - i) := hz
          show c1 (40 * (5 + pl) + z) = ch (5 + pl) (i + z)
          rw [h1 z hz, Nat.add_assoc]
          exact hdt.2 (i + z) (by omega)
        · refine j_aload_0 hC d_M_cut_50 ?_
          refine m_get_chars hC d_M_cut_51 ?_
          refine j_bipush hC bp_40 d_M_cut_54 ?_
          refine j_iload_3 hC d_M_cut_56 ?_
          refine j_mulN hC d_M_cut_57 ?_
          refine j_iload_6 hC d_M_cut_58 ?_
          refine j_addN hC d_M_cut_60 ?_
          refine j_aload_0 hC d_M_cut_61 ?_
          refine m_get_chars hC d_M_cut_62 ?_
          refine j_bipush hC bp_40 d_M_cut_65 ?_
          refine j_iload_3 hC d_M_cut_67 ?_
          refine j_mulN hC d_M_cut_68 ?_
          refine j_iload_1 hC d_M_cut_69 ?_
          refine j_addN hC d_M_cut_70 ?_
          refine j_iload_6 hC d_M_cut_71 ?_
          refine j_addN hC d_M_cut_73 ?_
          refine m_ld_chars hC (by omega) d_M_cut_74 ?_
          refine m_st_chars hC (by omega) d_M_cut_75 ?_
          refine j_iinc_6 hC inc1 (by decide) d_M_cut_76 ?_
          refine j_goto hC 43 (by decide) d_M_cut_79 ?_
          refine ih_lp (y + 1) _ (by omega) (by omega) (fun z hz => ?_) (fun x hx => ?_)
          · by_cases e : z = y
            · subst e; rw [pk_us]; exact h2 _ (by omega)
            · rw [pk_un (by omega)]; exact h1 z (by omega)
          · rw [pk_un (by omega)]; exact h2 x (by omega)
    exact lp (K + 1) 0 c0 (by omega) (Nat.zero_le _) (fun z hz => by omega) (fun x _ => rfl)
  by_cases hz : i ≤ ln (5 + pl)
  · refine j_subN hC (by omega) d_M_cut_14 ?_
    refine j_istore_4 hC (by decide) d_M_cut_15 ?_
    refine j_iload_4 hC d_M_cut_17 ?_
    refine j_gezN hC 26 (by decide) (by omega) d_M_cut_19 ?_
    refine j_iload_4 hC d_M_cut_26 ?_
    refine j_iload_2 hC d_M_cut_28 ?_
    refine j_geN hC 37 (by decide) (by omega) (by omega) d_M_cut_29 (fun c_29 => ?_) (fun c_29 => ?_)
    · refine j_iload_2 hC d_M_cut_37 ?_
      exact mg _ _ (by omega)
    · refine j_iload_4 hC d_M_cut_32 ?_
      refine j_goto hC 38 (by decide) d_M_cut_34 ?_
      exact mg _ _ (by omega)
  · have hneg : nI (ln (5 + pl)) - nI i < 0 := pk_sneg (by omega) (by omega)
    refine j_isub hC d_M_cut_14 ?_
    refine j_istore_4 hC (by decide) d_M_cut_15 ?_
    refine j_iload_4 hC d_M_cut_17 ?_
    refine j_if_ge hC 26 (by decide) d_M_cut_19 (fun c_19 => ?_) (fun c_19 => ?_)
    · exact absurd hneg (Int32.not_lt.mpr c_19)
    · refine j_iconst hC ic_0 d_M_cut_22 ?_
      refine j_goto hC 38 (by decide) d_M_cut_23 ?_
      exact mg _ _ (by omega)
set_option maxRecDepth 20000 in
/-- left -/
theorem c_M_left (l : Launch) (a : Ab) (u : SM) (hR : RM a u) (hW : Wf a.1 a.2.1) {v : Int32}  : CtI l y_M_left b_M_left 2 (some .int) 3 wM [.int v] u (fun r u' => ∃ a', sp_left a v = (r, a') ∧ RM a' u') := by
  obtain ⟨p, n, ch⟩ := a
  obtain ⟨c0, ln, pl⟩ := u
  have hR : RMc p n ch c0 ln pl := hR
  have hW : Wf p n := hW
  have h2 : pl = p := hR.1
  subst h2
  have hp4 := hW.1
  have hn40 := hW.2.1
  have hs := hW.2.2
  have hd := hR.2
  have hsl : sumN ln (6 + pl) = sumN n (6 + pl) := sumN_cg (fun d h => (hd d (Or.inl h)).1)
  refine CtI.of1 (by decide +kernel) rfl (by decide) (fun E q hl hC hr => ?_)
  subst hl
  refine j_aload_0 hC d_M_left_0 ?_
  refine j_iload_1 hC d_M_left_1 ?_
  refine m_calli1 hC (c_M_isSmall (eL E)) v_M_isSmall k_M_16 (by decide) (Nat.le_of_ble_eq_true rfl) d_M_left_2 (fun r0 u' h9 => ?_)
  obtain ⟨rfl, hb⟩ := h9
  refine j_if_ne hC 10 (by decide) d_M_left_5 (fun c_5 => ?_) (fun c_5 => ?_)
  · obtain ⟨j, hj, rfl⟩ := okB (fun z => c_5 (hb.mpr z))
    refine j_aload_0 hC d_M_left_10 ?_
    refine m_get_piled hC d_M_left_11 ?_
    refine j_nezN hC 22 (by decide) (by omega) d_M_left_14 (fun c_14 => ?_) (fun c_14 => ?_)
    · refine j_aload_0 hC d_M_left_22 ?_
      refine j_iconst hC ic_0 d_M_left_23 ?_
      refine j_iload_1 hC d_M_left_24 ?_
      refine m_calli2 hC (c_M_cut (eL E) (pl, n, ch) (c0, ln, pl) hR hW (by show 0 < pl; omega) (i := 0) (m := j) (by omega) (by omega)) v_M_cut k_M_39 (by decide) (Nat.le_of_ble_eq_true rfl) d_M_left_25 (fun r u' h9 => ?_)
      obtain ⟨a', h5, h6⟩ := h9
      refine j_ireturn hC hr ?_ d_M_left_28
      exact ⟨a', (sp_left_N hj c_14).trans h5, h6⟩
    · refine j_bipush hC bm3 d_M_left_17 ?_
      refine j_goto hC 28 (by decide) d_M_left_19 ?_
      refine j_ireturn hC hr ?_ d_M_left_28
      exact ⟨_, (if_neg (notB hj)).trans (if_pos c_14), hR⟩
  · refine j_iconst hC im1 d_M_left_8 ?_
    refine j_ireturn hC hr ?_ d_M_left_9
    exact ⟨_, if_pos (hb.mp c_5), hR⟩
set_option maxRecDepth 20000 in
/-- right -/
theorem c_M_right (l : Launch) (a : Ab) (u : SM) (hR : RM a u) (hW : Wf a.1 a.2.1) {v : Int32}  : CtI l y_M_right b_M_right 3 (some .int) 3 wM [.int v] u (fun r u' => ∃ a', sp_right a v = (r, a') ∧ RM a' u') := by
  obtain ⟨p, n, ch⟩ := a
  obtain ⟨c0, ln, pl⟩ := u
  have hR : RMc p n ch c0 ln pl := hR
  have hW : Wf p n := hW
  have h2 : pl = p := hR.1
  subst h2
  have hp4 := hW.1
  have hn40 := hW.2.1
  have hs := hW.2.2
  have hd := hR.2
  have hsl : sumN ln (6 + pl) = sumN n (6 + pl) := sumN_cg (fun d h => (hd d (Or.inl h)).1)
  refine CtI.of1 (by decide +kernel) rfl (by decide) (fun E q hl hC hr => ?_)
  subst hl
  refine j_aload_0 hC d_M_right_0 ?_
  refine j_iload_1 hC d_M_right_1 ?_
  refine m_calli1 hC (c_M_isSmall (eL E)) v_M_isSmall k_M_16 (by decide) (Nat.le_of_ble_eq_true rfl) d_M_right_2 (fun r0 u' h9 => ?_)
  obtain ⟨rfl, hb⟩ := h9
  refine j_if_ne hC 10 (by decide) d_M_right_5 (fun c_5 => ?_) (fun c_5 => ?_)
  · obtain ⟨j, hj, rfl⟩ := okB (fun z => c_5 (hb.mpr z))
    refine j_aload_0 hC d_M_right_10 ?_
    refine m_get_piled hC d_M_right_11 ?_
    refine j_nezN hC 20 (by decide) (by omega) d_M_right_14 (fun c_14 => ?_) (fun c_14 => ?_)
    · have hnt := hn40 (5 + pl) (by omega)
      have het := (hd (5 + pl) (by omega)).1
      refine j_aload_0 hC d_M_right_20 ?_
      refine m_get_lengths hC d_M_right_21 ?_
      refine j_iconst hC ic_5 d_M_right_24 ?_
      refine j_aload_0 hC d_M_right_25 ?_
      refine m_get_piled hC d_M_right_26 ?_
      refine j_addN hC d_M_right_29 ?_
      refine m_ld_lengths hC (by omega) d_M_right_30 ?_
      refine j_istore_2 hC (by decide) d_M_right_31 ?_
      refine j_iload_1 hC d_M_right_32 ?_
      refine j_iload_2 hC d_M_right_33 ?_
      refine j_ltN hC 41 (by decide) (by omega) (by omega) d_M_right_34 (fun c_34 => ?_) (fun c_34 => ?_)
      · refine j_aload_0 hC d_M_right_41 ?_
        refine j_iload_2 hC d_M_right_42 ?_
        refine j_iload_1 hC d_M_right_43 ?_
        refine j_subN hC (by omega) d_M_right_44 ?_
        refine j_iload_1 hC d_M_right_45 ?_
        refine m_calli2 hC (c_M_cut (eL E) (pl, n, ch) (c0, ln, pl) hR hW (by show 0 < pl; omega) (i := ln (5 + pl) - j) (m := j) (by omega) (by omega)) v_M_cut k_M_39 (by decide) (Nat.le_of_ble_eq_true rfl) d_M_right_46 (fun r u' h9 => ?_)
        obtain ⟨a', h5, h6⟩ := h9
        refine j_ireturn hC hr ?_ d_M_right_49
        rw [het] at h5
        exact ⟨a', (sp_right_N hj c_14 (by show j < n (5 + pl); omega)).trans h5, h6⟩
      · refine j_iload_2 hC d_M_right_37 ?_
        refine j_goto hC 49 (by decide) d_M_right_38 ?_
        refine j_ireturn hC hr ?_ d_M_right_49
        rw [het]
        exact ⟨_, sp_right_A hj c_14 (by show n (5 + pl) ≤ j; omega), hR⟩
    · refine j_bipush hC bm3 d_M_right_17 ?_
      refine j_ireturn hC hr ?_ d_M_right_19
      exact ⟨_, (if_neg (notB hj)).trans (if_pos c_14), hR⟩
  · refine j_iconst hC im1 d_M_right_8 ?_
    refine j_ireturn hC hr ?_ d_M_right_9
    exact ⟨_, if_pos (hb.mp c_5), hR⟩
set_option maxRecDepth 20000 in
/-- mid -/
theorem c_M_mid (l : Launch) (a : Ab) (u : SM) (hR : RM a u) (hW : Wf a.1 a.2.1) {i : Int32} {v : Int32}  : CtI l y_M_mid b_M_mid 3 (some .int) 3 wM [.int i, .int v] u (fun r u' => ∃ a', sp_mid a i v = (r, a') ∧ RM a' u') := by
  obtain ⟨p, n, ch⟩ := a
  obtain ⟨c0, ln, pl⟩ := u
  have hR : RMc p n ch c0 ln pl := hR
  have hW : Wf p n := hW
  have h2 : pl = p := hR.1
  subst h2
  have hp4 := hW.1
  have hn40 := hW.2.1
  have hs := hW.2.2
  have hd := hR.2
  have hsl : sumN ln (6 + pl) = sumN n (6 + pl) := sumN_cg (fun d h => (hd d (Or.inl h)).1)
  refine CtI.of2 (by decide +kernel) rfl (by decide) (fun E q hl hC hr => ?_)
  subst hl
  refine j_iload_1 hC d_M_mid_0 ?_
  refine j_iconst hC ir_1 d_M_mid_1 ?_
  refine j_icmp_lt hC 20 (by decide) d_M_mid_2 (fun c_2 => ?_) (fun c_2 => ?_)
  · refine j_iconst hC im1 d_M_mid_20 ?_
    refine j_ireturn hC hr ?_ d_M_mid_21
    exact ⟨_, if_pos (Or.inl (Or.inl c_2)), hR⟩
  · refine j_iload_1 hC d_M_mid_5 ?_
    refine j_sipush hC sr_255 d_M_mid_6 ?_
    refine j_icmp_gt hC 20 (by decide) d_M_mid_9 (fun c_9 => ?_) (fun c_9 => ?_)
    · refine j_iconst hC im1 d_M_mid_20 ?_
      refine j_ireturn hC hr ?_ d_M_mid_21
      exact ⟨_, if_pos (Or.inl (Or.inr c_9)), hR⟩
    · refine j_aload_0 hC d_M_mid_12 ?_
      refine j_iload_2 hC d_M_mid_13 ?_
      refine m_calli1 hC (c_M_isSmall (eL E)) v_M_isSmall k_M_16 (by decide) (Nat.le_of_ble_eq_true rfl) d_M_mid_14 (fun r0 u' h9 => ?_)
      obtain ⟨rfl, hb⟩ := h9
      refine j_if_ne hC 22 (by decide) d_M_mid_17 (fun c_17 => ?_) (fun c_17 => ?_)
      · obtain ⟨j, hj0, hj, rfl⟩ := ok1 (v := i) (fun z => z.elim c_2 c_9)
        obtain ⟨m, hm, rfl⟩ := okB (fun z => c_17 (hb.mpr z))
        refine j_aload_0 hC d_M_mid_22 ?_
        refine m_get_piled hC d_M_mid_23 ?_
        refine j_nezN hC 34 (by decide) (by omega) d_M_mid_26 (fun c_26 => ?_) (fun c_26 => ?_)
        · refine j_aload_0 hC d_M_mid_34 ?_
          refine j_iload_1 hC d_M_mid_35 ?_
          refine j_iconst hC ic_1 d_M_mid_36 ?_
          refine j_subN hC (by omega) d_M_mid_37 ?_
          refine j_iload_2 hC d_M_mid_38 ?_
          refine m_calli2 hC (c_M_cut (eL E) (pl, n, ch) (c0, ln, pl) hR hW (by show 0 < pl; omega) (i := j - 1) (m := m) (by omega) (by omega)) v_M_cut k_M_39 (by decide) (Nat.le_of_ble_eq_true rfl) d_M_mid_39 (fun r u' h9 => ?_)
          obtain ⟨a', h5, h6⟩ := h9
          refine j_ireturn hC hr ?_ d_M_mid_42
          exact ⟨a', (sp_mid_N hj0 hj hm c_26).trans h5, h6⟩
        · refine j_bipush hC bm3 d_M_mid_29 ?_
          refine j_goto hC 42 (by decide) d_M_mid_31 ?_
          refine j_ireturn hC hr ?_ d_M_mid_42
          exact ⟨_, (if_neg (fun z => z.elim (not1 hj0 hj) (notB hm))).trans (if_pos c_26), hR⟩
      · refine j_iconst hC im1 d_M_mid_20 ?_
        refine j_ireturn hC hr ?_ d_M_mid_21
        exact ⟨_, if_pos (Or.inr (hb.mp c_17)), hR⟩
set_option maxRecDepth 20000 in
/-- repeat -/
theorem c_M_repeat (l : Launch) (a : Ab) (u : SM) (hR : RM a u) (hW : Wf a.1 a.2.1) {c : Int32} {v : Int32}  : CtI l y_M_repeat b_M_repeat 5 (some .int) 3 wM [.int v, .int c] u (fun r u' => ∃ a', sp_repeat a v c = (r, a') ∧ RM a' u') := by
  obtain ⟨p, n, ch⟩ := a
  obtain ⟨c0, ln, pl⟩ := u
  have hR : RMc p n ch c0 ln pl := hR
  have hW : Wf p n := hW
  have h2 : pl = p := hR.1
  subst h2
  have hp4 := hW.1
  have hn40 := hW.2.1
  have hs := hW.2.2
  have hd := hR.2
  have hsl : sumN ln (6 + pl) = sumN n (6 + pl) := sumN_cg (fun d h => (hd d (Or.inl h)).1)
  refine CtI.of2 (by decide +kernel) rfl (by decide) (fun E q hl hC hr => ?_)
  subst hl
  refine j_aload_0 hC d_M_repeat_0 ?_
  refine j_iload_1 hC d_M_repeat_1 ?_
  refine m_calli1 hC (c_M_isSmall (eL E)) v_M_isSmall k_M_16 (by decide) (Nat.le_of_ble_eq_true rfl) d_M_repeat_2 (fun r0 u' h9 => ?_)
  obtain ⟨rfl, hb⟩ := h9
  refine j_if_eq hC 16 (by decide) d_M_repeat_5 (fun c_5 => ?_) (fun c_5 => ?_)
  · refine j_iconst hC im1 d_M_repeat_16 ?_
    refine j_ireturn hC hr ?_ d_M_repeat_17
    exact ⟨_, if_pos (Or.inl (hb.mp c_5)), hR⟩
  · refine j_aload_0 hC d_M_repeat_8 ?_
    refine j_iload_2 hC d_M_repeat_9 ?_
    refine m_calli1 hC (c_M_isSmall (eL E)) v_M_isSmall k_M_16 (by decide) (Nat.le_of_ble_eq_true rfl) d_M_repeat_10 (fun r1 u' h9 => ?_)
    obtain ⟨rfl, hb2⟩ := h9
    refine j_if_ne hC 18 (by decide) d_M_repeat_13 (fun c_13 => ?_) (fun c_13 => ?_)
    · obtain ⟨j, hj, rfl⟩ := okB (fun z => c_5 (hb.mpr z))
      have hsr := sp_rep (a := (pl, n, ch)) hj (fun z => c_13 (hb2.mpr z))
      refine j_aload_0 hC d_M_repeat_18 ?_
      refine m_get_piled hC d_M_repeat_19 ?_
      refine j_iconst hC ic_4 d_M_repeat_22 ?_
      refine j_neN hC 29 (by decide) (by omega) (by omega) d_M_repeat_23 (fun c_23 => ?_) (fun c_23 => ?_)
      · refine j_iload_1 hC d_M_repeat_29 ?_
        refine j_bipush hC bp_40 d_M_repeat_30 ?_
        refine j_leN hC 38 (by decide) (by omega) (by omega) d_M_repeat_32 (fun c_32 => ?_) (fun c_32 => ?_)
        · refine j_aload_0 hC d_M_repeat_38 ?_
          refine m_calli0 hC (c_M_used (eL E) hp4) v_M_used k_M_24 (by decide) (Nat.le_of_ble_eq_true rfl) d_M_repeat_39 (fun r u' h9 => ?_)
          obtain ⟨rfl, rfl⟩ := h9
          refine j_iload_1 hC d_M_repeat_42 ?_
          refine j_addN hC d_M_repeat_43 ?_
          refine j_bipush hC bp_100 d_M_repeat_44 ?_
          refine j_leN hC 52 (by decide) (by omega) (by omega) d_M_repeat_46 (fun c_46 => ?_) (fun c_46 => ?_)
          · refine j_bipush hC bp_6 d_M_repeat_52 ?_
            refine j_aload_0 hC d_M_repeat_54 ?_
            refine m_get_piled hC d_M_repeat_55 ?_
            refine j_addN hC d_M_repeat_58 ?_
            refine j_istore_3 hC (by decide) d_M_repeat_59 ?_
            refine j_iconst hC ic_0 d_M_repeat_60 ?_
            refine j_istore_4 hC (by decide) d_M_repeat_61 ?_
            have lp : ∀ (k i : Nat) (c1 : Nat → Int32), j - i < k → i ≤ j → (∀ z, z < i → c1 (40 * (6 + pl) + z) = c) → (∀ x, (x < 40 * (6 + pl) ∨ 40 * (6 + pl) + i ≤ x) → c1 x = c0 x) → J E (QI E q wM (fun r u' => ∃ a', sp_repeat (pl, n, ch) (nI j) c = (r, a') ∧ RM a' u')) (wM (eI E) (eZ E) q (c1, ln, pl)) (some (.ref (q 0))) (some (.int (nI j))) (some (.int c)) (some (.int (nI (6 + pl)))) (some (.int (nI i))) none none none 63 [] := by
              intro k
              induction k with
              | zero =>
                intro i c1 hk hi h1 h2
                exact absurd hk (Nat.not_lt_zero _)
              | succ k ih_lp =>
                intro i c1 hk hi h1 h2
                refine j_iload_4 hC d_M_repeat_63 ?_
                refine j_iload_1 hC d_M_repeat_65 ?_
                refine j_geN hC 88 (by decide) (by omega) (by omega) d_M_repeat_66 (fun c_66 => ?_) (fun c_66 => ?_)
                · refine j_aload_0 hC d_M_repeat_88 ?_
                  refine m_get_lengths hC d_M_repeat_89 ?_
                  refine j_iload_3 hC d_M_repeat_92 ?_
                  refine j_iload_1 hC d_M_repeat_93 ?_
                  refine m_st_lengths hC (by omega) d_M_repeat_94 ?_
                  refine j_aload_0 hC d_M_repeat_95 ?_
                  refine j_dup hC rfl d_M_repeat_96 ?_
                  refine m_get_piled hC d_M_repeat_97 ?_
                  refine j_iconst hC ic_1 d_M_repeat_100 ?_
                  refine j_addN hC d_M_repeat_101 ?_
                  refine m_put_piled hC d_M_repeat_102 ?_
                  refine j_iload_1 hC d_M_repeat_105 ?_
                  refine j_ireturn hC hr ?_ d_M_repeat_106
                  have e : i = j := by omega
                  subst e
                  exact ⟨_, hsr.trans ((if_neg c_23).trans ((if_neg (by omega)).trans (if_neg (by show ¬ 100 < sumN n (6 + pl) + i; omega)))), RM_set hR hn40 (by omega) (fun e h3 _ => by omega) (fun z hz => h1 z hz) (fun x hx => h2 x (by omega))⟩
                · refine j_aload_0 hC d_M_repeat_69 ?_
                  refine m_get_chars hC d_M_repeat_70 ?_
                  refine j_bipush hC bp_40 d_M_repeat_73 ?_
                  refine j_iload_3 hC d_M_repeat_75 ?_
                  refine j_mulN hC d_M_repeat_76 ?_
                  refine j_iload_4 hC d_M_repeat_77 ?_
                  refine j_addN hC d_M_repeat_79 ?_
                  refine j_iload_2 hC d_M_repeat_80 ?_
                  refine m_st_chars hC (by omega) d_M_repeat_81 ?_
                  refine j_iinc_4 hC inc1 (by decide) d_M_repeat_82 ?_
                  refine j_goto hC 63 (by decide) d_M_repeat_85 ?_
                  refine ih_lp (i + 1) _ (by omega) (by omega) (fun z hz => ?_) (fun x hx => ?_)
                  · by_cases e : z = i
                    · subst e; rw [pk_us]
                    · rw [pk_un (by omega)]; exact h1 z (by omega)
                  · rw [pk_un (by omega)]; exact h2 x (by omega)
            exact lp (j + 1) 0 c0 (by omega) (Nat.zero_le _) (fun z hz => by omega) (fun x _ => rfl)
          · refine j_bipush hC bm2 d_M_repeat_49 ?_
            refine j_ireturn hC hr ?_ d_M_repeat_51
            exact ⟨_, hsr.trans ((if_neg c_23).trans ((if_neg (by omega)).trans (if_pos (by show 100 < sumN n (6 + pl) + j; omega)))), hR⟩
        · refine j_bipush hC bm5 d_M_repeat_35 ?_
          refine j_ireturn hC hr ?_ d_M_repeat_37
          exact ⟨_, hsr.trans ((if_neg c_23).trans (if_pos c_32)), hR⟩
      · refine j_bipush hC bm2 d_M_repeat_26 ?_
        refine j_ireturn hC hr ?_ d_M_repeat_28
        exact ⟨_, hsr.trans (if_pos c_23), hR⟩
    · refine j_iconst hC im1 d_M_repeat_16 ?_
      refine j_ireturn hC hr ?_ d_M_repeat_17
      exact ⟨_, if_pos (Or.inr (hb2.mp c_13)), hR⟩
end M1
end
section
section M2
set_option maxRecDepth 20000 in
/-- order -/
theorem c_M_order (l : Launch) {c0 : Nat → Int32} {ln : Nat → Nat} {pl : Nat}  {x y : Nat} (hx : x < 10) (hy : y < 10) (hlx : ln x ≤ 40) (hly : ln y ≤ 40) : CtI l y_M_order b_M_order 4 (some .int) 0 wM [.int (nI x), .int (nI y)] (c0, ln, pl) (fun r u' => u' = (c0, ln, pl) ∧ r = ordG (fun i => c0 (40 * x + i)) (fun i => c0 (40 * y + i)) (ln x) (ln y) (min (ln x) (ln y)) 0) := by
  refine CtI.of2 (by decide +kernel) rfl (by decide) (fun E q hl hC hr => ?_)
  subst hl
  refine j_iconst hC ic_0 d_M_order_0 ?_
  refine j_istore_3 hC (by decide) d_M_order_1 ?_
  have lp : ∀ (k i : Nat), min (ln x) (ln y) - i < k → i ≤ min (ln x) (ln y) → ordG (fun i => c0 (40 * x + i)) (fun i => c0 (40 * y + i)) (ln x) (ln y) (min (ln x) (ln y)) 0 = ordG (fun i => c0 (40 * x + i)) (fun i => c0 (40 * y + i)) (ln x) (ln y) (min (ln x) (ln y) - i) i → J E (QI E q wM (fun r u' => u' = (c0, ln, pl) ∧ r = ordG (fun i => c0 (40 * x + i)) (fun i => c0 (40 * y + i)) (ln x) (ln y) (min (ln x) (ln y)) 0)) (wM (eI E) (eZ E) q (c0, ln, pl)) (some (.ref (q 0))) (some (.int (nI x))) (some (.int (nI y))) (some (.int (nI i))) none none none none 2 [] := by
    intro k
    induction k with
    | zero =>
      intro i hk hi hi2
      exact absurd hk (Nat.not_lt_zero _)
    | succ k ih_lp =>
      intro i hk hi hi2
      refine j_iload_3 hC d_M_order_2 ?_
      refine j_aload_0 hC d_M_order_3 ?_
      refine m_get_lengths hC d_M_order_4 ?_
      refine j_iload_1 hC d_M_order_7 ?_
      refine m_ld_lengths hC (by omega) d_M_order_8 ?_
      refine j_geN hC 84 (by decide) (by omega) (by omega) d_M_order_9 (fun c_9 => ?_) (fun c_9 => ?_)
      · refine j_aload_0 hC d_M_order_84 ?_
        refine m_get_lengths hC d_M_order_85 ?_
        refine j_iload_1 hC d_M_order_88 ?_
        refine m_ld_lengths hC (by omega) d_M_order_89 ?_
        refine j_aload_0 hC d_M_order_90 ?_
        refine m_get_lengths hC d_M_order_91 ?_
        refine j_iload_2 hC d_M_order_94 ?_
        refine m_ld_lengths hC (by omega) d_M_order_95 ?_
        refine j_neN hC 103 (by decide) (by omega) (by omega) d_M_order_96 (fun c_96 => ?_) (fun c_96 => ?_)
        · refine j_aload_0 hC d_M_order_103 ?_
          refine m_get_lengths hC d_M_order_104 ?_
          refine j_iload_1 hC d_M_order_107 ?_
          refine m_ld_lengths hC (by omega) d_M_order_108 ?_
          refine j_aload_0 hC d_M_order_109 ?_
          refine m_get_lengths hC d_M_order_110 ?_
          refine j_iload_2 hC d_M_order_113 ?_
          refine m_ld_lengths hC (by omega) d_M_order_114 ?_
          refine j_geN hC 122 (by decide) (by omega) (by omega) d_M_order_115 (fun c_115 => ?_) (fun c_115 => ?_)
          · refine j_iconst hC ic_2 d_M_order_122 ?_
            refine j_ireturn hC hr ?_ d_M_order_123
            refine ⟨rfl, ?_⟩
            rw [hi2, show min (ln x) (ln y) - i = 0 by omega]
            show _ = (if ln x = ln y then nI 0 else if ln x < ln y then nI 1 else nI 2)
            rw [if_neg c_96, if_neg (by omega)]
          · refine j_iconst hC ic_1 d_M_order_118 ?_
            refine j_goto hC 123 (by decide) d_M_order_119 ?_
            refine j_ireturn hC hr ?_ d_M_order_123
            refine ⟨rfl, ?_⟩
            rw [hi2, show min (ln x) (ln y) - i = 0 by omega]
            show _ = (if ln x = ln y then nI 0 else if ln x < ln y then nI 1 else nI 2)
            rw [if_neg c_96, if_pos c_115]
        · refine j_iconst hC ic_0 d_M_order_99 ?_
          refine j_goto hC 123 (by decide) d_M_order_100 ?_
          refine j_ireturn hC hr ?_ d_M_order_123
          refine ⟨rfl, ?_⟩
          rw [hi2, show min (ln x) (ln y) - i = 0 by omega]
          show _ = (if ln x = ln y then nI 0 else if ln x < ln y then nI 1 else nI 2)
          rw [if_pos c_96]
      · refine j_iload_3 hC d_M_order_12 ?_
        refine j_aload_0 hC d_M_order_13 ?_
        refine m_get_lengths hC d_M_order_14 ?_
        refine j_iload_2 hC d_M_order_17 ?_
        refine m_ld_lengths hC (by omega) d_M_order_18 ?_
        refine j_geN hC 84 (by decide) (by omega) (by omega) d_M_order_19 (fun c_19 => ?_) (fun c_19 => ?_)
        · refine j_aload_0 hC d_M_order_84 ?_
          refine m_get_lengths hC d_M_order_85 ?_
          refine j_iload_1 hC d_M_order_88 ?_
          refine m_ld_lengths hC (by omega) d_M_order_89 ?_
          refine j_aload_0 hC d_M_order_90 ?_
          refine m_get_lengths hC d_M_order_91 ?_
          refine j_iload_2 hC d_M_order_94 ?_
          refine m_ld_lengths hC (by omega) d_M_order_95 ?_
          refine j_neN hC 103 (by decide) (by omega) (by omega) d_M_order_96 (fun c_96 => ?_) (fun c_96 => ?_)
          · refine j_aload_0 hC d_M_order_103 ?_
            refine m_get_lengths hC d_M_order_104 ?_
            refine j_iload_1 hC d_M_order_107 ?_
            refine m_ld_lengths hC (by omega) d_M_order_108 ?_
            refine j_aload_0 hC d_M_order_109 ?_
            refine m_get_lengths hC d_M_order_110 ?_
            refine j_iload_2 hC d_M_order_113 ?_
            refine m_ld_lengths hC (by omega) d_M_order_114 ?_
            refine j_geN hC 122 (by decide) (by omega) (by omega) d_M_order_115 (fun c_115 => ?_) (fun c_115 => ?_)
            · refine j_iconst hC ic_2 d_M_order_122 ?_
              refine j_ireturn hC hr ?_ d_M_order_123
              refine ⟨rfl, ?_⟩
              rw [hi2, show min (ln x) (ln y) - i = 0 by omega]
              show _ = (if ln x = ln y then nI 0 else if ln x < ln y then nI 1 else nI 2)
              rw [if_neg c_96, if_neg (by omega)]
            · refine j_iconst hC ic_1 d_M_order_118 ?_
              refine j_goto hC 123 (by decide) d_M_order_119 ?_
              refine j_ireturn hC hr ?_ d_M_order_123
              refine ⟨rfl, ?_⟩
              rw [hi2, show min (ln x) (ln y) - i = 0 by omega]
              show _ = (if ln x = ln y then nI 0 else if ln x < ln y then nI 1 else nI 2)
              rw [if_neg c_96, if_pos c_115]
          · refine j_iconst hC ic_0 d_M_order_99 ?_
            refine j_goto hC 123 (by decide) d_M_order_100 ?_
            refine j_ireturn hC hr ?_ d_M_order_123
            refine ⟨rfl, ?_⟩
            rw [hi2, show min (ln x) (ln y) - i = 0 by omega]
            show _ = (if ln x = ln y then nI 0 else if ln x < ln y then nI 1 else nI 2)
            rw [if_pos c_96]
        · refine j_aload_0 hC d_M_order_22 ?_
          refine m_get_chars hC d_M_order_23 ?_
          refine j_bipush hC bp_40 d_M_order_26 ?_
          refine j_iload_1 hC d_M_order_28 ?_
          refine j_mulN hC d_M_order_29 ?_
          refine j_iload_3 hC d_M_order_30 ?_
          refine j_addN hC d_M_order_31 ?_
          refine m_ld_chars hC (by omega) d_M_order_32 ?_
          refine j_aload_0 hC d_M_order_33 ?_
          refine m_get_chars hC d_M_order_34 ?_
          refine j_bipush hC bp_40 d_M_order_37 ?_
          refine j_iload_2 hC d_M_order_39 ?_
          refine j_mulN hC d_M_order_40 ?_
          refine j_iload_3 hC d_M_order_41 ?_
          refine j_addN hC d_M_order_42 ?_
          refine m_ld_chars hC (by omega) d_M_order_43 ?_
          refine j_icmp_eq hC 78 (by decide) d_M_order_44 (fun c_44 => ?_) (fun c_44 => ?_)
          · refine j_iinc_3 hC inc1 (by decide) d_M_order_78 ?_
            refine j_goto hC 2 (by decide) d_M_order_81 ?_
            rw [show min (ln x) (ln y) - i = (min (ln x) (ln y) - (i + 1)) + 1 by omega, ordG_go c_44] at hi2
            exact ih_lp (i + 1) (by omega) (by omega) hi2
          · refine j_aload_0 hC d_M_order_47 ?_
            refine m_get_chars hC d_M_order_48 ?_
            refine j_bipush hC bp_40 d_M_order_51 ?_
            refine j_iload_1 hC d_M_order_53 ?_
            refine j_mulN hC d_M_order_54 ?_
            refine j_iload_3 hC d_M_order_55 ?_
            refine j_addN hC d_M_order_56 ?_
            refine m_ld_chars hC (by omega) d_M_order_57 ?_
            refine j_aload_0 hC d_M_order_58 ?_
            refine m_get_chars hC d_M_order_59 ?_
            refine j_bipush hC bp_40 d_M_order_62 ?_
            refine j_iload_2 hC d_M_order_64 ?_
            refine j_mulN hC d_M_order_65 ?_
            refine j_iload_3 hC d_M_order_66 ?_
            refine j_addN hC d_M_order_67 ?_
            refine m_ld_chars hC (by omega) d_M_order_68 ?_
            refine j_icmp_ge hC 76 (by decide) d_M_order_69 (fun c_69 => ?_) (fun c_69 => ?_)
            · refine j_iconst hC ic_2 d_M_order_76 ?_
              refine j_ireturn hC hr ?_ d_M_order_77
              refine ⟨rfl, ?_⟩
              rw [hi2, show min (ln x) (ln y) - i = (min (ln x) (ln y) - (i + 1)) + 1 by omega, ordG_no c_44]
              rw [if_neg (Int32.not_lt.mpr c_69)]
            · refine j_iconst hC ic_1 d_M_order_72 ?_
              refine j_goto hC 77 (by decide) d_M_order_73 ?_
              refine j_ireturn hC hr ?_ d_M_order_77
              refine ⟨rfl, ?_⟩
              rw [hi2, show min (ln x) (ln y) - i = (min (ln x) (ln y) - (i + 1)) + 1 by omega, ordG_no c_44]
              rw [if_pos (Int32.not_le.mp c_69)]
  exact lp (min (ln x) (ln y) + 1) 0 (by omega) (Nat.zero_le _) rfl
set_option maxRecDepth 20000 in
/-- compare -/
theorem c_M_compare (l : Launch) (a : Ab) (u : SM) (hR : RM a u) (hW : Wf a.1 a.2.1)   : CtI l y_M_compare b_M_compare 1 (some .int) 3 wM [] u (fun r u' => ∃ a', sp_compare a = (r, a') ∧ RM a' u') := by
  obtain ⟨p, n, ch⟩ := a
  obtain ⟨c0, ln, pl⟩ := u
  have hR : RMc p n ch c0 ln pl := hR
  have hW : Wf p n := hW
  have h2 : pl = p := hR.1
  subst h2
  have hp4 := hW.1
  have hn40 := hW.2.1
  have hs := hW.2.2
  have hd := hR.2
  have hsl : sumN ln (6 + pl) = sumN n (6 + pl) := sumN_cg (fun d h => (hd d (Or.inl h)).1)
  refine CtI.of0 (by decide +kernel) rfl (by decide) (fun E q hl hC hr => ?_)
  subst hl
  refine j_aload_0 hC d_M_compare_0 ?_
  refine m_get_piled hC d_M_compare_1 ?_
  refine j_iconst hC ic_2 d_M_compare_4 ?_
  refine j_geN hC 11 (by decide) (by omega) (by omega) d_M_compare_5 (fun c_5 => ?_) (fun c_5 => ?_)
  · have hnx := hn40 (4 + pl) (by omega)
    have hny := hn40 (5 + pl) (by omega)
    have hdx := hd (4 + pl) (by omega)
    have hdy := hd (5 + pl) (by omega)
    have hex := hdx.1
    have hey := hdy.1
    refine j_aload_0 hC d_M_compare_11 ?_
    refine j_aload_0 hC d_M_compare_12 ?_
    refine m_get_piled hC d_M_compare_13 ?_
    refine j_iconst hC ic_2 d_M_compare_16 ?_
    refine j_subN hC (by omega) d_M_compare_17 ?_
    refine m_put_piled hC d_M_compare_18 ?_
    refine j_aload_0 hC d_M_compare_21 ?_
    refine j_bipush hC bp_6 d_M_compare_22 ?_
    refine j_aload_0 hC d_M_compare_24 ?_
    refine m_get_piled hC d_M_compare_25 ?_
    refine j_addN hC d_M_compare_28 ?_
    refine j_bipush hC bp_7 d_M_compare_29 ?_
    refine j_aload_0 hC d_M_compare_31 ?_
    refine m_get_piled hC d_M_compare_32 ?_
    refine j_addN hC d_M_compare_35 ?_
    rw [show 6 + (pl - 2) = 4 + pl by omega, show 7 + (pl - 2) = 5 + pl by omega]
    refine m_calli2 hC (c_M_order (eL E) (x := 4 + pl) (y := 5 + pl) (by omega) (by omega) (by omega) (by omega)) v_M_order k_M_43 (by decide) (Nat.le_of_ble_eq_true rfl) d_M_compare_36 (fun r u' h9 => ?_)
    obtain ⟨rfl, rfl⟩ := h9
    refine j_ireturn hC hr ?_ d_M_compare_39
    refine ⟨_, (if_neg (by show ¬ pl < 2; omega)).trans (Prod.ext ?_ rfl), RM_less (by omega) hR⟩
    show ordG (ch (4 + pl)) (ch (5 + pl)) (n (4 + pl)) (n (5 + pl)) (min (n (4 + pl)) (n (5 + pl))) 0 = _
    rw [hex, hey]
    exact (ordG_cg (fun z _ h2 => ⟨hdx.2 z (by omega), hdy.2 z (by omega)⟩)).symm
  · refine j_bipush hC bm3 d_M_compare_8 ?_
    refine j_ireturn hC hr ?_ d_M_compare_10
    exact ⟨_, if_pos c_5, hR⟩
set_option maxRecDepth 20000 in
/-- begins -/
theorem c_M_begins (l : Launch) {c0 : Nat → Int32} {ln : Nat → Nat} {pl : Nat}  {x v i : Nat} (hx : x < 6) (hv : v < 6) (hi : i < 1000) (hlx : ln x ≤ 40) (hlv : ln v ≤ 40) : CtI l y_M_begins b_M_begins 5 (some .boolean) 0 wM [.int (nI x), .int (nI i), .int (nI v)] (c0, ln, pl) (fun r u' => u' = (c0, ln, pl) ∧ (r = 0 ↔ ¬ (i + ln v ≤ ln x ∧ ∀ y, y < ln v → c0 (40 * x + i + y) = c0 (40 * v + y)))) := by
  refine CtI.of3 (by decide +kernel) rfl (by decide) (fun E q hl hC hr => ?_)
  subst hl
  refine j_iload_2 hC d_M_begins_0 ?_
  refine j_aload_0 hC d_M_begins_1 ?_
  refine m_get_lengths hC d_M_begins_2 ?_
  refine j_iload_3 hC d_M_begins_5 ?_
  refine m_ld_lengths hC (by omega) d_M_begins_6 ?_
  refine j_addN hC d_M_begins_7 ?_
  refine j_aload_0 hC d_M_begins_8 ?_
  refine m_get_lengths hC d_M_begins_9 ?_
  refine j_iload_1 hC d_M_begins_12 ?_
  refine m_ld_lengths hC (by omega) d_M_begins_13 ?_
  refine j_leN hC 19 (by decide) (by omega) (by omega) d_M_begins_14 (fun c_14 => ?_) (fun c_14 => ?_)
  · refine j_iconst hC ic_0 d_M_begins_19 ?_
    refine j_istore_4 hC (by decide) d_M_begins_20 ?_
    have lp : ∀ (k y : Nat), ln v - y < k → y ≤ ln v → (∀ z, z < y → c0 (40 * x + i + z) = c0 (40 * v + z)) → J E (QI E q wM (fun r u' => u' = (c0, ln, pl) ∧ (r = 0 ↔ ¬ (i + ln v ≤ ln x ∧ ∀ y, y < ln v → c0 (40 * x + i + y) = c0 (40 * v + y))))) (wM (eI E) (eZ E) q (c0, ln, pl)) (some (.ref (q 0))) (some (.int (nI x))) (some (.int (nI i))) (some (.int (nI v))) (some (.int (nI y))) none none none 22 [] := by
      intro k
      induction k with
      | zero =>
        intro y hk hy h1
        exact absurd hk (Nat.not_lt_zero _)
      | succ k ih_lp =>
        intro y hk hy h1
        refine j_iload_4 hC d_M_begins_22 ?_
        refine j_aload_0 hC d_M_begins_24 ?_
        refine m_get_lengths hC d_M_begins_25 ?_
        refine j_iload_3 hC d_M_begins_28 ?_
        refine m_ld_lengths hC (by omega) d_M_begins_29 ?_
        refine j_geN hC 70 (by decide) (by omega) (by omega) d_M_begins_30 (fun c_30 => ?_) (fun c_30 => ?_)
        · refine j_iconst hC ic_1 d_M_begins_70 ?_
          refine j_zreturn hC bz1 hr ?_ d_M_begins_71
          exact ⟨rfl, fun z => absurd z z1n, fun z => absurd ⟨c_14, fun w hw => h1 w (by omega)⟩ z⟩
        · refine j_aload_0 hC d_M_begins_33 ?_
          refine m_get_chars hC d_M_begins_34 ?_
          refine j_bipush hC bp_40 d_M_begins_37 ?_
          refine j_iload_1 hC d_M_begins_39 ?_
          refine j_mulN hC d_M_begins_40 ?_
          refine j_iload_2 hC d_M_begins_41 ?_
          refine j_addN hC d_M_begins_42 ?_
          refine j_iload_4 hC d_M_begins_43 ?_
          refine j_addN hC d_M_begins_45 ?_
          refine m_ld_chars hC (by omega) d_M_begins_46 ?_
          refine j_aload_0 hC d_M_begins_47 ?_
          refine m_get_chars hC d_M_begins_48 ?_
          refine j_bipush hC bp_40 d_M_begins_51 ?_
          refine j_iload_3 hC d_M_begins_53 ?_
          refine j_mulN hC d_M_begins_54 ?_
          refine j_iload_4 hC d_M_begins_55 ?_
          refine j_addN hC d_M_begins_57 ?_
          refine m_ld_chars hC (by omega) d_M_begins_58 ?_
          refine j_icmp_eq hC 64 (by decide) d_M_begins_59 (fun c_59 => ?_) (fun c_59 => ?_)
          · refine j_iinc_4 hC inc1 (by decide) d_M_begins_64 ?_
            refine j_goto hC 22 (by decide) d_M_begins_67 ?_
            refine ih_lp (y + 1) (by omega) (by omega) (fun z hz => ?_)
            by_cases e : z = y
            · subst e; exact c_59
            · exact h1 z (by omega)
          · refine j_iconst hC ic_0 d_M_begins_62 ?_
            refine j_zreturn hC bz0 hr ?_ d_M_begins_63
            exact ⟨rfl, fun _ z => c_59 (z.2 y (by omega)), fun _ => nI_0⟩
    exact lp (ln v + 1) 0 (by omega) (Nat.zero_le _) (fun z hz => by omega)
  · refine j_iconst hC ic_0 d_M_begins_17 ?_
    refine j_zreturn hC bz0 hr ?_ d_M_begins_18
    exact ⟨rfl, fun _ z => by omega, fun _ => nI_0⟩
set_option maxRecDepth 20000 in
/-- find -/
theorem c_M_find (l : Launch) (a : Ab) (u : SM) (hR : RM a u) (hW : Wf a.1 a.2.1) {u0 : Int32} {v0 : Int32}  : CtI l y_M_find b_M_find 4 (some .int) 3 wM [.int u0, .int v0] u (fun r u' => ∃ a', sp_find a u0 v0 = (r, a') ∧ RM a' u') := by
  obtain ⟨p, n, ch⟩ := a
  obtain ⟨c0, ln, pl⟩ := u
  have hR : RMc p n ch c0 ln pl := hR
  have hW : Wf p n := hW
  have h2 : pl = p := hR.1
  subst h2
  have hp4 := hW.1
  have hn40 := hW.2.1
  have hs := hW.2.2
  have hd := hR.2
  have hsl : sumN ln (6 + pl) = sumN n (6 + pl) := sumN_cg (fun d h => (hd d (Or.inl h)).1)
  refine CtI.of2 (by decide +kernel) rfl (by decide) (fun E q hl hC hr => ?_)
  subst hl
  refine j_aload_0 hC d_M_find_0 ?_
  refine j_iload_1 hC d_M_find_1 ?_
  refine m_calli1 hC (c_M_isVariable (eL E)) v_M_isVariable k_M_36 (by decide) (Nat.le_of_ble_eq_true rfl) d_M_find_2 (fun r0 u' h9 => ?_)
  obtain ⟨rfl, hb⟩ := h9
  refine j_if_eq hC 16 (by decide) d_M_find_5 (fun c_5 => ?_) (fun c_5 => ?_)
  · refine j_iconst hC im1 d_M_find_16 ?_
    refine j_ireturn hC hr ?_ d_M_find_17
    exact ⟨_, if_pos (Or.inl (hb.mp c_5)), hR⟩
  · refine j_aload_0 hC d_M_find_8 ?_
    refine j_iload_2 hC d_M_find_9 ?_
    refine m_calli1 hC (c_M_isVariable (eL E)) v_M_isVariable k_M_36 (by decide) (Nat.le_of_ble_eq_true rfl) d_M_find_10 (fun r1 u' h9 => ?_)
    obtain ⟨rfl, hb2⟩ := h9
    refine j_if_ne hC 18 (by decide) d_M_find_13 (fun c_13 => ?_) (fun c_13 => ?_)
    · obtain ⟨x, hx, rfl⟩ := okV (fun z => c_5 (hb.mpr z))
      obtain ⟨v, hv, rfl⟩ := okV (fun z => c_13 (hb2.mpr z))
      have hnx := hn40 x (by omega)
      have hnv := hn40 v (by omega)
      have hdx := hd x (by omega)
      have hdv := hd v (by omega)
      have hex := hdx.1
      have hev := hdv.1
      refine j_iconst hC ic_0 d_M_find_18 ?_
      refine j_istore_3 hC (by decide) d_M_find_19 ?_
      have lp : ∀ (k i : Nat), n x - i < k → i ≤ n x → finG (ch x) (ch v) (n x) (n v) (n x) 0 = finG (ch x) (ch v) (n x) (n v) (n x - i) i → J E (QI E q wM (fun r u' => ∃ a', sp_find (pl, n, ch) (nI x) (nI v) = (r, a') ∧ RM a' u')) (wM (eI E) (eZ E) q (c0, ln, pl)) (some (.ref (q 0))) (some (.int (nI x))) (some (.int (nI v))) (some (.int (nI i))) none none none none 20 [] := by
        intro k
        induction k with
        | zero =>
          intro i hk hi hi2
          exact absurd hk (Nat.not_lt_zero _)
        | succ k ih_lp =>
          intro i hk hi hi2
          refine j_iload_3 hC d_M_find_20 ?_
          refine j_aload_0 hC d_M_find_21 ?_
          refine m_get_lengths hC d_M_find_22 ?_
          refine j_iload_1 hC d_M_find_25 ?_
          refine m_ld_lengths hC (by omega) d_M_find_26 ?_
          refine j_geN hC 50 (by decide) (by omega) (by omega) d_M_find_27 (fun c_27 => ?_) (fun c_27 => ?_)
          · refine j_iconst hC ic_0 d_M_find_50 ?_
            refine j_ireturn hC hr ?_ d_M_find_51
            refine ⟨_, (sp_find_N hx hv).trans (Prod.ext ?_ rfl), hR⟩
            show nI (finG (ch x) (ch v) (n x) (n v) (n x) 0) = nI 0
            rw [hi2, show n x - i = 0 by omega]
            rfl
          · refine j_aload_0 hC d_M_find_30 ?_
            refine j_iload_1 hC d_M_find_31 ?_
            refine j_iload_3 hC d_M_find_32 ?_
            refine j_iload_2 hC d_M_find_33 ?_
            refine m_calli3 hC (c_M_begins (eL E) (x := x) (v := v) (i := i) hx hv (by omega) (by omega) (by omega)) v_M_begins k_M_46 (by decide) (Nat.le_of_ble_eq_true rfl) d_M_find_34 (fun r u' h9 => ?_)
            obtain ⟨rfl, hbg⟩ := h9
            have hbg : r = 0 ↔ ¬ (i + n v ≤ n x ∧ ∀ y, y < n v → ch x (i + y) = ch v y) := by
              rw [hbg, hex, hev]
              refine not_congr (and_congr_right fun w => ?_)
              constructor
              · intro z y hy
                have := z y hy
                rw [Nat.add_assoc, hdx.2 (i + y) (by omega), hdv.2 y hy] at this
                exact this
              · intro z y hy
                rw [Nat.add_assoc, hdx.2 (i + y) (by omega), hdv.2 y hy]
                exact z y hy
            refine j_if_eq hC 44 (by decide) d_M_find_37 (fun c_37 => ?_) (fun c_37 => ?_)
            · refine j_iinc_3 hC inc1 (by decide) d_M_find_44 ?_
              refine j_goto hC 20 (by decide) d_M_find_47 ?_
              rw [show n x - i = (n x - (i + 1)) + 1 by omega, finG_go2 (hbg.mp c_37)] at hi2
              exact ih_lp (i + 1) (by omega) (by omega) hi2
            · refine j_iload_3 hC d_M_find_40 ?_
              refine j_iconst hC ic_1 d_M_find_41 ?_
              refine j_addN hC d_M_find_42 ?_
              refine j_ireturn hC hr ?_ d_M_find_43
              obtain ⟨w1, w2⟩ : i + n v ≤ n x ∧ ∀ y, y < n v → ch x (i + y) = ch v y := Decidable.byContradiction fun z => c_37 (hbg.mpr z)
              refine ⟨_, (sp_find_N hx hv).trans (Prod.ext ?_ rfl), hR⟩
              show nI (finG (ch x) (ch v) (n x) (n v) (n x) 0) = nI (i + 1)
              rw [hi2, show n x - i = (n x - (i + 1)) + 1 by omega, finG_yes w1 w2]
      exact lp (n x + 1) 0 (by omega) (Nat.zero_le _) rfl
    · refine j_iconst hC im1 d_M_find_16 ?_
      refine j_ireturn hC hr ?_ d_M_find_17
      exact ⟨_, if_pos (Or.inr (hb2.mp c_13)), hR⟩
set_option maxRecDepth 20000 in
/-- setMid -/
theorem c_M_setMid (l : Launch) (a : Ab) (u : SM) (hR : RM a u) (hW : Wf a.1 a.2.1) {i0 : Int32} {v : Int32}  : CtI l y_M_setMid b_M_setMid 6 (some .int) 3 wM [.int v, .int i0] u (fun r u' => ∃ a', sp_setMid a v i0 = (r, a') ∧ RM a' u') := by
  obtain ⟨p, n, ch⟩ := a
  obtain ⟨c0, ln, pl⟩ := u
  have hR : RMc p n ch c0 ln pl := hR
  have hW : Wf p n := hW
  have h2 : pl = p := hR.1
  subst h2
  have hp4 := hW.1
  have hn40 := hW.2.1
  have hs := hW.2.2
  have hd := hR.2
  have hsl : sumN ln (6 + pl) = sumN n (6 + pl) := sumN_cg (fun d h => (hd d (Or.inl h)).1)
  refine CtI.of2 (by decide +kernel) rfl (by decide) (fun E q hl hC hr => ?_)
  subst hl
  refine j_aload_0 hC d_M_setMid_0 ?_
  refine j_iload_1 hC d_M_setMid_1 ?_
  refine m_calli1 hC (c_M_isVariable (eL E)) v_M_isVariable k_M_36 (by decide) (Nat.le_of_ble_eq_true rfl) d_M_setMid_2 (fun r0 u' h9 => ?_)
  obtain ⟨rfl, hb⟩ := h9
  refine j_if_eq hC 20 (by decide) d_M_setMid_5 (fun c_5 => ?_) (fun c_5 => ?_)
  · refine j_iconst hC im1 d_M_setMid_20 ?_
    refine j_ireturn hC hr ?_ d_M_setMid_21
    exact ⟨_, if_pos (Or.inl (hb.mp c_5)), hR⟩
  · refine j_iload_2 hC d_M_setMid_8 ?_
    refine j_iconst hC ir_1 d_M_setMid_9 ?_
    refine j_icmp_lt hC 20 (by decide) d_M_setMid_10 (fun c_10 => ?_) (fun c_10 => ?_)
    · refine j_iconst hC im1 d_M_setMid_20 ?_
      refine j_ireturn hC hr ?_ d_M_setMid_21
      exact ⟨_, if_pos (Or.inr (Or.inl c_10)), hR⟩
    · refine j_iload_2 hC d_M_setMid_13 ?_
      refine j_sipush hC sr_255 d_M_setMid_14 ?_
      refine j_icmp_le hC 22 (by decide) d_M_setMid_17 (fun c_17 => ?_) (fun c_17 => ?_)
      · obtain ⟨j, hj, rfl⟩ := okV (fun z => c_5 (hb.mpr z))
        obtain ⟨i, hi0, hi, rfl⟩ := ok1 (v := i0) (fun z => z.elim c_10 (fun z => absurd c_17 (Int32.not_le.mpr z)))
        have hnj := hn40 j (by omega)
        have hdj := hd j (by omega)
        have hej := hdj.1
        refine j_aload_0 hC d_M_setMid_22 ?_
        refine m_get_piled hC d_M_setMid_23 ?_
        refine j_nezN hC 32 (by decide) (by omega) d_M_setMid_26 (fun c_26 => ?_) (fun c_26 => ?_)
        · have hnt := hn40 (5 + pl) (by omega)
          have hdt := hd (5 + pl) (by omega)
          have het := hdt.1
          refine j_iconst hC ic_5 d_M_setMid_32 ?_
          refine j_aload_0 hC d_M_setMid_33 ?_
          refine m_get_piled hC d_M_setMid_34 ?_
          refine j_addN hC d_M_setMid_37 ?_
          refine j_istore_3 hC (by decide) d_M_setMid_38 ?_
          refine j_iconst hC ic_0 d_M_setMid_39 ?_
          refine j_istore_4 hC (by decide) d_M_setMid_40 ?_
          refine j_iconst hC ic_0 d_M_setMid_42 ?_
          refine j_istore_5 hC (by decide) d_M_setMid_43 ?_
          have lp : ∀ (k y : Nat) (c1 : Nat → Int32), min (n (5 + pl)) (n j - (i - 1)) - y < k → y ≤ min (n (5 + pl)) (n j - (i - 1)) → (∀ z, z < y → c1 (40 * j + (i - 1) + z) = c0 (40 * (5 + pl) + z)) → (∀ x, (x < 40 * j + (i - 1) ∨ 40 * j + (i - 1) + y ≤ x) → c1 x = c0 x) → J E (QI E q wM (fun r u' => ∃ a', sp_setMid (pl, n, ch) (nI j) (nI i) = (r, a') ∧ RM a' u')) (wM (eI E) (eZ E) q (c1, ln, pl)) (some (.ref (q 0))) (some (.int (nI j))) (some (.int (nI i))) (some (.int (nI (5 + pl)))) (some (.int (nI y))) (some (.int (nI y))) none none 45 [] := by
            intro k
            induction k with
            | zero =>
              intro y c1 hk hy h1 h2
              exact absurd hk (Nat.not_lt_zero _)
            | succ k ih_lp =>
              intro y c1 hk hy h1 h2
              refine j_iload_5 hC d_M_setMid_45 ?_
              refine j_aload_0 hC d_M_setMid_47 ?_
              refine m_get_lengths hC d_M_setMid_48 ?_
              refine j_iload_3 hC d_M_setMid_51 ?_
              refine m_ld_lengths hC (by omega) d_M_setMid_52 ?_
              refine j_geN hC 108 (by decide) (by omega) (by omega) d_M_setMid_53 (fun c_53 => ?_) (fun c_53 => ?_)
              · refine j_aload_0 hC d_M_setMid_108 ?_
                refine j_dup hC rfl d_M_setMid_109 ?_
                refine m_get_piled hC d_M_setMid_110 ?_
                refine j_iconst hC ic_1 d_M_setMid_113 ?_
                refine j_subN hC (by omega) d_M_setMid_114 ?_
                refine m_put_piled hC d_M_setMid_115 ?_
                refine j_iload_4 hC d_M_setMid_118 ?_
                refine j_ireturn hC hr ?_ d_M_setMid_120
                have e : y = min (n (5 + pl)) (n j - (i - 1)) := by omega
                refine ⟨_, (sp_setMid_N hj hi0 hi c_26).trans (show sp_setMidN (pl, n, ch) j (i - 1) = (nI y, _) by rw [e]; rfl), ?_⟩
                have z := RM_set (p' := pl - 1) (d := j) (m := n j) (f := ovr (ch j) (ch (5 + pl)) (i - 1) (min (n (5 + pl)) (n j - (i - 1)))) (c1 := c1) hR hn40 (by omega) (fun e h3 _ => by omega) (fun z hz => ?_) (fun x hx => h2 x (by omega))
                · rw [upN_id, show upN ln j (n j) = ln by rw [← hej]; exact upN_id] at z
                  exact z
                · show c1 (40 * j + z) = if i - 1 ≤ z ∧ z < i - 1 + min (n (5 + pl)) (n j - (i - 1)) then ch (5 + pl) (z - (i - 1)) else ch j z
                  by_cases w : i - 1 ≤ z ∧ z < i - 1 + min (n (5 + pl)) (n j - (i - 1))
                  · rw [if_pos w]
                    have h3 := h1 (z - (i - 1)) (by omega)
                    rw [show 40 * j + (i - 1) + (z - (i - 1)) = 40 * j + z by omega] at h3
                    rw [h3]; exact hdt.2 _ (by omega)
                  · rw [if_neg w, h2 _ (by omega)]; exact hdj.2 z hz
              · refine j_iload_2 hC d_M_setMid_56 ?_
                refine j_iconst hC ic_1 d_M_setMid_57 ?_
                refine j_subN hC (by omega) d_M_setMid_58 ?_
                refine j_iload_5 hC d_M_setMid_59 ?_
                refine j_addN hC d_M_setMid_61 ?_
                refine j_aload_0 hC d_M_setMid_62 ?_
                refine m_get_lengths hC d_M_setMid_63 ?_
                refine j_iload_1 hC d_M_setMid_66 ?_
                refine m_ld_lengths hC (by omega) d_M_setMid_67 ?_
                refine j_geN hC 108 (by decide) (by omega) (by omega) d_M_setMid_68 (fun c_68 => ?_) (fun c_68 => ?_)
                · refine j_aload_0 hC d_M_setMid_108 ?_
                  refine j_dup hC rfl d_M_setMid_109 ?_
                  refine m_get_piled hC d_M_setMid_110 ?_
                  refine j_iconst hC ic_1 d_M_setMid_113 ?_
                  refine j_subN hC (by omega) d_M_setMid_114 ?_
                  refine m_put_piled hC d_M_setMid_115 ?_
                  refine j_iload_4 hC d_M_setMid_118 ?_
                  refine j_ireturn hC hr ?_ d_M_setMid_120
                  have e : y = min (n (5 + pl)) (n j - (i - 1)) := by omega
                  refine ⟨_, (sp_setMid_N hj hi0 hi c_26).trans (show sp_setMidN (pl, n, ch) j (i - 1) = (nI y, _) by rw [e]; rfl), ?_⟩
                  have z := RM_set (p' := pl - 1) (d := j) (m := n j) (f := ovr (ch j) (ch (5 + pl)) (i - 1) (min (n (5 + pl)) (n j - (i - 1)))) (c1 := c1) hR hn40 (by omega) (fun e h3 _ => by omega) (fun z hz => ?_) (fun x hx => h2 x (by omega))
                  · rw [upN_id, show upN ln j (n j) = ln by rw [← hej]; exact upN_id] at z
                    exact z
                  · show c1 (40 * j + z) = if i - 1 ≤ z ∧ z < i - 1 + min (n (5 + pl)) (n j - (i - 1)) then ch (5 + pl) (z - (i - 1)) else ch j z
                    by_cases w : i - 1 ≤ z ∧ z < i - 1 + min (n (5 + pl)) (n j - (i - 1))
                    · rw [if_pos w]
                      have h3 := h1 (z - (i - 1)) (by omega)
                      rw [show 40 * j + (i - 1) + (z - (i - 1)) = 40 * j + z by omega] at h3
                      rw [h3]; exact hdt.2 _ (by omega)
                    · rw [if_neg w, h2 _ (by omega)]; exact hdj.2 z hz
                · refine j_aload_0 hC d_M_setMid_71 ?_
                  refine m_get_chars hC d_M_setMid_72 ?_
                  refine j_bipush hC bp_40 d_M_setMid_75 ?_
                  refine j_iload_1 hC d_M_setMid_77 ?_
                  refine j_mulN hC d_M_setMid_78 ?_
                  refine j_iload_2 hC d_M_setMid_79 ?_
                  refine j_addN hC d_M_setMid_80 ?_
                  refine j_iconst hC ic_1 d_M_setMid_81 ?_
                  refine j_subN hC (by omega) d_M_setMid_82 ?_
                  refine j_iload_5 hC d_M_setMid_83 ?_
                  refine j_addN hC d_M_setMid_85 ?_
                  refine j_aload_0 hC d_M_setMid_86 ?_
                  refine m_get_chars hC d_M_setMid_87 ?_
                  refine j_bipush hC bp_40 d_M_setMid_90 ?_
                  refine j_iload_3 hC d_M_setMid_92 ?_
                  refine j_mulN hC d_M_setMid_93 ?_
                  refine j_iload_5 hC d_M_setMid_94 ?_
                  refine j_addN hC d_M_setMid_96 ?_
                  refine m_ld_chars hC (by omega) d_M_setMid_97 ?_
                  refine m_st_chars hC (by omega) d_M_setMid_98 ?_
                  refine j_iinc_4 hC inc1 (by decide) d_M_setMid_99 ?_
                  refine j_iinc_5 hC inc1 (by decide) d_M_setMid_102 ?_
                  refine j_goto hC 45 (by decide) d_M_setMid_105 ?_
                  rw [show 40 * j + i - 1 + y = 40 * j + (i - 1) + y by omega]
                  refine ih_lp (y + 1) _ (by omega) (by omega) (fun z hz => ?_) (fun x hx => ?_)
                  · by_cases e : z = y
                    · subst e; rw [pk_us]; exact h2 _ (by omega)
                    · rw [pk_un (by omega)]; exact h1 z (by omega)
                  · rw [pk_un (by omega)]; exact h2 x (by omega)
          exact lp (min (n (5 + pl)) (n j - (i - 1)) + 1) 0 c0 (by omega) (Nat.zero_le _) (fun z hz => by omega) (fun x _ => rfl)
        · refine j_bipush hC bm3 d_M_setMid_29 ?_
          refine j_ireturn hC hr ?_ d_M_setMid_31
          exact ⟨_, (if_neg (fun q => q.elim (notV hj) (not1 hi0 hi))).trans (if_pos c_26), hR⟩
      · refine j_iconst hC im1 d_M_setMid_20 ?_
        refine j_ireturn hC hr ?_ d_M_setMid_21
        exact ⟨_, if_pos (Or.inr (Or.inr (Int32.not_le.mp c_17))), hR⟩
theorem RM_swap {p x v : Nat} {n ln : Nat → Nat} {ch : Nat → Nat → Int32} {c0 c1 : Nat → Int32} (h : RMc p n ch c0 ln p) (hn : ∀ d, d < 11 → n d ≤ 40) (hp : p ≤ 4) (hx : x < 6) (hv : v < 6) (g1 : ∀ z, z < 40 → c1 (40 * x + z) = c0 (40 * v + z)) (g2 : ∀ z, z < 40 → c1 (40 * v + z) = c0 (40 * x + z))
    (g3 : ∀ y, (y < 40 * x ∨ 40 * x + 40 ≤ y) → (y < 40 * v ∨ 40 * v + 40 ≤ y) → c1 y = c0 y) : RMc p (upN (upN n x (n v)) v (n x)) (upC (upC ch x (ch v)) v (ch x)) c1 (upN (upN ln x (ln v)) v (ln x)) p := by
  have hX := h.2 x (by omega)
  have hV := h.2 v (by omega)
  have nX := hn x (by omega)
  have nV := hn v (by omega)
  refine ⟨rfl, fun e he => ?_⟩
  by_cases q : e = v
  · subst q
    rw [upN_s, upN_s, upC_s]
    exact ⟨hX.1, fun i hi => (g2 i (by omega)).trans (hX.2 i hi)⟩
  · rw [upN_n q, upN_n q, upC_n q]
    by_cases q2 : e = x
    · subst q2
      rw [upN_s, upN_s, upC_s]
      exact ⟨hV.1, fun i hi => (g1 i (by omega)).trans (hV.2 i hi)⟩
    · rw [upN_n q2, upN_n q2, upC_n q2]
      have hE := h.2 e he
      have nE := hn e (by omega)
      exact ⟨hE.1, fun i hi => (g3 _ (by omega) (by omega)).trans (hE.2 i hi)⟩
set_option maxRecDepth 20000 in
/-- swap -/
theorem c_M_swap (l : Launch) (a : Ab) (u : SM) (hR : RM a u) (hW : Wf a.1 a.2.1) {u0 : Int32} {v0 : Int32}  : CtI l y_M_swap b_M_swap 6 (some .int) 3 wM [.int u0, .int v0] u (fun r u' => ∃ a', sp_swap a u0 v0 = (r, a') ∧ RM a' u') := by
  obtain ⟨p, n, ch⟩ := a
  obtain ⟨c0, ln, pl⟩ := u
  have hR : RMc p n ch c0 ln pl := hR
  have hW : Wf p n := hW
  have h2 : pl = p := hR.1
  subst h2
  have hp4 := hW.1
  have hn40 := hW.2.1
  have hs := hW.2.2
  have hd := hR.2
  have hsl : sumN ln (6 + pl) = sumN n (6 + pl) := sumN_cg (fun d h => (hd d (Or.inl h)).1)
  refine CtI.of2 (by decide +kernel) rfl (by decide) (fun E q hl hC hr => ?_)
  subst hl
  refine j_aload_0 hC d_M_swap_0 ?_
  refine j_iload_1 hC d_M_swap_1 ?_
  refine m_calli1 hC (c_M_isVariable (eL E)) v_M_isVariable k_M_36 (by decide) (Nat.le_of_ble_eq_true rfl) d_M_swap_2 (fun r0 u' h9 => ?_)
  obtain ⟨rfl, hb⟩ := h9
  refine j_if_eq hC 16 (by decide) d_M_swap_5 (fun c_5 => ?_) (fun c_5 => ?_)
  · refine j_iconst hC im1 d_M_swap_16 ?_
    refine j_ireturn hC hr ?_ d_M_swap_17
    exact ⟨_, if_pos (Or.inl (hb.mp c_5)), hR⟩
  · refine j_aload_0 hC d_M_swap_8 ?_
    refine j_iload_2 hC d_M_swap_9 ?_
    refine m_calli1 hC (c_M_isVariable (eL E)) v_M_isVariable k_M_36 (by decide) (Nat.le_of_ble_eq_true rfl) d_M_swap_10 (fun r1 u' h9 => ?_)
    obtain ⟨rfl, hb2⟩ := h9
    refine j_if_ne hC 18 (by decide) d_M_swap_13 (fun c_13 => ?_) (fun c_13 => ?_)
    · obtain ⟨x, hx, rfl⟩ := okV (fun z => c_5 (hb.mpr z))
      obtain ⟨v, hv, rfl⟩ := okV (fun z => c_13 (hb2.mpr z))
      have hnx := hn40 x (by omega)
      have hnv := hn40 v (by omega)
      have hdx := hd x (by omega)
      have hdv := hd v (by omega)
      have hex := hdx.1
      have hev := hdv.1
      refine j_aload_0 hC d_M_swap_18 ?_
      refine m_get_lengths hC d_M_swap_19 ?_
      refine j_iload_1 hC d_M_swap_22 ?_
      refine m_ld_lengths hC (by omega) d_M_swap_23 ?_
      refine j_istore_3 hC (by decide) d_M_swap_24 ?_
      refine j_aload_0 hC d_M_swap_25 ?_
      refine m_get_lengths hC d_M_swap_26 ?_
      refine j_iload_1 hC d_M_swap_29 ?_
      refine j_aload_0 hC d_M_swap_30 ?_
      refine m_get_lengths hC d_M_swap_31 ?_
      refine j_iload_2 hC d_M_swap_34 ?_
      refine m_ld_lengths hC (by omega) d_M_swap_35 ?_
      refine m_st_lengths hC (by omega) d_M_swap_36 ?_
      refine j_aload_0 hC d_M_swap_37 ?_
      refine m_get_lengths hC d_M_swap_38 ?_
      refine j_iload_2 hC d_M_swap_41 ?_
      refine j_iload_3 hC d_M_swap_42 ?_
      refine m_st_lengths hC (by omega) d_M_swap_43 ?_
      refine j_iconst hC ic_0 d_M_swap_44 ?_
      refine j_istore_4 hC (by decide) d_M_swap_45 ?_
      have lp : ∀ (k y : Nat) (c1 : Nat → Int32) (l5 : Option Value), 40 - y < k → y ≤ 40 → (∀ z, z < 40 → c1 (40 * x + z) = if z < y then c0 (40 * v + z) else c0 (40 * x + z)) → (∀ z, z < 40 → c1 (40 * v + z) = if z < y then c0 (40 * x + z) else c0 (40 * v + z)) → (∀ w, (w < 40 * x ∨ 40 * x + 40 ≤ w) → (w < 40 * v ∨ 40 * v + 40 ≤ w) → c1 w = c0 w) → J E (QI E q wM (fun r u' => ∃ a', sp_swap (pl, n, ch) (nI x) (nI v) = (r, a') ∧ RM a' u')) (wM (eI E) (eZ E) q (c1, upN (upN ln x (ln v)) v (ln x), pl)) (some (.ref (q 0))) (some (.int (nI x))) (some (.int (nI v))) (some (.int (nI (ln x)))) (some (.int (nI y))) l5 none none 47 [] := by
        intro k
        induction k with
        | zero =>
          intro y c1 l5 hk hy h1 h2 h3
          exact absurd hk (Nat.not_lt_zero _)
        | succ k ih_lp =>
          intro y c1 l5 hk hy h1 h2 h3
          refine j_iload_4 hC d_M_swap_47 ?_
          refine j_bipush hC bp_40 d_M_swap_49 ?_
          refine j_geN hC 112 (by decide) (by omega) (by omega) d_M_swap_51 (fun c_51 => ?_) (fun c_51 => ?_)
          · refine j_iconst hC ic_0 d_M_swap_112 ?_
            refine j_ireturn hC hr ?_ d_M_swap_113
            refine ⟨_, sp_swap_N hx hv, RM_swap hR hn40 hp4 hx hv (fun z hz => ?_) (fun z hz => ?_) h3⟩
            · show c1 (40 * x + z) = _; rw [h1 z hz, if_pos (by omega)]
            · show c1 (40 * v + z) = _; rw [h2 z hz, if_pos (by omega)]
          · refine j_aload_0 hC d_M_swap_54 ?_
            refine m_get_chars hC d_M_swap_55 ?_
            refine j_bipush hC bp_40 d_M_swap_58 ?_
            refine j_iload_1 hC d_M_swap_60 ?_
            refine j_mulN hC d_M_swap_61 ?_
            refine j_iload_4 hC d_M_swap_62 ?_
            refine j_addN hC d_M_swap_64 ?_
            refine m_ld_chars hC (by omega) d_M_swap_65 ?_
            refine j_istore_5 hC (by decide) d_M_swap_66 ?_
            refine j_aload_0 hC d_M_swap_68 ?_
            refine m_get_chars hC d_M_swap_69 ?_
            refine j_bipush hC bp_40 d_M_swap_72 ?_
            refine j_iload_1 hC d_M_swap_74 ?_
            refine j_mulN hC d_M_swap_75 ?_
            refine j_iload_4 hC d_M_swap_76 ?_
            refine j_addN hC d_M_swap_78 ?_
            refine j_aload_0 hC d_M_swap_79 ?_
            refine m_get_chars hC d_M_swap_80 ?_
            refine j_bipush hC bp_40 d_M_swap_83 ?_
            refine j_iload_2 hC d_M_swap_85 ?_
            refine j_mulN hC d_M_swap_86 ?_
            refine j_iload_4 hC d_M_swap_87 ?_
            refine j_addN hC d_M_swap_89 ?_
            refine m_ld_chars hC (by omega) d_M_swap_90 ?_
            refine m_st_chars hC (by omega) d_M_swap_91 ?_
            refine j_aload_0 hC d_M_swap_92 ?_
            refine m_get_chars hC d_M_swap_93 ?_
            refine j_bipush hC bp_40 d_M_swap_96 ?_
            refine j_iload_2 hC d_M_swap_98 ?_
            refine j_mulN hC d_M_swap_99 ?_
            refine j_iload_4 hC d_M_swap_100 ?_
            refine j_addN hC d_M_swap_102 ?_
            refine j_iload_5 hC d_M_swap_103 ?_
            refine m_st_chars hC (by omega) d_M_swap_105 ?_
            refine j_iinc_4 hC inc1 (by decide) d_M_swap_106 ?_
            refine j_goto hC 47 (by decide) d_M_swap_109 ?_
            have e1 : c1 (40 * x + y) = c0 (40 * x + y) := by rw [h1 y (by omega), if_neg (by omega)]
            have e2 : c1 (40 * v + y) = c0 (40 * v + y) := by rw [h2 y (by omega), if_neg (by omega)]
            rw [e1, e2]
            refine ih_lp (y + 1) _ _ (by omega) (by omega) (fun z hz => ?_) (fun z hz => ?_) (fun w hw1 hw2 => ?_)
            · by_cases e : z = y
              · subst e; rw [if_pos (by omega)]
                by_cases ee : 40 * x + z = 40 * v + z
                · rw [ee, pk_us]
                · rw [pk_un ee, pk_us]
              · rw [pk_un (by omega), pk_un (by omega), h1 z hz]
                by_cases w : z < y
                · rw [if_pos w, if_pos (by omega)]
                · rw [if_neg w, if_neg (by omega)]
            · by_cases e : z = y
              · subst e; rw [if_pos (by omega), pk_us]
              · rw [pk_un (by omega), pk_un (by omega), h2 z hz]
                by_cases w : z < y
                · rw [if_pos w, if_pos (by omega)]
                · rw [if_neg w, if_neg (by omega)]
            · rw [pk_un (by omega), pk_un (by omega)]; exact h3 w hw1 hw2
      exact lp 41 0 c0 none (by omega) (Nat.zero_le _) (fun z hz => (if_neg (by omega)).symm) (fun z hz => (if_neg (by omega)).symm) (fun w _ _ => rfl)
    · refine j_iconst hC im1 d_M_swap_16 ?_
      refine j_ireturn hC hr ?_ d_M_swap_17
      exact ⟨_, if_pos (Or.inr (hb2.mp c_13)), hR⟩
set_option maxRecDepth 20000 in
/-- length -/
theorem c_M_length (l : Launch) (a : Ab) (u : SM) (hR : RM a u) (hW : Wf a.1 a.2.1) {v : Int32}  : CtI l y_M_length b_M_length 2 (some .int) 3 wM [.int v] u (fun r u' => ∃ a', sp_length a v = (r, a') ∧ RM a' u') := by
  obtain ⟨p, n, ch⟩ := a
  obtain ⟨c0, ln, pl⟩ := u
  have hR : RMc p n ch c0 ln pl := hR
  have hW : Wf p n := hW
  have h2 : pl = p := hR.1
  subst h2
  have hp4 := hW.1
  have hn40 := hW.2.1
  have hs := hW.2.2
  have hd := hR.2
  have hsl : sumN ln (6 + pl) = sumN n (6 + pl) := sumN_cg (fun d h => (hd d (Or.inl h)).1)
  refine CtI.of1 (by decide +kernel) rfl (by decide) (fun E q hl hC hr => ?_)
  subst hl
  refine j_aload_0 hC d_M_length_0 ?_
  refine j_iload_1 hC d_M_length_1 ?_
  refine m_calli1 hC (c_M_isVariable (eL E)) v_M_isVariable k_M_36 (by decide) (Nat.le_of_ble_eq_true rfl) d_M_length_2 (fun r0 u' h9 => ?_)
  obtain ⟨rfl, hb⟩ := h9
  refine j_if_eq hC 17 (by decide) d_M_length_5 (fun c_5 => ?_) (fun c_5 => ?_)
  · refine j_iconst hC im1 d_M_length_17 ?_
    refine j_ireturn hC hr ?_ d_M_length_18
    exact ⟨_, if_pos (hb.mp c_5), hR⟩
  · obtain ⟨j, hj, rfl⟩ := okV (fun z => c_5 (hb.mpr z))
    have hej := (hd j (by omega)).1
    refine j_aload_0 hC d_M_length_8 ?_
    refine m_get_lengths hC d_M_length_9 ?_
    refine j_iload_1 hC d_M_length_12 ?_
    refine m_ld_lengths hC (by omega) d_M_length_13 ?_
    refine j_goto hC 18 (by decide) d_M_length_14 ?_
    refine j_ireturn hC hr ?_ d_M_length_18
    rw [hej]
    exact ⟨(pl, n, ch), (if_neg (notV hj)).trans (by rw [cl (by omega)]), hR⟩
set_option maxRecDepth 20000 in
/-- at -/
theorem c_M_at (l : Launch) (a : Ab) (u : SM) (hR : RM a u) (hW : Wf a.1 a.2.1) {i0 : Int32} {v : Int32}  : CtI l y_M_at b_M_at 3 (some .int) 3 wM [.int v, .int i0] u (fun r u' => ∃ a', sp_at a v i0 = (r, a') ∧ RM a' u') := by
  obtain ⟨p, n, ch⟩ := a
  obtain ⟨c0, ln, pl⟩ := u
  have hR : RMc p n ch c0 ln pl := hR
  have hW : Wf p n := hW
  have h2 : pl = p := hR.1
  subst h2
  have hp4 := hW.1
  have hn40 := hW.2.1
  have hs := hW.2.2
  have hd := hR.2
  have hsl : sumN ln (6 + pl) = sumN n (6 + pl) := sumN_cg (fun d h => (hd d (Or.inl h)).1)
  refine CtI.of2 (by decide +kernel) rfl (by decide) (fun E q hl hC hr => ?_)
  subst hl
  refine j_aload_0 hC d_M_at_0 ?_
  refine j_iload_1 hC d_M_at_1 ?_
  refine m_calli1 hC (c_M_isVariable (eL E)) v_M_isVariable k_M_36 (by decide) (Nat.le_of_ble_eq_true rfl) d_M_at_2 (fun r0 u' h9 => ?_)
  obtain ⟨rfl, hb⟩ := h9
  refine j_if_eq hC 39 (by decide) d_M_at_5 (fun c_5 => ?_) (fun c_5 => ?_)
  · refine j_iconst hC ic_0 d_M_at_39 ?_
    refine j_ireturn hC hr ?_ d_M_at_40
    exact ⟨_, if_pos (hb.mp c_5), hR⟩
  · obtain ⟨j, hj, rfl⟩ := okV (fun z => c_5 (hb.mpr z))
    have hdj := hd j (by omega)
    have hej := hdj.1
    have hnj := hn40 j (by omega)
    refine j_iload_2 hC d_M_at_8 ?_
    refine j_iconst hC ir_1 d_M_at_9 ?_
    refine j_icmp_lt hC 39 (by decide) d_M_at_10 (fun c_10 => ?_) (fun c_10 => ?_)
    · refine j_iconst hC ic_0 d_M_at_39 ?_
      refine j_ireturn hC hr ?_ d_M_at_40
      exact ⟨_, (sp_at_N hj).trans (if_pos (Or.inl c_10)), hR⟩
    · refine j_iload_2 hC d_M_at_13 ?_
      refine j_aload_0 hC d_M_at_14 ?_
      refine m_get_lengths hC d_M_at_15 ?_
      refine j_iload_1 hC d_M_at_18 ?_
      refine m_ld_lengths hC (by omega) d_M_at_19 ?_
      refine j_icmp_gt hC 39 (by decide) d_M_at_20 (fun c_20 => ?_) (fun c_20 => ?_)
      · refine j_iconst hC ic_0 d_M_at_39 ?_
        refine j_ireturn hC hr ?_ d_M_at_40
        rw [hej] at c_20
        exact ⟨_, (sp_at_N hj).trans (if_pos (Or.inr c_20)), hR⟩
      · rw [hej] at c_20
        obtain ⟨i, hi0, hi, rfl⟩ := okI (m := n j) (by omega) (fun z => z.elim c_10 c_20)
        have hx3 := hdj.2 (i - 1) (by omega)
        rw [show 40 * j + (i - 1) = 40 * j + i - 1 by omega] at hx3
        refine j_aload_0 hC d_M_at_23 ?_
        refine m_get_chars hC d_M_at_24 ?_
        refine j_bipush hC bp_40 d_M_at_27 ?_
        refine j_iload_1 hC d_M_at_29 ?_
        refine j_mulN hC d_M_at_30 ?_
        refine j_iload_2 hC d_M_at_31 ?_
        refine j_addN hC d_M_at_32 ?_
        refine j_iconst hC ic_1 d_M_at_33 ?_
        refine j_subN hC (by omega) d_M_at_34 ?_
        refine m_ld_chars hC (by omega) d_M_at_35 ?_
        refine j_goto hC 40 (by decide) d_M_at_36 ?_
        refine j_ireturn hC hr ?_ d_M_at_40
        rw [hx3]
        exact ⟨_, (sp_at_N hj).trans (sp_chr_N hi0 hi (by show n j < 1000; omega)), hR⟩
set_option maxRecDepth 20000 in
/-- pile -/
theorem c_M_pile (l : Launch) (a : Ab) (u : SM) (hR : RM a u) (hW : Wf a.1 a.2.1)   : CtI l y_M_pile b_M_pile 1 (some .int) 3 wM [] u (fun r u' => ∃ a', sp_pile a = (r, a') ∧ RM a' u') := by
  obtain ⟨p, n, ch⟩ := a
  obtain ⟨c0, ln, pl⟩ := u
  have hR : RMc p n ch c0 ln pl := hR
  have hW : Wf p n := hW
  have h2 : pl = p := hR.1
  subst h2
  have hp4 := hW.1
  have hn40 := hW.2.1
  have hs := hW.2.2
  have hd := hR.2
  have hsl : sumN ln (6 + pl) = sumN n (6 + pl) := sumN_cg (fun d h => (hd d (Or.inl h)).1)
  refine CtI.of0 (by decide +kernel) rfl (by decide) (fun E q hl hC hr => ?_)
  subst hl
  refine j_aload_0 hC d_M_pile_0 ?_
  refine m_get_piled hC d_M_pile_1 ?_
  refine j_ireturn hC hr ?_ d_M_pile_4
  exact ⟨_, rfl, hR⟩
set_option maxRecDepth 20000 in
/-- topLength -/
theorem c_M_topLength (l : Launch) (a : Ab) (u : SM) (hR : RM a u) (hW : Wf a.1 a.2.1)   : CtI l y_M_topLength b_M_topLength 1 (some .int) 3 wM [] u (fun r u' => ∃ a', sp_topLength a = (r, a') ∧ RM a' u') := by
  obtain ⟨p, n, ch⟩ := a
  obtain ⟨c0, ln, pl⟩ := u
  have hR : RMc p n ch c0 ln pl := hR
  have hW : Wf p n := hW
  have h2 : pl = p := hR.1
  subst h2
  have hp4 := hW.1
  have hn40 := hW.2.1
  have hs := hW.2.2
  have hd := hR.2
  have hsl : sumN ln (6 + pl) = sumN n (6 + pl) := sumN_cg (fun d h => (hd d (Or.inl h)).1)
  refine CtI.of0 (by decide +kernel) rfl (by decide) (fun E q hl hC hr => ?_)
  subst hl
  refine j_aload_0 hC d_M_topLength_0 ?_
  refine m_get_piled hC d_M_topLength_1 ?_
  refine j_nezN hC 12 (by decide) (by omega) d_M_topLength_4 (fun c_4 => ?_) (fun c_4 => ?_)
  · refine j_aload_0 hC d_M_topLength_12 ?_
    refine m_get_lengths hC d_M_topLength_13 ?_
    refine j_iconst hC ic_5 d_M_topLength_16 ?_
    refine j_aload_0 hC d_M_topLength_17 ?_
    refine m_get_piled hC d_M_topLength_18 ?_
    refine j_addN hC d_M_topLength_21 ?_
    refine m_ld_lengths hC (by omega) d_M_topLength_22 ?_
    refine j_ireturn hC hr ?_ d_M_topLength_23
    rw [(hd (5 + pl) (by omega)).1]
    exact ⟨_, if_neg c_4, hR⟩
  · refine j_bipush hC bm3 d_M_topLength_7 ?_
    refine j_goto hC 23 (by decide) d_M_topLength_9 ?_
    refine j_ireturn hC hr ?_ d_M_topLength_23
    exact ⟨_, if_pos c_4, hR⟩
set_option maxRecDepth 20000 in
/-- topAt -/
theorem c_M_topAt (l : Launch) (a : Ab) (u : SM) (hR : RM a u) (hW : Wf a.1 a.2.1) {i0 : Int32}  : CtI l y_M_topAt b_M_topAt 2 (some .int) 3 wM [.int i0] u (fun r u' => ∃ a', sp_topAt a i0 = (r, a') ∧ RM a' u') := by
  obtain ⟨p, n, ch⟩ := a
  obtain ⟨c0, ln, pl⟩ := u
  have hR : RMc p n ch c0 ln pl := hR
  have hW : Wf p n := hW
  have h2 : pl = p := hR.1
  subst h2
  have hp4 := hW.1
  have hn40 := hW.2.1
  have hs := hW.2.2
  have hd := hR.2
  have hsl : sumN ln (6 + pl) = sumN n (6 + pl) := sumN_cg (fun d h => (hd d (Or.inl h)).1)
  refine CtI.of1 (by decide +kernel) rfl (by decide) (fun E q hl hC hr => ?_)
  subst hl
  refine j_aload_0 hC d_M_topAt_0 ?_
  refine m_get_piled hC d_M_topAt_1 ?_
  refine j_lezN hC 48 (by decide) (by omega) d_M_topAt_4 (fun c_4 => ?_) (fun c_4 => ?_)
  · refine j_iconst hC ic_0 d_M_topAt_48 ?_
    refine j_ireturn hC hr ?_ d_M_topAt_49
    exact ⟨_, if_pos c_4, hR⟩
  · have hdj := hd (5 + pl) (by omega)
    have hej := hdj.1
    have hnj := hn40 (5 + pl) (by omega)
    have hp0 : pl ≠ 0 := by omega
    refine j_iload_1 hC d_M_topAt_7 ?_
    refine j_iconst hC ir_1 d_M_topAt_8 ?_
    refine j_icmp_lt hC 48 (by decide) d_M_topAt_9 (fun c_9 => ?_) (fun c_9 => ?_)
    · refine j_iconst hC ic_0 d_M_topAt_48 ?_
      refine j_ireturn hC hr ?_ d_M_topAt_49
      exact ⟨_, (if_neg hp0).trans (if_pos (Or.inl c_9)), hR⟩
    · refine j_iload_1 hC d_M_topAt_12 ?_
      refine j_aload_0 hC d_M_topAt_13 ?_
      refine m_get_lengths hC d_M_topAt_14 ?_
      refine j_iconst hC ic_5 d_M_topAt_17 ?_
      refine j_aload_0 hC d_M_topAt_18 ?_
      refine m_get_piled hC d_M_topAt_19 ?_
      refine j_addN hC d_M_topAt_22 ?_
      refine m_ld_lengths hC (by omega) d_M_topAt_23 ?_
      refine j_icmp_gt hC 48 (by decide) d_M_topAt_24 (fun c_24 => ?_) (fun c_24 => ?_)
      · refine j_iconst hC ic_0 d_M_topAt_48 ?_
        refine j_ireturn hC hr ?_ d_M_topAt_49
        rw [hej] at c_24
        exact ⟨_, (if_neg hp0).trans (if_pos (Or.inr c_24)), hR⟩
      · rw [hej] at c_24
        obtain ⟨i, hi0, hi, rfl⟩ := okI (m := n (5 + pl)) (by omega) (fun z => z.elim c_9 c_24)
        have hx3 := hdj.2 (i - 1) (by omega)
        rw [show 40 * (5 + pl) + (i - 1) = 40 * (5 + pl) + i - 1 by omega] at hx3
        refine j_aload_0 hC d_M_topAt_27 ?_
        refine m_get_chars hC d_M_topAt_28 ?_
        refine j_bipush hC bp_40 d_M_topAt_31 ?_
        refine j_iconst hC ic_5 d_M_topAt_33 ?_
        refine j_aload_0 hC d_M_topAt_34 ?_
        refine m_get_piled hC d_M_topAt_35 ?_
        refine j_addN hC d_M_topAt_38 ?_
        refine j_mulN hC d_M_topAt_39 ?_
        refine j_iload_1 hC d_M_topAt_40 ?_
        refine j_addN hC d_M_topAt_41 ?_
        refine j_iconst hC ic_1 d_M_topAt_42 ?_
        refine j_subN hC (by omega) d_M_topAt_43 ?_
        refine m_ld_chars hC (by omega) d_M_topAt_44 ?_
        refine j_goto hC 49 (by decide) d_M_topAt_45 ?_
        refine j_ireturn hC hr ?_ d_M_topAt_49
        rw [hx3]
        exact ⟨_, (if_neg hp0).trans (sp_chr_N hi0 hi (by show n (5 + pl) < 1000; omega)), hR⟩
set_option maxRecDepth 20000 in
/-- used -/
theorem c_M_used_R (l : Launch) (a : Ab) (u : SM) (hR : RM a u) (hW : Wf a.1 a.2.1)   : CtI l y_M_used b_M_used 3 (some .int) 3 wM [] u (fun r u' => ∃ a', sp_used a = (r, a') ∧ RM a' u') := by
  obtain ⟨p, n, ch⟩ := a
  obtain ⟨c0, ln, pl⟩ := u
  have hR : RMc p n ch c0 ln pl := hR
  have hW : Wf p n := hW
  have h2 : pl = p := hR.1
  subst h2
  have hp4 := hW.1
  have hn40 := hW.2.1
  have hs := hW.2.2
  have hd := hR.2
  have hsl : sumN ln (6 + pl) = sumN n (6 + pl) := sumN_cg (fun d h => (hd d (Or.inl h)).1)
  refine CtI.of0 (by decide +kernel) rfl (by decide) (fun E q hl hC hr => ?_)
  subst hl
  refine j_iconst hC ic_0 d_M_used_0 ?_
  refine j_istore_1 hC (by decide) d_M_used_1 ?_
  refine j_iconst hC ic_0 d_M_used_2 ?_
  refine j_istore_2 hC (by decide) d_M_used_3 ?_
  have lp : ∀ (k i : Nat), 6 + pl - i < k → i ≤ 6 + pl → J E (QI E q wM (fun r u' => ∃ a', sp_used (pl, n, ch) = (r, a') ∧ RM a' u')) (wM (eI E) (eZ E) q (c0, ln, pl)) (some (.ref (q 0))) (some (.int (nI (sumN ln i)))) (some (.int (nI i))) none none none none none 4 [] := by
    intro k
    induction k with
    | zero =>
      intro i hk hi
      exact absurd hk (Nat.not_lt_zero _)
    | succ k ih_lp =>
      intro i hk hi
      refine j_iload_2 hC d_M_used_4 ?_
      refine j_bipush hC bp_6 d_M_used_5 ?_
      refine j_aload_0 hC d_M_used_7 ?_
      refine m_get_piled hC d_M_used_8 ?_
      refine j_addN hC d_M_used_11 ?_
      refine j_geN hC 30 (by decide) (by omega) (by omega) d_M_used_12 (fun c_12 => ?_) (fun c_12 => ?_)
      · refine j_iload_1 hC d_M_used_30 ?_
        refine j_ireturn hC hr ?_ d_M_used_31
        have e : i = 6 + pl := by omega
        subst e
        rw [hsl]
        exact ⟨_, rfl, hR⟩
      · refine j_iload_1 hC d_M_used_15 ?_
        refine j_aload_0 hC d_M_used_16 ?_
        refine m_get_lengths hC d_M_used_17 ?_
        refine j_iload_2 hC d_M_used_20 ?_
        refine m_ld_lengths hC (by omega) d_M_used_21 ?_
        refine j_addN hC d_M_used_22 ?_
        refine j_istore_1 hC (by decide) d_M_used_23 ?_
        refine j_iinc_2 hC inc1 (by decide) d_M_used_24 ?_
        refine j_goto hC 4 (by decide) d_M_used_27 ?_
        exact ih_lp (i + 1) (by omega) (by omega)
  exact lp (7 + pl) 0 (by omega) (Nat.zero_le _)
end M2
end
section
section WF
variable {a a' : Ab} {r : Int32}
theorem clV {v : Int32} (h : ¬ (v < 0 ∨ 6 ≤ v)) : v.toNatClampNeg < 6 := by
  obtain ⟨j, hj, rfl⟩ := okV h
  rw [cl (by omega)]
  exact hj
theorem wf_up {p : Nat} {n : Nat → Nat} (h : Wf p n) {p' d m : Nat} (hp : p' ≤ 4) (hm : m ≤ 40) (hs : sumN (upN n d m) (6 + p') ≤ 100) : Wf p' (upN n d m) := by
  refine ⟨hp, fun e he => ?_, hs⟩
  by_cases q : e = d
  · subst q; rw [upN_s]; exact hm
  · rw [upN_n q]; exact h.2.1 e he
theorem wf_less {p p' : Nat} {n : Nat → Nat} (h : Wf p n) (hp : p' ≤ p) : Wf p' n := by
  refine ⟨Nat.le_trans hp h.1, h.2.1, Nat.le_trans ?_ h.2.2⟩
  have : ∀ k m, sumN n m ≤ sumN n (m + k) := by
    intro k m
    induction k with
    | zero => exact Nat.le_refl _
    | succ k ih => exact Nat.le_trans ih (Nat.le_add_right _ _)
  have h2 := this (p - p') (6 + p')
  rw [show 6 + p' + (p - p') = 6 + p by omega] at h2
  exact h2
theorem sum_s {n : Nat → Nat} {p : Nat} : sumN n (6 + p) = sumN n (5 + p) + n (5 + p) := by
  rw [show 6 + p = (5 + p) + 1 by omega]
  rfl
theorem wf_key {c : Int32} (h : Wf a.1 a.2.1) (e : sp_key a c = (r, a')) : Wf a'.1 a'.2.1 := by
  unfold sp_key at e
  split at e
  · cases e; exact h
  · split at e
    · cases e; exact h
    · cases e
      have h1 := h.1
      have h2 := h.2.1 10 (by decide)
      exact wf_up h h.1 (by omega) (by rw [sumN_no (by omega)]; exact h.2.2)
theorem wf_newLine (h : Wf a.1 a.2.1) : Wf (sp_newLine a).1 (sp_newLine a).2.1 := by
  have h1 := h.1
  exact wf_up (p' := a.1) h h.1 (by omega) (by rw [sumN_no (by omega)]; exact h.2.2)
theorem wf_pushN {d : Nat} (hd : d < 11) (h : Wf a.1 a.2.1) (e : sp_pushN a d = (r, a')) : Wf a'.1 a'.2.1 := by
  unfold sp_pushN at e
  split at e
  · cases e; exact h
  · next q =>
    cases e
    have h1 := h.1
    have h2 := h.2.1 d hd
    refine wf_up h (by show a.1 + 1 ≤ 4; omega) h2 ?_
    show sumN (upN a.2.1 (6 + a.1) (a.2.1 d)) (6 + a.1) + upN a.2.1 (6 + a.1) (a.2.1 d) (6 + a.1) ≤ 100
    rw [upN_s, sumN_no (Nat.le_refl _)]
    omega
theorem wf_push {v : Int32} (h : Wf a.1 a.2.1) (e : sp_push a v = (r, a')) : Wf a'.1 a'.2.1 := by
  unfold sp_push at e
  split at e
  · cases e; exact h
  · next q => exact wf_pushN (by have := clV q; omega) h e
theorem wf_let {v : Int32} (h : Wf a.1 a.2.1) (e : sp_let a v = (r, a')) : Wf a'.1 a'.2.1 := by
  unfold sp_let at e
  split at e
  · cases e; exact h
  · next q =>
    have hv := clV q
    unfold sp_letN at e
    split at e
    · cases e; exact h
    · next q2 =>
      cases e
      have h1 := h.1
      have h3 := h.2.2
      have h2 := h.2.1 (5 + a.1) (by omega)
      have e1 := sum_s (n := a.2.1) (p := a.1)
      have e2 := sumN_up (f := a.2.1) (d := v.toNatClampNeg) (x := a.2.1 (5 + a.1)) (k := 5 + a.1) (by omega)
      refine wf_up h (by show a.1 - 1 ≤ 4; omega) h2 ?_
      show sumN (upN a.2.1 v.toNatClampNeg (a.2.1 (5 + a.1))) (6 + (a.1 - 1)) ≤ 100
      rw [show 6 + (a.1 - 1) = 5 + a.1 by omega]
      omega
theorem wf_drop (h : Wf a.1 a.2.1) (e : sp_drop a = (r, a')) : Wf a'.1 a'.2.1 := by
  unfold sp_drop at e
  split at e
  · cases e; exact h
  · cases e; exact wf_less h (Nat.sub_le _ _)
theorem wf_join (h : Wf a.1 a.2.1) (e : sp_join a = (r, a')) : Wf a'.1 a'.2.1 := by
  unfold sp_join at e
  split at e
  · cases e; exact h
  · next q =>
    split at e
    · cases e; exact h
    · next q2 =>
      cases e
      have h1 := h.1
      have h3 := h.2.2
      have e1 := sum_s (n := a.2.1) (p := a.1)
      have e2 : sumN a.2.1 (5 + a.1) = sumN a.2.1 (4 + a.1) + a.2.1 (4 + a.1) := by
        rw [show 5 + a.1 = (4 + a.1) + 1 by omega]
        rfl
      refine wf_up h (by show a.1 - 1 ≤ 4; omega) (by omega) ?_
      show sumN (upN a.2.1 (4 + a.1) (a.2.1 (4 + a.1) + a.2.1 (5 + a.1))) (6 + (a.1 - 1)) ≤ 100
      rw [show 6 + (a.1 - 1) = (4 + a.1) + 1 by omega]
      show sumN (upN a.2.1 (4 + a.1) (a.2.1 (4 + a.1) + a.2.1 (5 + a.1))) (4 + a.1) + upN a.2.1 (4 + a.1) (a.2.1 (4 + a.1) + a.2.1 (5 + a.1)) (4 + a.1) ≤ 100
      rw [upN_s, sumN_no (Nat.le_refl _)]
      omega
theorem wf_cutN {i k : Nat} (hp : a.1 ≠ 0) (h : Wf a.1 a.2.1) (e : sp_cutN a i k = (r, a')) : Wf a'.1 a'.2.1 := by
  unfold sp_cutN at e
  cases e
  have h1 := h.1
  have h3 := h.2.2
  have h2 := h.2.1 (5 + a.1) (by omega)
  have e2 := sumN_up (f := a.2.1) (d := 5 + a.1) (x := min k (a.2.1 (5 + a.1) - i)) (k := 6 + a.1) (by omega)
  exact wf_up (p' := a.1) h h.1 (by omega) (by omega)
theorem wf_left {v : Int32} (h : Wf a.1 a.2.1) (e : sp_left a v = (r, a')) : Wf a'.1 a'.2.1 := by
  unfold sp_left at e
  split at e
  · cases e; exact h
  · split at e
    · cases e; exact h
    · next q => exact wf_cutN q h e
theorem wf_right {v : Int32} (h : Wf a.1 a.2.1) (e : sp_right a v = (r, a')) : Wf a'.1 a'.2.1 := by
  unfold sp_right at e
  split at e
  · cases e; exact h
  · split at e
    · cases e; exact h
    · next q =>
      split at e
      · exact wf_cutN q h e
      · cases e; exact h
theorem wf_mid {i v : Int32} (h : Wf a.1 a.2.1) (e : sp_mid a i v = (r, a')) : Wf a'.1 a'.2.1 := by
  unfold sp_mid at e
  split at e
  · cases e; exact h
  · split at e
    · cases e; exact h
    · next q => exact wf_cutN q h e
theorem wf_repeat {v c : Int32} (h : Wf a.1 a.2.1) (e : sp_repeat a v c = (r, a')) : Wf a'.1 a'.2.1 := by
  unfold sp_repeat at e
  split at e
  · cases e; exact h
  · split at e
    · cases e; exact h
    · next q =>
      split at e
      · cases e; exact h
      · next q2 =>
        split at e
        · cases e; exact h
        · next q3 =>
          cases e
          have h1 := h.1
          refine wf_up h (by show a.1 + 1 ≤ 4; omega) (by omega) ?_
          show sumN (upN a.2.1 (6 + a.1) v.toNatClampNeg) (6 + a.1) + upN a.2.1 (6 + a.1) v.toNatClampNeg (6 + a.1) ≤ 100
          rw [upN_s, sumN_no (Nat.le_refl _)]
          omega
theorem wf_compare (h : Wf a.1 a.2.1) (e : sp_compare a = (r, a')) : Wf a'.1 a'.2.1 := by
  unfold sp_compare at e
  split at e
  · cases e; exact h
  · cases e; exact wf_less h (Nat.sub_le _ _)
theorem wf_find {u v : Int32} (h : Wf a.1 a.2.1) (e : sp_find a u v = (r, a')) : Wf a'.1 a'.2.1 := by
  unfold sp_find at e
  split at e
  · cases e; exact h
  · cases e; exact h
theorem wf_setMid {v i : Int32} (h : Wf a.1 a.2.1) (e : sp_setMid a v i = (r, a')) : Wf a'.1 a'.2.1 := by
  unfold sp_setMid at e
  split at e
  · cases e; exact h
  · split at e
    · cases e; exact h
    · unfold sp_setMidN at e
      cases e; exact wf_less h (Nat.sub_le _ _)
theorem wf_swap {u v : Int32} (h : Wf a.1 a.2.1) (e : sp_swap a u v = (r, a')) : Wf a'.1 a'.2.1 := by
  unfold sp_swap at e
  split at e
  · cases e; exact h
  · next q =>
    have hu := clV (fun z => q (Or.inl z))
    have hv := clV (fun z => q (Or.inr z))
    unfold sp_swapN at e
    cases e
    have h1 := h.1
    have h3 := h.2.2
    generalize u.toNatClampNeg = x at hu ⊢
    generalize v.toNatClampNeg = y at hv ⊢
    have e1 := sumN_up (f := a.2.1) (d := x) (x := a.2.1 y) (k := 6 + a.1) (by omega)
    have e2 := sumN_up (f := upN a.2.1 x (a.2.1 y)) (d := y) (x := a.2.1 x) (k := 6 + a.1) (by omega)
    have hx := h.2.1 x (by omega)
    have hy := h.2.1 y (by omega)
    refine ⟨h.1, fun d hd => ?_, ?_⟩
    · show upN (upN a.2.1 x (a.2.1 y)) y (a.2.1 x) d ≤ 40
      by_cases q1 : d = y
      · subst q1; rw [upN_s]; exact hx
      · rw [upN_n q1]
        by_cases q2 : d = x
        · subst q2; rw [upN_s]; exact hy
        · rw [upN_n q2]; exact h.2.1 d hd
    · show sumN (upN (upN a.2.1 x (a.2.1 y)) y (a.2.1 x)) (6 + a.1) ≤ 100
      by_cases q1 : y = x
      · subst q1
        rw [upN_s] at e2
        omega
      · rw [upN_n q1] at e2
        omega
theorem wf_length {v : Int32} (h : Wf a.1 a.2.1) (e : sp_length a v = (r, a')) : Wf a'.1 a'.2.1 := by
  unfold sp_length at e
  split at e
  · cases e; exact h
  · cases e; exact h
theorem wf_chr {d : Nat} {i : Int32} (h : Wf a.1 a.2.1) (e : sp_chr a d i = (r, a')) : Wf a'.1 a'.2.1 := by
  unfold sp_chr at e
  split at e
  · cases e; exact h
  · cases e; exact h
theorem wf_at {v i : Int32} (h : Wf a.1 a.2.1) (e : sp_at a v i = (r, a')) : Wf a'.1 a'.2.1 := by
  unfold sp_at at e
  split at e
  · cases e; exact h
  · exact wf_chr h e
theorem wf_pile (h : Wf a.1 a.2.1) (e : sp_pile a = (r, a')) : Wf a'.1 a'.2.1 := by
  unfold sp_pile at e
  cases e; exact h
theorem wf_topLength (h : Wf a.1 a.2.1) (e : sp_topLength a = (r, a')) : Wf a'.1 a'.2.1 := by
  unfold sp_topLength at e
  split at e
  · cases e; exact h
  · cases e; exact h
theorem wf_topAt {i : Int32} (h : Wf a.1 a.2.1) (e : sp_topAt a i = (r, a')) : Wf a'.1 a'.2.1 := by
  unfold sp_topAt at e
  split at e
  · cases e; exact h
  · exact wf_chr h e
theorem wf_used (h : Wf a.1 a.2.1) (e : sp_used a = (r, a')) : Wf a'.1 a'.2.1 := by
  unfold sp_used at e
  cases e; exact h
theorem wf_literal (h : Wf a.1 a.2.1) (e : sp_pushN a 10 = (r, a')) : Wf a'.1 a'.2.1 := wf_pushN (by decide) h e
-- the start: all empty
def a0 : Ab := (0, fun _ => 0, fun _ _ => 0)
def u0 : SX := (0, fun _ => 0, 0, fun _ => 0, fun _ => 0, 144, fun _ => 0, fun _ => 0, fun _ => 0)
def w0 : SM := (fun _ => 0, fun _ => 0, 0)
theorem wf_0 : Wf a0.1 a0.2.1 := ⟨by decide, fun _ _ => Nat.zero_le _, by decide⟩
theorem RX_0 : RX a0 u0 := ⟨rfl, fun i hi => absurd hi (Nat.not_lt_zero _), rfl, Nat.le_refl _, fun d _ => ⟨Nat.zero_le _, Nat.zero_le _⟩, fun d _ => ⟨rfl, fun h => absurd h (Nat.lt_irrefl _)⟩⟩
theorem RM_0 : RM a0 w0 := ⟨rfl, fun d _ => ⟨rfl, fun i hi => absurd hi (Nat.not_lt_zero _)⟩⟩
end WF
end
section
theorem oi_code : Cond.code objectInit ⟨#[0xb1]⟩ 1 none ∈ wT := wT_of (List.mem_of_getElem? (i := 30) rfl) rfl
theorem oi_inst : Cond.instanceMethod objectInit ∈ wT := wT_of (List.mem_of_getElem? (i := 29) rfl) rfl
theorem oi_X : Cond.methodLink R_X 1 objectInit ∈ wT := wT_of (List.mem_of_getElem? (i := 28) rfl) rfl
theorem ac_I : Cond.arrayClass .int ∈ wT := wT_of (List.mem_of_getElem? (i := 59) rfl) rfl
theorem ac_Z : Cond.arrayClass .boolean ∈ wT := wT_of (List.mem_of_getElem? (i := 60) rfl) rfl
theorem oi_M : Cond.methodLink R_M 1 objectInit ∈ wT := wT_of (List.mem_of_getElem? (i := 203) rfl) rfl
set_option maxHeartbeats 1000000 in
set_option maxRecDepth 100000 in
/-- the constructor: the arrays come, all is empty -/
theorem c_X_init (l : Launch) (D : va_G) (h0 sz : Nat) : Met l y_X_init (wY y_X_init b_X_init 1 none) ({ frames := 1, cells := 6, slots := 492, locals := 12 }) (va_Pc [.ref h0] (fun U => U.heap.size = sz ∧ va_P D classes [(h0, .inr (0, [.int 0, .null, .int 0, .null, .null, .int 0, .null, .null, .null]))] U.heap ∧ va_K D classes [] U ∧ va_D (fun _ => True) [(h0, .inr (0, [.int 0, .null, .int 0, .null, .null, .int 0, .null, .null, .null]))])) (va_Qv (fun z : (Nat → Nat) × ClassId × ClassId => z.1 0 = h0) (fun z t => va_P D classes (wX z.2.1 z.2.2 z.1 u0) t.heap ∧ va_K D classes (tyz z.2.1 z.2.2) t ∧ va_D (va_A [(h0, .inr (0, [.int 0, .null, .int 0, .null, .null, .int 0, .null, .null, .null]))] sz) (wX z.2.1 z.2.2 z.1 u0)) (va_A [(h0, .inr (0, [.int 0, .null, .int 0, .null, .null, .int 0, .null, .null, .null]))] sz)) 6 492 (va_A [(h0, .inr (0, [.int 0, .null, .int 0, .null, .null, .int 0, .null, .null, .null]))] sz) := by
  refine Met.ofW (cc := b_X_init) (maxL := 1) (ret := none) (by decide +kernel) rfl ?_
  intro p e s m args below meth c s₁ B hml hv
  obtain ⟨rfl, hsz, hP, hK, hD0⟩ := hv
  have hx := B.exec
  have hb := B.bytes
  have hr := B.returns
  have hts0 := atoms_spec (ws := wY y_X_init b_X_init 1 none) B.pre
  have hts : ∀ w ∈ wT, w.before _ s = true := fun w hw => hts0 w (List.mem_cons_of_mem _ hw)
  have hown : s.vm.findClass R_X = some m.cls := findClass_of_methodNamed B.named
  have hlocks := B.notSynchronized
  have hin : meth.name = "<init>" := (name_of_methodNamed B.named B.method).1
  subst hsz
  have hD := hD0.self (sz := s.heap.size)
  generalize hAe : va_A [(h0, .inr (0, [.int 0, .null, .int 0, .null, .null, .int 0, .null, .null, .null]))] s.heap.size = A at hD ⊢
  have hA : ∀ q : Nat, s.heap.size ≤ q → A q := fun q h => by rw [← hAe]; exact Or.inr h
  have hS : va_S A s.heap s.heap [] := va_S.rf
  have hP : va_P D classes [(h0, .inr (0, [.int 0, .null, .int 0, .null, .null, .int 0, .null, .null, .null]))] s.heap := hP
  have hl := lv_entry ([.ref h0]) (n := 1) (Nat.le_of_ble_eq_true rfl)
  rw [lg_entry_eq]
  generalize (lg_sl ([.ref h0]) ++ List.replicate (1 - (lg_sl ([.ref h0])).length) Slot.unset).toArray = ls at hl ⊢
  have hl : lv_has ls 1 [(0, .ref h0)] := hl
  refine lv_aload_n hx hb d_X_init_0 rfl (lv_at hl 0 rfl) ?_
  refine W.objInit hx hb hown (hts _ oi_X) (hts _ oi_inst) (hts _ oi_code) rfl (by rw [hml]; exact hl.1) rfl d_X_init_1 (Nat.le_of_ble_eq_true rfl) (Nat.le_of_ble_eq_true rfl) ?_
  refine W.eq (g2 := F0 m 4 ls []) rfl ?_
  refine lv_aload_n hx hb d_X_init_4 rfl (lv_at hl 0 rfl) ?_
  refine lv_bipush (v := nI 40) hx hb d_X_init_5 (by decide +kernel) ?_
  refine va_newa (D := D) (atype := .int) (ty := .int) (N' := 40) (a0 := (40, .inl (fun _ => 0))) hx hb (hts _ ac_I) rfl hK hP hD hS hA (fun cA => rfl) (by decide +kernel) (by decide +kernel) (by decide +kernel) (Nat.le_of_ble_eq_true rfl) (Nat.le_of_ble_eq_true rfl) d_X_init_7 (fun q1 c1 H hK hP hD hS => ?_)
  have hK : va_K D classes [(c1, .int)] s := hK
  have hP : va_P D classes [(h0, .inr (0, [.int 0, .null, .int 0, .null, .null, .int 0, .null, .null, .null])), (q1, .inl (c1, 40, .inl (fun _ => 0)))] H := hP
  have hD : va_D A [(h0, .inr (0, [.int 0, .null, .int 0, .null, .null, .int 0, .null, .null, .null])), (q1, .inl (c1, 40, .inl (fun _ => 0)))] := hD
  refine W.widen (k := 1) (n := 40) (Nat.le_of_ble_eq_true rfl) (Nat.le_of_ble_eq_true rfl) ?_
  refine va_putF (D := D) (ci := 0) (v := .ref q1) (ty := .array .int) (C := R_X) (T := F_X) (N := 9) hx hb hts iT_X t_X t_X_ok n_X hown hK hP hD hS 0 rfl rfl 1 (by decide) (hts _ f_X_7) (fun _ h9 => h9) rfl hin rfl (by decide +kernel) rfl rfl (Nat.le_of_ble_eq_true rfl) d_X_init_9 (fun H locs hP hD hS => ?_)
  have hP : va_P D classes [(h0, .inr (0, [.int 0, .ref q1, .int 0, .null, .null, .int 0, .null, .null, .null])), (q1, .inl (c1, 40, .inl (fun _ => 0)))] H := hP
  have hD : va_D A [(h0, .inr (0, [.int 0, .ref q1, .int 0, .null, .null, .int 0, .null, .null, .null])), (q1, .inl (c1, 40, .inl (fun _ => 0)))] := hD
  refine lv_aload_n hx hb d_X_init_12 rfl (lv_at hl 0 rfl) ?_
  refine lv_bipush (v := nI 10) hx hb d_X_init_13 (by decide +kernel) ?_
  refine va_newa (D := D) (atype := .int) (ty := .int) (N' := 10) (a0 := (10, .inl (fun _ => 0))) hx hb (hts _ ac_I) rfl hK hP hD hS hA (fun cA => rfl) (by decide +kernel) (by decide +kernel) (by decide +kernel) (Nat.le_of_ble_eq_true rfl) (Nat.le_of_ble_eq_true rfl) d_X_init_15 (fun q2 c2 H hK hP hD hS => ?_)
  have hK : va_K D classes [(c1, .int), (c2, .int)] s := hK
  have hP : va_P D classes [(h0, .inr (0, [.int 0, .ref q1, .int 0, .null, .null, .int 0, .null, .null, .null])), (q1, .inl (c1, 40, .inl (fun _ => 0))), (q2, .inl (c2, 10, .inl (fun _ => 0)))] H := hP
  have hD : va_D A [(h0, .inr (0, [.int 0, .ref q1, .int 0, .null, .null, .int 0, .null, .null, .null])), (q1, .inl (c1, 40, .inl (fun _ => 0))), (q2, .inl (c2, 10, .inl (fun _ => 0)))] := hD
  refine W.widen (k := 2) (n := 50) (Nat.le_of_ble_eq_true rfl) (Nat.le_of_ble_eq_true rfl) ?_
  refine va_putF (D := D) (ci := 0) (v := .ref q2) (ty := .array .int) (C := R_X) (T := F_X) (N := 9) hx hb hts iT_X t_X t_X_ok n_X hown hK hP hD hS 0 rfl rfl 3 (by decide) (hts _ f_X_13) (fun _ h9 => h9) rfl hin rfl (by decide +kernel) rfl rfl (Nat.le_of_ble_eq_true rfl) d_X_init_17 (fun H locs hP hD hS => ?_)
  have hP : va_P D classes [(h0, .inr (0, [.int 0, .ref q1, .int 0, .ref q2, .null, .int 0, .null, .null, .null])), (q1, .inl (c1, 40, .inl (fun _ => 0))), (q2, .inl (c2, 10, .inl (fun _ => 0)))] H := hP
  have hD : va_D A [(h0, .inr (0, [.int 0, .ref q1, .int 0, .ref q2, .null, .int 0, .null, .null, .null])), (q1, .inl (c1, 40, .inl (fun _ => 0))), (q2, .inl (c2, 10, .inl (fun _ => 0)))] := hD
  refine lv_aload_n hx hb d_X_init_20 rfl (lv_at hl 0 rfl) ?_
  refine lv_bipush (v := nI 10) hx hb d_X_init_21 (by decide +kernel) ?_
  refine va_newa (D := D) (atype := .int) (ty := .int) (N' := 10) (a0 := (10, .inl (fun _ => 0))) hx hb (hts _ ac_I) rfl hK hP hD hS hA (fun cA => rfl) (by decide +kernel) (by decide +kernel) (by decide +kernel) (Nat.le_of_ble_eq_true rfl) (Nat.le_of_ble_eq_true rfl) d_X_init_23 (fun q3 c3 H hK hP hD hS => ?_)
  have hK : va_K D classes [(c1, .int), (c2, .int), (c3, .int)] s := hK
  have hP : va_P D classes [(h0, .inr (0, [.int 0, .ref q1, .int 0, .ref q2, .null, .int 0, .null, .null, .null])), (q1, .inl (c1, 40, .inl (fun _ => 0))), (q2, .inl (c2, 10, .inl (fun _ => 0))), (q3, .inl (c3, 10, .inl (fun _ => 0)))] H := hP
  have hD : va_D A [(h0, .inr (0, [.int 0, .ref q1, .int 0, .ref q2, .null, .int 0, .null, .null, .null])), (q1, .inl (c1, 40, .inl (fun _ => 0))), (q2, .inl (c2, 10, .inl (fun _ => 0))), (q3, .inl (c3, 10, .inl (fun _ => 0)))] := hD
  refine W.widen (k := 3) (n := 60) (Nat.le_of_ble_eq_true rfl) (Nat.le_of_ble_eq_true rfl) ?_
  refine va_putF (D := D) (ci := 0) (v := .ref q3) (ty := .array .int) (C := R_X) (T := F_X) (N := 9) hx hb hts iT_X t_X t_X_ok n_X hown hK hP hD hS 0 rfl rfl 4 (by decide) (hts _ f_X_16) (fun _ h9 => h9) rfl hin rfl (by decide +kernel) rfl rfl (Nat.le_of_ble_eq_true rfl) d_X_init_25 (fun H locs hP hD hS => ?_)
  have hP : va_P D classes [(h0, .inr (0, [.int 0, .ref q1, .int 0, .ref q2, .ref q3, .int 0, .null, .null, .null])), (q1, .inl (c1, 40, .inl (fun _ => 0))), (q2, .inl (c2, 10, .inl (fun _ => 0))), (q3, .inl (c3, 10, .inl (fun _ => 0)))] H := hP
  have hD : va_D A [(h0, .inr (0, [.int 0, .ref q1, .int 0, .ref q2, .ref q3, .int 0, .null, .null, .null])), (q1, .inl (c1, 40, .inl (fun _ => 0))), (q2, .inl (c2, 10, .inl (fun _ => 0))), (q3, .inl (c3, 10, .inl (fun _ => 0)))] := hD
  refine lv_aload_n hx hb d_X_init_28 rfl (lv_at hl 0 rfl) ?_
  refine lv_sipush (v := nI 144) hx hb d_X_init_29 (by decide +kernel) ?_
  refine va_newa (D := D) (atype := .int) (ty := .int) (N' := 144) (a0 := (144, .inl (fun _ => 0))) hx hb (hts _ ac_I) rfl hK hP hD hS hA (fun cA => rfl) (by decide +kernel) (by decide +kernel) (by decide +kernel) (Nat.le_of_ble_eq_true rfl) (Nat.le_of_ble_eq_true rfl) d_X_init_32 (fun q4 c4 H hK hP hD hS => ?_)
  have hK : va_K D classes [(c1, .int), (c2, .int), (c3, .int), (c4, .int)] s := hK
  have hP : va_P D classes [(h0, .inr (0, [.int 0, .ref q1, .int 0, .ref q2, .ref q3, .int 0, .null, .null, .null])), (q1, .inl (c1, 40, .inl (fun _ => 0))), (q2, .inl (c2, 10, .inl (fun _ => 0))), (q3, .inl (c3, 10, .inl (fun _ => 0))), (q4, .inl (c4, 144, .inl (fun _ => 0)))] H := hP
  have hD : va_D A [(h0, .inr (0, [.int 0, .ref q1, .int 0, .ref q2, .ref q3, .int 0, .null, .null, .null])), (q1, .inl (c1, 40, .inl (fun _ => 0))), (q2, .inl (c2, 10, .inl (fun _ => 0))), (q3, .inl (c3, 10, .inl (fun _ => 0))), (q4, .inl (c4, 144, .inl (fun _ => 0)))] := hD
  refine W.widen (k := 4) (n := 204) (Nat.le_of_ble_eq_true rfl) (Nat.le_of_ble_eq_true rfl) ?_
  refine va_putF (D := D) (ci := 0) (v := .ref q4) (ty := .array .int) (C := R_X) (T := F_X) (N := 9) hx hb hts iT_X t_X t_X_ok n_X hown hK hP hD hS 0 rfl rfl 6 (by decide) (hts _ f_X_19) (fun _ h9 => h9) rfl hin rfl (by decide +kernel) rfl rfl (Nat.le_of_ble_eq_true rfl) d_X_init_34 (fun H locs hP hD hS => ?_)
  have hP : va_P D classes [(h0, .inr (0, [.int 0, .ref q1, .int 0, .ref q2, .ref q3, .int 0, .ref q4, .null, .null])), (q1, .inl (c1, 40, .inl (fun _ => 0))), (q2, .inl (c2, 10, .inl (fun _ => 0))), (q3, .inl (c3, 10, .inl (fun _ => 0))), (q4, .inl (c4, 144, .inl (fun _ => 0)))] H := hP
  have hD : va_D A [(h0, .inr (0, [.int 0, .ref q1, .int 0, .ref q2, .ref q3, .int 0, .ref q4, .null, .null])), (q1, .inl (c1, 40, .inl (fun _ => 0))), (q2, .inl (c2, 10, .inl (fun _ => 0))), (q3, .inl (c3, 10, .inl (fun _ => 0))), (q4, .inl (c4, 144, .inl (fun _ => 0)))] := hD
  refine lv_aload_n hx hb d_X_init_37 rfl (lv_at hl 0 rfl) ?_
  refine lv_sipush (v := nI 144) hx hb d_X_init_38 (by decide +kernel) ?_
  refine va_newa (D := D) (atype := .boolean) (ty := .boolean) (N' := 144) (a0 := (144, .inl (fun _ => 0))) hx hb (hts _ ac_Z) rfl hK hP hD hS hA (fun cA => rfl) (by decide +kernel) (by decide +kernel) (by decide +kernel) (Nat.le_of_ble_eq_true rfl) (Nat.le_of_ble_eq_true rfl) d_X_init_41 (fun q5 c5 H hK hP hD hS => ?_)
  have hK : va_K D classes [(c1, .int), (c2, .int), (c3, .int), (c4, .int), (c5, .boolean)] s := hK
  have hP : va_P D classes [(h0, .inr (0, [.int 0, .ref q1, .int 0, .ref q2, .ref q3, .int 0, .ref q4, .null, .null])), (q1, .inl (c1, 40, .inl (fun _ => 0))), (q2, .inl (c2, 10, .inl (fun _ => 0))), (q3, .inl (c3, 10, .inl (fun _ => 0))), (q4, .inl (c4, 144, .inl (fun _ => 0))), (q5, .inl (c5, 144, .inl (fun _ => 0)))] H := hP
  have hD : va_D A [(h0, .inr (0, [.int 0, .ref q1, .int 0, .ref q2, .ref q3, .int 0, .ref q4, .null, .null])), (q1, .inl (c1, 40, .inl (fun _ => 0))), (q2, .inl (c2, 10, .inl (fun _ => 0))), (q3, .inl (c3, 10, .inl (fun _ => 0))), (q4, .inl (c4, 144, .inl (fun _ => 0))), (q5, .inl (c5, 144, .inl (fun _ => 0)))] := hD
  refine W.widen (k := 5) (n := 348) (Nat.le_of_ble_eq_true rfl) (Nat.le_of_ble_eq_true rfl) ?_
  refine va_putF (D := D) (ci := 0) (v := .ref q5) (ty := .array .boolean) (C := R_X) (T := F_X) (N := 9) hx hb hts iT_X t_X t_X_ok n_X hown hK hP hD hS 0 rfl rfl 7 (by decide) (hts _ f_X_22) (fun _ h9 => h9) rfl hin rfl (by decide +kernel) rfl rfl (Nat.le_of_ble_eq_true rfl) d_X_init_43 (fun H locs hP hD hS => ?_)
  have hP : va_P D classes [(h0, .inr (0, [.int 0, .ref q1, .int 0, .ref q2, .ref q3, .int 0, .ref q4, .ref q5, .null])), (q1, .inl (c1, 40, .inl (fun _ => 0))), (q2, .inl (c2, 10, .inl (fun _ => 0))), (q3, .inl (c3, 10, .inl (fun _ => 0))), (q4, .inl (c4, 144, .inl (fun _ => 0))), (q5, .inl (c5, 144, .inl (fun _ => 0)))] H := hP
  have hD : va_D A [(h0, .inr (0, [.int 0, .ref q1, .int 0, .ref q2, .ref q3, .int 0, .ref q4, .ref q5, .null])), (q1, .inl (c1, 40, .inl (fun _ => 0))), (q2, .inl (c2, 10, .inl (fun _ => 0))), (q3, .inl (c3, 10, .inl (fun _ => 0))), (q4, .inl (c4, 144, .inl (fun _ => 0))), (q5, .inl (c5, 144, .inl (fun _ => 0)))] := hD
  refine lv_aload_n hx hb d_X_init_46 rfl (lv_at hl 0 rfl) ?_
  refine lv_sipush (v := nI 144) hx hb d_X_init_47 (by decide +kernel) ?_
  refine va_newa (D := D) (atype := .int) (ty := .int) (N' := 144) (a0 := (144, .inl (fun _ => 0))) hx hb (hts _ ac_I) rfl hK hP hD hS hA (fun cA => rfl) (by decide +kernel) (by decide +kernel) (by decide +kernel) (Nat.le_of_ble_eq_true rfl) (Nat.le_of_ble_eq_true rfl) d_X_init_50 (fun q6 c6 H hK hP hD hS => ?_)
  have hK : va_K D classes [(c1, .int), (c2, .int), (c3, .int), (c4, .int), (c5, .boolean), (c6, .int)] s := hK
  have hP : va_P D classes [(h0, .inr (0, [.int 0, .ref q1, .int 0, .ref q2, .ref q3, .int 0, .ref q4, .ref q5, .null])), (q1, .inl (c1, 40, .inl (fun _ => 0))), (q2, .inl (c2, 10, .inl (fun _ => 0))), (q3, .inl (c3, 10, .inl (fun _ => 0))), (q4, .inl (c4, 144, .inl (fun _ => 0))), (q5, .inl (c5, 144, .inl (fun _ => 0))), (q6, .inl (c6, 144, .inl (fun _ => 0)))] H := hP
  have hD : va_D A [(h0, .inr (0, [.int 0, .ref q1, .int 0, .ref q2, .ref q3, .int 0, .ref q4, .ref q5, .null])), (q1, .inl (c1, 40, .inl (fun _ => 0))), (q2, .inl (c2, 10, .inl (fun _ => 0))), (q3, .inl (c3, 10, .inl (fun _ => 0))), (q4, .inl (c4, 144, .inl (fun _ => 0))), (q5, .inl (c5, 144, .inl (fun _ => 0))), (q6, .inl (c6, 144, .inl (fun _ => 0)))] := hD
  refine W.widen (k := 6) (n := 492) (Nat.le_of_ble_eq_true rfl) (Nat.le_of_ble_eq_true rfl) ?_
  refine va_putF (D := D) (ci := 0) (v := .ref q6) (ty := .array .int) (C := R_X) (T := F_X) (N := 9) hx hb hts iT_X t_X t_X_ok n_X hown hK hP hD hS 0 rfl rfl 8 (by decide) (hts _ f_X_26) (fun _ h9 => h9) rfl hin rfl (by decide +kernel) rfl rfl (Nat.le_of_ble_eq_true rfl) d_X_init_52 (fun H locs hP hD hS => ?_)
  have hP : va_P D classes [(h0, .inr (0, [.int 0, .ref q1, .int 0, .ref q2, .ref q3, .int 0, .ref q4, .ref q5, .ref q6])), (q1, .inl (c1, 40, .inl (fun _ => 0))), (q2, .inl (c2, 10, .inl (fun _ => 0))), (q3, .inl (c3, 10, .inl (fun _ => 0))), (q4, .inl (c4, 144, .inl (fun _ => 0))), (q5, .inl (c5, 144, .inl (fun _ => 0))), (q6, .inl (c6, 144, .inl (fun _ => 0)))] H := hP
  have hD : va_D A [(h0, .inr (0, [.int 0, .ref q1, .int 0, .ref q2, .ref q3, .int 0, .ref q4, .ref q5, .ref q6])), (q1, .inl (c1, 40, .inl (fun _ => 0))), (q2, .inl (c2, 10, .inl (fun _ => 0))), (q3, .inl (c3, 10, .inl (fun _ => 0))), (q4, .inl (c4, 144, .inl (fun _ => 0))), (q5, .inl (c5, 144, .inl (fun _ => 0))), (q6, .inl (c6, 144, .inl (fun _ => 0)))] := hD
  refine lv_aload_n hx hb d_X_init_55 rfl (lv_at hl 0 rfl) ?_
  refine lv_sipush (v := nI 144) hx hb d_X_init_56 (by decide +kernel) ?_
  refine va_put (D := D) (ci := 0) (v := .int (nI 144)) (ty := .int) (C := R_X) (T := F_X) (N := 9) hx hb hts iT_X t_X t_X_ok n_X hown hK hP hD hS 0 rfl rfl 5 (by decide) (hts _ f_X_29) (fun _ h9 => h9) rfl (by decide +kernel) rfl rfl (Nat.le_of_ble_eq_true rfl) d_X_init_59 (fun H locs hP hD hS => ?_)
  have hP : va_P D classes [(h0, .inr (0, [.int 0, .ref q1, .int 0, .ref q2, .ref q3, .int (nI 144), .ref q4, .ref q5, .ref q6])), (q1, .inl (c1, 40, .inl (fun _ => 0))), (q2, .inl (c2, 10, .inl (fun _ => 0))), (q3, .inl (c3, 10, .inl (fun _ => 0))), (q4, .inl (c4, 144, .inl (fun _ => 0))), (q5, .inl (c5, 144, .inl (fun _ => 0))), (q6, .inl (c6, 144, .inl (fun _ => 0)))] H := hP
  have hD : va_D A [(h0, .inr (0, [.int 0, .ref q1, .int 0, .ref q2, .ref q3, .int (nI 144), .ref q4, .ref q5, .ref q6])), (q1, .inl (c1, 40, .inl (fun _ => 0))), (q2, .inl (c2, 10, .inl (fun _ => 0))), (q3, .inl (c3, 10, .inl (fun _ => 0))), (q4, .inl (c4, 144, .inl (fun _ => 0))), (q5, .inl (c5, 144, .inl (fun _ => 0))), (q6, .inl (c6, 144, .inl (fun _ => 0)))] := hD
  have e2 : c1 = c2 := Option.some.inj ((hK.2 0 _ rfl).2.symm.trans (hK.2 1 _ rfl).2)
  subst e2
  have e3 : c1 = c3 := Option.some.inj ((hK.2 0 _ rfl).2.symm.trans (hK.2 2 _ rfl).2)
  subst e3
  have e4 : c1 = c4 := Option.some.inj ((hK.2 0 _ rfl).2.symm.trans (hK.2 3 _ rfl).2)
  subst e4
  have e6 : c1 = c6 := Option.some.inj ((hK.2 0 _ rfl).2.symm.trans (hK.2 5 _ rfl).2)
  subst e6
  exact W.vret hx hb hr (fun t ht hW => ⟨⟨(fun k => match k with | 0 => h0 | 1 => q1 | 2 => q2 | 3 => q3 | 4 => q4 | 5 => q5 | _ => q6, c1, c5), rfl, rfl, by rw [ht]; exact hP, va_K.moved hW.alike (hK.sub (tys' := tyz c1 c5) [0, 4] rfl), hD⟩, hS.F ht⟩) hS.2.2 d_X_init_62
abbrev tyi (cI _cZ : ClassId) : List (ClassId × FieldType) := [(cI, .int)]
set_option maxHeartbeats 1000000 in
set_option maxRecDepth 100000 in
/-- the constructor: the arrays come, all is empty -/
theorem c_M_init (l : Launch) (D : va_G) (h0 sz : Nat) : Met l y_M_init (wY y_M_init b_M_init 1 none) ({ frames := 1, cells := 2, slots := 451, locals := 12 }) (va_Pc [.ref h0] (fun U => U.heap.size = sz ∧ va_P D classes [(h0, .inr (1, [.null, .null, .int 0]))] U.heap ∧ va_K D classes [] U ∧ va_D (fun _ => True) [(h0, .inr (1, [.null, .null, .int 0]))])) (va_Qv (fun z : (Nat → Nat) × ClassId × ClassId => z.1 0 = h0) (fun z t => va_P D classes (wM z.2.1 z.2.2 z.1 w0) t.heap ∧ va_K D classes (tyi z.2.1 z.2.2) t ∧ va_D (va_A [(h0, .inr (1, [.null, .null, .int 0]))] sz) (wM z.2.1 z.2.2 z.1 w0)) (va_A [(h0, .inr (1, [.null, .null, .int 0]))] sz)) 2 451 (va_A [(h0, .inr (1, [.null, .null, .int 0]))] sz) := by
  refine Met.ofW (cc := b_M_init) (maxL := 1) (ret := none) (by decide +kernel) rfl ?_
  intro p e s m args below meth c s₁ B hml hv
  obtain ⟨rfl, hsz, hP, hK, hD0⟩ := hv
  have hx := B.exec
  have hb := B.bytes
  have hr := B.returns
  have hts0 := atoms_spec (ws := wY y_M_init b_M_init 1 none) B.pre
  have hts : ∀ w ∈ wT, w.before _ s = true := fun w hw => hts0 w (List.mem_cons_of_mem _ hw)
  have hown : s.vm.findClass R_M = some m.cls := findClass_of_methodNamed B.named
  have hlocks := B.notSynchronized
  have hin : meth.name = "<init>" := (name_of_methodNamed B.named B.method).1
  subst hsz
  have hD := hD0.self (sz := s.heap.size)
  generalize hAe : va_A [(h0, .inr (1, [.null, .null, .int 0]))] s.heap.size = A at hD ⊢
  have hA : ∀ q : Nat, s.heap.size ≤ q → A q := fun q h => by rw [← hAe]; exact Or.inr h
  have hS : va_S A s.heap s.heap [] := va_S.rf
  have hP : va_P D classes [(h0, .inr (1, [.null, .null, .int 0]))] s.heap := hP
  have hl := lv_entry ([.ref h0]) (n := 1) (Nat.le_of_ble_eq_true rfl)
  rw [lg_entry_eq]
  generalize (lg_sl ([.ref h0]) ++ List.replicate (1 - (lg_sl ([.ref h0])).length) Slot.unset).toArray = ls at hl ⊢
  have hl : lv_has ls 1 [(0, .ref h0)] := hl
  refine lv_aload_n hx hb d_M_init_0 rfl (lv_at hl 0 rfl) ?_
  refine W.objInit hx hb hown (hts _ oi_M) (hts _ oi_inst) (hts _ oi_code) rfl (by rw [hml]; exact hl.1) rfl d_M_init_1 (Nat.le_of_ble_eq_true rfl) (Nat.le_of_ble_eq_true rfl) ?_
  refine W.eq (g2 := F0 m 4 ls []) rfl ?_
  refine lv_aload_n hx hb d_M_init_4 rfl (lv_at hl 0 rfl) ?_
  refine lv_sipush (v := nI 440) hx hb d_M_init_5 (by decide +kernel) ?_
  refine va_newa (D := D) (atype := .int) (ty := .int) (N' := 440) (a0 := (440, .inl (fun _ => 0))) hx hb (hts _ ac_I) rfl hK hP hD hS hA (fun cA => rfl) (by decide +kernel) (by decide +kernel) (by decide +kernel) (Nat.le_of_ble_eq_true rfl) (Nat.le_of_ble_eq_true rfl) d_M_init_8 (fun q1 c1 H hK hP hD hS => ?_)
  have hK : va_K D classes [(c1, .int)] s := hK
  have hP : va_P D classes [(h0, .inr (1, [.null, .null, .int 0])), (q1, .inl (c1, 440, .inl (fun _ => 0)))] H := hP
  have hD : va_D A [(h0, .inr (1, [.null, .null, .int 0])), (q1, .inl (c1, 440, .inl (fun _ => 0)))] := hD
  refine W.widen (k := 1) (n := 440) (Nat.le_of_ble_eq_true rfl) (Nat.le_of_ble_eq_true rfl) ?_
  refine va_putF (D := D) (ci := 1) (v := .ref q1) (ty := .array .int) (C := R_M) (T := F_M) (N := 3) hx hb hts iT_M t_M t_M_ok n_M hown hK hP hD hS 0 rfl rfl 0 (by decide) (hts _ f_M_7) (fun _ h9 => h9) rfl hin rfl (by decide +kernel) rfl rfl (Nat.le_of_ble_eq_true rfl) d_M_init_10 (fun H locs hP hD hS => ?_)
  have hP : va_P D classes [(h0, .inr (1, [.ref q1, .null, .int 0])), (q1, .inl (c1, 440, .inl (fun _ => 0)))] H := hP
  have hD : va_D A [(h0, .inr (1, [.ref q1, .null, .int 0])), (q1, .inl (c1, 440, .inl (fun _ => 0)))] := hD
  refine lv_aload_n hx hb d_M_init_13 rfl (lv_at hl 0 rfl) ?_
  refine lv_bipush (v := nI 11) hx hb d_M_init_14 (by decide +kernel) ?_
  refine va_newa (D := D) (atype := .int) (ty := .int) (N' := 11) (a0 := (11, .inl (fun _ => 0))) hx hb (hts _ ac_I) rfl hK hP hD hS hA (fun cA => rfl) (by decide +kernel) (by decide +kernel) (by decide +kernel) (Nat.le_of_ble_eq_true rfl) (Nat.le_of_ble_eq_true rfl) d_M_init_16 (fun q2 c2 H hK hP hD hS => ?_)
  have hK : va_K D classes [(c1, .int), (c2, .int)] s := hK
  have hP : va_P D classes [(h0, .inr (1, [.ref q1, .null, .int 0])), (q1, .inl (c1, 440, .inl (fun _ => 0))), (q2, .inl (c2, 11, .inl (fun _ => 0)))] H := hP
  have hD : va_D A [(h0, .inr (1, [.ref q1, .null, .int 0])), (q1, .inl (c1, 440, .inl (fun _ => 0))), (q2, .inl (c2, 11, .inl (fun _ => 0)))] := hD
  refine W.widen (k := 2) (n := 451) (Nat.le_of_ble_eq_true rfl) (Nat.le_of_ble_eq_true rfl) ?_
  refine va_putF (D := D) (ci := 1) (v := .ref q2) (ty := .array .int) (C := R_M) (T := F_M) (N := 3) hx hb hts iT_M t_M t_M_ok n_M hown hK hP hD hS 0 rfl rfl 1 (by decide) (hts _ f_M_13) (fun _ h9 => h9) rfl hin rfl (by decide +kernel) rfl rfl (Nat.le_of_ble_eq_true rfl) d_M_init_18 (fun H locs hP hD hS => ?_)
  have hP : va_P D classes [(h0, .inr (1, [.ref q1, .ref q2, .int 0])), (q1, .inl (c1, 440, .inl (fun _ => 0))), (q2, .inl (c2, 11, .inl (fun _ => 0)))] H := hP
  have hD : va_D A [(h0, .inr (1, [.ref q1, .ref q2, .int 0])), (q1, .inl (c1, 440, .inl (fun _ => 0))), (q2, .inl (c2, 11, .inl (fun _ => 0)))] := hD
  have e2 : c1 = c2 := Option.some.inj ((hK.2 0 _ rfl).2.symm.trans (hK.2 1 _ rfl).2)
  subst e2
  exact W.vret hx hb hr (fun t ht hW => ⟨⟨(fun k => match k with | 0 => h0 | 1 => q1 | _ => q2, c1, c1), rfl, rfl, by rw [ht]; exact hP, va_K.moved hW.alike (hK.sub (tys' := tyi c1 c1) [0] rfl), hD⟩, hS.F ht⟩) hS.2.2 d_M_init_21
end
section
def lw_P (b : Addr) (xs : List Int32) (args : Array Value) (s : State) : Prop := args = #[.ref b] ∧ s.IntsAt b xs ∧ xs.length ≤ 1536 ∧ (Jvm.Cond.and given_1 narrow_1).before args s = true
def lw_Q (_ : Array Value) (s : State) (o : Outcome) (t : State) : Prop := o = .returned (some (.int 1)) ∧ Framed s o t [] 10 955
def lw_Z (below : List Frame) (a : Array Value) (s : State) : State → Prop := fun t => ∃ o, t.status = .running ∧ Ended t below o ∧ lw_Q a s o t
/-- the law's own end, with 1 on the stack, nothing written that was there before, its room as the claim has it -/
theorem lw_ret {p : Program} {l : Launch} {e : Env} {s : State} {m : MethodId} {below : List Frame} {meth : Method} {c : Code} {b : Nat} (hx : p.tables.exec = Jvm.exec) (hb : c.code = code) (hr : meth.sig.returnType = ret) (hlocks : meth.locks = false) {pc : Nat} {H : Heap} {ls : Array Slot} (hdg : decode code pc = .ok (.ireturn, 1)) : W p l e room_1 s m #[Value.ref b] below meth c H [] 10 955 (lw_Z below #[Value.ref b] s) (F0 m pc ls [.int 1]) := by
  intro T hT X
  obtain ⟨fs, hret, hrun, hended, hW, hframe⟩ := X.leave (v := some (.int 1)) (hlocks := hlocks) (fun h => by rw [hr] at h; cases h)
  have hmeth' : T.vm.method? m = some meth := X.method'
  refine ⟨T.setFrames fs, ?_, .returned (some (.int 1)), hrun, hended, rfl, ⟨_, rfl⟩, hW, hframe⟩
  jvm_step X.here [X.here.top, hx, hb, hdg, hmeth', hr, ret, narrow_b1]
  (try refine ⟨rfl, ?_⟩); (try refine ⟨rfl, ?_⟩)
  first | (intro acts; rw [hret _ acts rfl rfl rfl]) | rw [hret _ _ rfl rfl rfl]
  exact Steps.refl _
/-- what holds at the law's entry: the machine, the code, the tables' words (any of lw_tbl by 'hts w (by decide +kernel)'), the script of L ints xs at the cell b, what the Statement gives of the start (any of its parts by flat_of_before) -/
def lw_At (p : Program) (s : State) (m : MethodId) (meth : Method) (c : Code) (b L : Nat) (xs : Nat → Int32) : Prop :=
  p.tables.exec = Jvm.exec ∧ c.code = code ∧ meth.sig.returnType = ret ∧ c.maxLocals = 4 ∧ s.vm.findClass R_law = some m.cls ∧ (∀ w ∈ lw_tbl, w.before #[Value.ref b] s = true) ∧ va_X b L xs s s.heap ∧ b < s.heap.size ∧ meth.locks = false ∧ (Jvm.Cond.and given_1 narrow_1).before #[Value.ref b] s = true
section JW
variable {E : jE} {Q : State → Prop} {ws : va_W} {l0 l1 l2 l3 l4 l5 l6 l7 : Option Value} {pc : Nat} {st : List Value} {cc : ByteArray} {own : String} {nL kR : Nat} {b L : Nat} {xs : Nat → Int32}
theorem l_sld (hC : jC E cc own nL kR) (hX : va_X b L xs (eS E) (eS E).heap) (hbl : b < (eS E).heap.size) (hbA : ¬ eF E b) (hL : L ≤ 1536) {d : Nat} (hd : d < L) (hdg : decode cc pc = .ok (.iaload, 1)) (kk : J E Q ws l0 l1 l2 l3 l4 l5 l6 l7 (pc + 1) (.int (xs d) :: st)) : J E Q ws l0 l1 l2 l3 l4 l5 l6 l7 pc (.int (nI d) :: .ref b :: st) := fun H locs ls hS hl => va_sld hC.1 hC.2.1 hX hbl hbA hS.2.2 (vp_in_nI hd (by omega)) hdg (by rw [nI_clamp (n := d) (by omega)]; exact kk H locs ls hS hl)
theorem l_slen (hC : jC E cc own nL kR) (hX : va_X b L xs (eS E) (eS E).heap) (hbl : b < (eS E).heap.size) (hbA : ¬ eF E b) (hdg : decode cc pc = .ok (.arraylength, 1)) (kk : J E Q ws l0 l1 l2 l3 l4 l5 l6 l7 (pc + 1) (.int (nI L) :: st)) : J E Q ws l0 l1 l2 l3 l4 l5 l6 l7 pc (.ref b :: st) := fun H locs ls hS hl => va_slen hC.1 hC.2.1 hX hbl hbA hS.2.2 hdg (kk H locs ls hS hl)
theorem l_tabIn (hC : jC E cc own nL kR) {dflt lo hi : Int} {offs : Array Int} {len : Nat} {x : Int32} {off : Int} {tgt : Nat} (h1 : ¬ x.toInt < lo) (h2 : ¬ hi < x.toInt) (ho : offs[(x.toInt - lo).toNat]? = some off) (ht : (pc : Int) + off = (tgt : Int)) (hdg : decode cc pc = .ok (.tableswitch dflt lo hi offs, len)) (kk : J E Q ws l0 l1 l2 l3 l4 l5 l6 l7 tgt st) : J E Q ws l0 l1 l2 l3 l4 l5 l6 l7 pc (.int x :: st) := fun H locs ls hS hl => lv_tableIn hC.1 hC.2.1 hdg h1 h2 ho ht (kk H locs ls hS hl)
theorem l_tabOut (hC : jC E cc own nL kR) {dflt lo hi : Int} {offs : Array Int} {len : Nat} {x : Int32} {tgt : Nat} (h : x.toInt < lo ∨ hi < x.toInt) (ht : (pc : Int) + dflt = (tgt : Int)) (hdg : decode cc pc = .ok (.tableswitch dflt lo hi offs, len)) (kk : J E Q ws l0 l1 l2 l3 l4 l5 l6 l7 tgt st) : J E Q ws l0 l1 l2 l3 l4 l5 l6 l7 pc (.int x :: st) := fun H locs ls hS hl => lv_tableOut hC.1 hC.2.1 hdg h ht (kk H locs ls hS hl)
theorem l_ret (hC : jC E code own nL kR) (hr : (eT E).sig.returnType = ret) (h1 : eR E = room_1) (h2 : eA E = #[Value.ref b]) (h3 : eX E = 10) (h4 : eY E = 955) (hA : ∀ q, eF E q → (eS E).heap.size ≤ q) (hdg : decode code pc = .ok (.ireturn, 1)) : J E (lw_Z (eB E) #[Value.ref b] (eS E)) ws l0 l1 l2 l3 l4 l5 l6 l7 pc [.int 1] := by
  obtain ⟨p, l, e, R, s, m, args, below, meth, c, D, cI, cZ, A, cells, slots⟩ := E
  have h1 : R = room_1 := h1
  have h2 : args = #[Value.ref b] := h2
  have h3 : cells = 10 := h3
  have h4 : slots = 955 := h4
  subst h1 h2 h3 h4
  intro H locs ls hS hl
  exact va_forget (fun q hq => hA _ (hS.2.2.2.2 q hq)) (lw_ret hC.1 hC.2.1 hr hC.2.2.2.2.2.2.2.1 hdg)
theorem inc3 {a : Nat} : nI a + Int32.ofInt 3 = nI (a + 3) := nI_add a 3
end JW
set_option maxHeartbeats 1000000 in
set_option maxRecDepth 20000 in
/-- THE LAW'S LOOP: component and reference hold one value -/
theorem law_loop {E : jE} {b L : Nat} {xs : Nat → Int32} {qx qm : Nat → Nat} (hL : L ≤ 1536) (hC : jC E code R_law 4 6) (hr : (eT E).sig.returnType = ret) (h1 : eR E = room_1) (h2 : eA E = #[Value.ref b]) (h3 : eX E = 10) (h4 : eY E = 955) (hA : ∀ q, eF E q → (eS E).heap.size ≤ q) (hX : va_X b L xs (eS E) (eS E).heap) (hbl : b < (eS E).heap.size) (hbA : ¬ eF E b) : J E (lw_Z (eB E) #[Value.ref b] (eS E)) (wX (eI E) (eZ E) qx u0 ++ wM (eI E) (eZ E) qm w0) (some (.ref b)) (some (.ref (qx 0))) (some (.ref (qm 0))) (some (.int (nI 0))) none none none none 18 [] := by
  have lp : ∀ (k i : Nat) (a : Ab) (u : SX) (w : SM), L + 3 - i < k → i ≤ L + 3 → RX a u → RM a w → Wf a.1 a.2.1 → J E (lw_Z (eB E) #[Value.ref b] (eS E)) (wX (eI E) (eZ E) qx u ++ wM (eI E) (eZ E) qm w) (some (.ref b)) (some (.ref (qx 0))) (some (.ref (qm 0))) (some (.int (nI i))) none none none none 18 [] := by
    intro k
    induction k with
    | zero =>
      intro i a u w hk hi hRX hRM hW
      exact absurd hk (Nat.not_lt_zero _)
    | succ k ih_lp =>
      intro i a u w hk hi hRX hRM hW
      refine j_iload_3 hC d_law_18 ?_
      refine j_aload_0 hC d_law_19 ?_
      refine l_slen hC hX hbl hbA d_law_20 ?_
      refine j_iconst hC ic_3 d_law_21 ?_
      by_cases hz : 3 ≤ L
      · refine j_subN hC (by omega) d_law_22 ?_
        refine j_gtN hC 599 (by decide) (by omega) (by omega) d_law_23 (fun c_23 => ?_) (fun c_23 => ?_)
        · refine j_iconst hC ir_1 d_law_599 ?_
          exact l_ret hC hr h1 h2 h3 h4 hA d_law_600
        · refine j_aload_0 hC d_law_26 ?_
          refine j_iload_3 hC d_law_27 ?_
          refine l_sld hC hX hbl hbA hL (by omega) d_law_28 ?_
          refine j_bipush hC bp_31 d_law_29 ?_
          refine j_iand hC d_law_31 ?_
          obtain ⟨j, hj, ej⟩ := pk_andE (xs i) (m := nI 31) 5 (by decide +kernel)
          rw [ej]
          rcases (show j = 0 ∨ j = 1 ∨ j = 2 ∨ j = 3 ∨ j = 4 ∨ j = 5 ∨ j = 6 ∨ j = 7 ∨ j = 8 ∨ j = 9 ∨ j = 10 ∨ j = 11 ∨ j = 12 ∨ j = 13 ∨ j = 14 ∨ j = 15 ∨ j = 16 ∨ j = 17 ∨ j = 18 ∨ j = 19 ∨ j = 20 ∨ 21 ≤ j by omega) with rfl | rfl | rfl | rfl | rfl | rfl | rfl | rfl | rfl | rfl | rfl | rfl | rfl | rfl | rfl | rfl | rfl | rfl | rfl | rfl | rfl | hj2
          · refine l_tabIn hC (tgt := 132) (off := 100) (by decide +kernel) (by decide +kernel) (by decide +kernel) (by decide) d_law_32 ?_
            refine j_aload_1 hC d_law_132 ?_
            refine j_aload_0 hC d_law_133 ?_
            refine j_iload_3 hC d_law_134 ?_
            refine j_iconst hC ic_1 d_law_135 ?_
            refine j_addN hC d_law_136 ?_
            refine l_sld hC hX hbl hbA hL (by omega) d_law_137 ?_
            refine lx_calli1 hC (c_X_key (eL E) a u hRX hW) v_X_key k_law_13 (by decide) (Nat.le_of_ble_eq_true rfl) d_law_138 (fun r u1 h9 => ?_)
            obtain ⟨a1, e1, hR1⟩ := h9
            refine j_aload_2 hC d_law_141 ?_
            refine j_aload_0 hC d_law_142 ?_
            refine j_iload_3 hC d_law_143 ?_
            refine j_iconst hC ic_1 d_law_144 ?_
            refine j_addN hC d_law_145 ?_
            refine l_sld hC hX hbl hbA hL (by omega) d_law_146 ?_
            refine lm_calli1 hC (c_M_key (eL E) a w hRM hW) v_M_key k_law_17 (by decide) (Nat.le_of_ble_eq_true rfl) d_law_147 (fun r2 w1 h8 => ?_)
            obtain ⟨a2, e2, hR2⟩ := h8
            obtain ⟨h3, h4⟩ : r = r2 ∧ a1 = a2 := by rw [e1] at e2; cases e2; exact ⟨rfl, rfl⟩
            subst h3
            subst h4
            refine j_icmp_eq hC 593 (by decide) d_law_150 (fun c_150 => ?_) (fun c_150 => ?_)
            · refine j_iinc_3 hC inc3 (by decide) d_law_593 ?_
              refine j_goto hC 18 (by decide) d_law_596 ?_
              exact ih_lp (i + 3) a1 u1 w1 (by omega) (by omega) hR1 hR2 (wf_key hW e1)
            · exact absurd rfl c_150
          · refine l_tabIn hC (tgt := 155) (off := 123) (by decide +kernel) (by decide +kernel) (by decide +kernel) (by decide) d_law_32 ?_
            refine j_aload_1 hC d_law_155 ?_
            refine lx_callv0 hC (c_X_newLine (eL E) a u hRX hW) v_X_newLine k_law_18 (by decide) (Nat.le_of_ble_eq_true rfl) d_law_156 (fun u1 hR1 => ?_)
            refine j_aload_2 hC d_law_159 ?_
            refine lm_callv0 hC (c_M_newLine (eL E) a w hRM hW) v_M_newLine k_law_21 (by decide) (Nat.le_of_ble_eq_true rfl) d_law_160 (fun w1 hR2 => ?_)
            refine j_goto hC 593 (by decide) d_law_163 ?_
            refine j_iinc_3 hC inc3 (by decide) d_law_593 ?_
            refine j_goto hC 18 (by decide) d_law_596 ?_
            exact ih_lp (i + 3) _ u1 w1 (by omega) (by omega) hR1 hR2 (wf_newLine hW)
          · refine l_tabIn hC (tgt := 166) (off := 134) (by decide +kernel) (by decide +kernel) (by decide +kernel) (by decide) d_law_32 ?_
            refine j_aload_1 hC d_law_166 ?_
            refine lx_calli0 hC (c_X_literal (eL E) a u hRX hW) v_X_literal k_law_22 (by decide) (Nat.le_of_ble_eq_true rfl) d_law_167 (fun r u1 h9 => ?_)
            obtain ⟨a1, e1, hR1⟩ := h9
            refine j_aload_2 hC d_law_170 ?_
            refine lm_calli0 hC (c_M_literal (eL E) a w hRM hW) v_M_literal k_law_26 (by decide) (Nat.le_of_ble_eq_true rfl) d_law_171 (fun r2 w1 h8 => ?_)
            obtain ⟨a2, e2, hR2⟩ := h8
            obtain ⟨h3, h4⟩ : r = r2 ∧ a1 = a2 := by rw [e1] at e2; cases e2; exact ⟨rfl, rfl⟩
            subst h3
            subst h4
            refine j_icmp_eq hC 593 (by decide) d_law_174 (fun c_174 => ?_) (fun c_174 => ?_)
            · refine j_iinc_3 hC inc3 (by decide) d_law_593 ?_
              refine j_goto hC 18 (by decide) d_law_596 ?_
              exact ih_lp (i + 3) a1 u1 w1 (by omega) (by omega) hR1 hR2 (wf_literal hW e1)
            · exact absurd rfl c_174
          · refine l_tabIn hC (tgt := 179) (off := 147) (by decide +kernel) (by decide +kernel) (by decide +kernel) (by decide) d_law_32 ?_
            refine j_aload_1 hC d_law_179 ?_
            refine j_aload_0 hC d_law_180 ?_
            refine j_iload_3 hC d_law_181 ?_
            refine j_iconst hC ic_1 d_law_182 ?_
            refine j_addN hC d_law_183 ?_
            refine l_sld hC hX hbl hbA hL (by omega) d_law_184 ?_
            refine lx_calli1 hC (c_X_push (eL E) a u hRX hW) v_X_push k_law_27 (by decide) (Nat.le_of_ble_eq_true rfl) d_law_185 (fun r u1 h9 => ?_)
            obtain ⟨a1, e1, hR1⟩ := h9
            refine j_aload_2 hC d_law_188 ?_
            refine j_aload_0 hC d_law_189 ?_
            refine j_iload_3 hC d_law_190 ?_
            refine j_iconst hC ic_1 d_law_191 ?_
            refine j_addN hC d_law_192 ?_
            refine l_sld hC hX hbl hbA hL (by omega) d_law_193 ?_
            refine lm_calli1 hC (c_M_push (eL E) a w hRM hW) v_M_push k_law_30 (by decide) (Nat.le_of_ble_eq_true rfl) d_law_194 (fun r2 w1 h8 => ?_)
            obtain ⟨a2, e2, hR2⟩ := h8
            obtain ⟨h3, h4⟩ : r = r2 ∧ a1 = a2 := by rw [e1] at e2; cases e2; exact ⟨rfl, rfl⟩
            subst h3
            subst h4
            refine j_icmp_eq hC 593 (by decide) d_law_197 (fun c_197 => ?_) (fun c_197 => ?_)
            · refine j_iinc_3 hC inc3 (by decide) d_law_593 ?_
              refine j_goto hC 18 (by decide) d_law_596 ?_
              exact ih_lp (i + 3) a1 u1 w1 (by omega) (by omega) hR1 hR2 (wf_push hW e1)
            · exact absurd rfl c_197
          · refine l_tabIn hC (tgt := 202) (off := 170) (by decide +kernel) (by decide +kernel) (by decide +kernel) (by decide) d_law_32 ?_
            refine j_aload_1 hC d_law_202 ?_
            refine j_aload_0 hC d_law_203 ?_
            refine j_iload_3 hC d_law_204 ?_
            refine j_iconst hC ic_1 d_law_205 ?_
            refine j_addN hC d_law_206 ?_
            refine l_sld hC hX hbl hbA hL (by omega) d_law_207 ?_
            refine lx_calli1 hC (c_X_let (eL E) a u hRX hW) v_X_let k_law_31 (by decide) (Nat.le_of_ble_eq_true rfl) d_law_208 (fun r u1 h9 => ?_)
            obtain ⟨a1, e1, hR1⟩ := h9
            refine j_aload_2 hC d_law_211 ?_
            refine j_aload_0 hC d_law_212 ?_
            refine j_iload_3 hC d_law_213 ?_
            refine j_iconst hC ic_1 d_law_214 ?_
            refine j_addN hC d_law_215 ?_
            refine l_sld hC hX hbl hbA hL (by omega) d_law_216 ?_
            refine lm_calli1 hC (c_M_let (eL E) a w hRM hW) v_M_let k_law_34 (by decide) (Nat.le_of_ble_eq_true rfl) d_law_217 (fun r2 w1 h8 => ?_)
            obtain ⟨a2, e2, hR2⟩ := h8
            obtain ⟨h3, h4⟩ : r = r2 ∧ a1 = a2 := by rw [e1] at e2; cases e2; exact ⟨rfl, rfl⟩
            subst h3
            subst h4
            refine j_icmp_eq hC 593 (by decide) d_law_220 (fun c_220 => ?_) (fun c_220 => ?_)
            · refine j_iinc_3 hC inc3 (by decide) d_law_593 ?_
              refine j_goto hC 18 (by decide) d_law_596 ?_
              exact ih_lp (i + 3) a1 u1 w1 (by omega) (by omega) hR1 hR2 (wf_let hW e1)
            · exact absurd rfl c_220
          · refine l_tabIn hC (tgt := 225) (off := 193) (by decide +kernel) (by decide +kernel) (by decide +kernel) (by decide) d_law_32 ?_
            refine j_aload_1 hC d_law_225 ?_
            refine lx_calli0 hC (c_X_drop (eL E) a u hRX hW) v_X_drop k_law_35 (by decide) (Nat.le_of_ble_eq_true rfl) d_law_226 (fun r u1 h9 => ?_)
            obtain ⟨a1, e1, hR1⟩ := h9
            refine j_aload_2 hC d_law_229 ?_
            refine lm_calli0 hC (c_M_drop (eL E) a w hRM hW) v_M_drop k_law_38 (by decide) (Nat.le_of_ble_eq_true rfl) d_law_230 (fun r2 w1 h8 => ?_)
            obtain ⟨a2, e2, hR2⟩ := h8
            obtain ⟨h3, h4⟩ : r = r2 ∧ a1 = a2 := by rw [e1] at e2; cases e2; exact ⟨rfl, rfl⟩
            subst h3
            subst h4
            refine j_icmp_eq hC 593 (by decide) d_law_233 (fun c_233 => ?_) (fun c_233 => ?_)
            · refine j_iinc_3 hC inc3 (by decide) d_law_593 ?_
              refine j_goto hC 18 (by decide) d_law_596 ?_
              exact ih_lp (i + 3) a1 u1 w1 (by omega) (by omega) hR1 hR2 (wf_drop hW e1)
            · exact absurd rfl c_233
          · refine l_tabIn hC (tgt := 238) (off := 206) (by decide +kernel) (by decide +kernel) (by decide +kernel) (by decide) d_law_32 ?_
            refine j_aload_1 hC d_law_238 ?_
            refine lx_calli0 hC (c_X_join (eL E) a u hRX hW) v_X_join k_law_39 (by decide) (Nat.le_of_ble_eq_true rfl) d_law_239 (fun r u1 h9 => ?_)
            obtain ⟨a1, e1, hR1⟩ := h9
            refine j_aload_2 hC d_law_242 ?_
            refine lm_calli0 hC (c_M_join (eL E) a w hRM hW) v_M_join k_law_42 (by decide) (Nat.le_of_ble_eq_true rfl) d_law_243 (fun r2 w1 h8 => ?_)
            obtain ⟨a2, e2, hR2⟩ := h8
            obtain ⟨h3, h4⟩ : r = r2 ∧ a1 = a2 := by rw [e1] at e2; cases e2; exact ⟨rfl, rfl⟩
            subst h3
            subst h4
            refine j_icmp_eq hC 593 (by decide) d_law_246 (fun c_246 => ?_) (fun c_246 => ?_)
            · refine j_iinc_3 hC inc3 (by decide) d_law_593 ?_
              refine j_goto hC 18 (by decide) d_law_596 ?_
              exact ih_lp (i + 3) a1 u1 w1 (by omega) (by omega) hR1 hR2 (wf_join hW e1)
            · exact absurd rfl c_246
          · refine l_tabIn hC (tgt := 251) (off := 219) (by decide +kernel) (by decide +kernel) (by decide +kernel) (by decide) d_law_32 ?_
            refine j_aload_1 hC d_law_251 ?_
            refine j_aload_0 hC d_law_252 ?_
            refine j_iload_3 hC d_law_253 ?_
            refine j_iconst hC ic_1 d_law_254 ?_
            refine j_addN hC d_law_255 ?_
            refine l_sld hC hX hbl hbA hL (by omega) d_law_256 ?_
            refine lx_calli1 hC (c_X_left (eL E) a u hRX hW) v_X_left k_law_43 (by decide) (Nat.le_of_ble_eq_true rfl) d_law_257 (fun r u1 h9 => ?_)
            obtain ⟨a1, e1, hR1⟩ := h9
            refine j_aload_2 hC d_law_260 ?_
            refine j_aload_0 hC d_law_261 ?_
            refine j_iload_3 hC d_law_262 ?_
            refine j_iconst hC ic_1 d_law_263 ?_
            refine j_addN hC d_law_264 ?_
            refine l_sld hC hX hbl hbA hL (by omega) d_law_265 ?_
            refine lm_calli1 hC (c_M_left (eL E) a w hRM hW) v_M_left k_law_46 (by decide) (Nat.le_of_ble_eq_true rfl) d_law_266 (fun r2 w1 h8 => ?_)
            obtain ⟨a2, e2, hR2⟩ := h8
            obtain ⟨h3, h4⟩ : r = r2 ∧ a1 = a2 := by rw [e1] at e2; cases e2; exact ⟨rfl, rfl⟩
            subst h3
            subst h4
            refine j_icmp_eq hC 593 (by decide) d_law_269 (fun c_269 => ?_) (fun c_269 => ?_)
            · refine j_iinc_3 hC inc3 (by decide) d_law_593 ?_
              refine j_goto hC 18 (by decide) d_law_596 ?_
              exact ih_lp (i + 3) a1 u1 w1 (by omega) (by omega) hR1 hR2 (wf_left hW e1)
            · exact absurd rfl c_269
          · refine l_tabIn hC (tgt := 274) (off := 242) (by decide +kernel) (by decide +kernel) (by decide +kernel) (by decide) d_law_32 ?_
            refine j_aload_1 hC d_law_274 ?_
            refine j_aload_0 hC d_law_275 ?_
            refine j_iload_3 hC d_law_276 ?_
            refine j_iconst hC ic_1 d_law_277 ?_
            refine j_addN hC d_law_278 ?_
            refine l_sld hC hX hbl hbA hL (by omega) d_law_279 ?_
            refine lx_calli1 hC (c_X_right (eL E) a u hRX hW) v_X_right k_law_47 (by decide) (Nat.le_of_ble_eq_true rfl) d_law_280 (fun r u1 h9 => ?_)
            obtain ⟨a1, e1, hR1⟩ := h9
            refine j_aload_2 hC d_law_283 ?_
            refine j_aload_0 hC d_law_284 ?_
            refine j_iload_3 hC d_law_285 ?_
            refine j_iconst hC ic_1 d_law_286 ?_
            refine j_addN hC d_law_287 ?_
            refine l_sld hC hX hbl hbA hL (by omega) d_law_288 ?_
            refine lm_calli1 hC (c_M_right (eL E) a w hRM hW) v_M_right k_law_50 (by decide) (Nat.le_of_ble_eq_true rfl) d_law_289 (fun r2 w1 h8 => ?_)
            obtain ⟨a2, e2, hR2⟩ := h8
            obtain ⟨h3, h4⟩ : r = r2 ∧ a1 = a2 := by rw [e1] at e2; cases e2; exact ⟨rfl, rfl⟩
            subst h3
            subst h4
            refine j_icmp_eq hC 593 (by decide) d_law_292 (fun c_292 => ?_) (fun c_292 => ?_)
            · refine j_iinc_3 hC inc3 (by decide) d_law_593 ?_
              refine j_goto hC 18 (by decide) d_law_596 ?_
              exact ih_lp (i + 3) a1 u1 w1 (by omega) (by omega) hR1 hR2 (wf_right hW e1)
            · exact absurd rfl c_292
          · refine l_tabIn hC (tgt := 297) (off := 265) (by decide +kernel) (by decide +kernel) (by decide +kernel) (by decide) d_law_32 ?_
            refine j_aload_1 hC d_law_297 ?_
            refine j_aload_0 hC d_law_298 ?_
            refine j_iload_3 hC d_law_299 ?_
            refine j_iconst hC ic_1 d_law_300 ?_
            refine j_addN hC d_law_301 ?_
            refine l_sld hC hX hbl hbA hL (by omega) d_law_302 ?_
            refine j_aload_0 hC d_law_303 ?_
            refine j_iload_3 hC d_law_304 ?_
            refine j_iconst hC ic_2 d_law_305 ?_
            refine j_addN hC d_law_306 ?_
            refine l_sld hC hX hbl hbA hL (by omega) d_law_307 ?_
            refine lx_calli2 hC (c_X_mid (eL E) a u hRX hW) v_X_mid k_law_51 (by decide) (Nat.le_of_ble_eq_true rfl) d_law_308 (fun r u1 h9 => ?_)
            obtain ⟨a1, e1, hR1⟩ := h9
            refine j_aload_2 hC d_law_311 ?_
            refine j_aload_0 hC d_law_312 ?_
            refine j_iload_3 hC d_law_313 ?_
            refine j_iconst hC ic_1 d_law_314 ?_
            refine j_addN hC d_law_315 ?_
            refine l_sld hC hX hbl hbA hL (by omega) d_law_316 ?_
            refine j_aload_0 hC d_law_317 ?_
            refine j_iload_3 hC d_law_318 ?_
            refine j_iconst hC ic_2 d_law_319 ?_
            refine j_addN hC d_law_320 ?_
            refine l_sld hC hX hbl hbA hL (by omega) d_law_321 ?_
            refine lm_calli2 hC (c_M_mid (eL E) a w hRM hW) v_M_mid k_law_55 (by decide) (Nat.le_of_ble_eq_true rfl) d_law_322 (fun r2 w1 h8 => ?_)
            obtain ⟨a2, e2, hR2⟩ := h8
            obtain ⟨h3, h4⟩ : r = r2 ∧ a1 = a2 := by rw [e1] at e2; cases e2; exact ⟨rfl, rfl⟩
            subst h3
            subst h4
            refine j_icmp_eq hC 593 (by decide) d_law_325 (fun c_325 => ?_) (fun c_325 => ?_)
            · refine j_iinc_3 hC inc3 (by decide) d_law_593 ?_
              refine j_goto hC 18 (by decide) d_law_596 ?_
              exact ih_lp (i + 3) a1 u1 w1 (by omega) (by omega) hR1 hR2 (wf_mid hW e1)
            · exact absurd rfl c_325
          · refine l_tabIn hC (tgt := 330) (off := 298) (by decide +kernel) (by decide +kernel) (by decide +kernel) (by decide) d_law_32 ?_
            refine j_aload_1 hC d_law_330 ?_
            refine j_aload_0 hC d_law_331 ?_
            refine j_iload_3 hC d_law_332 ?_
            refine j_iconst hC ic_1 d_law_333 ?_
            refine j_addN hC d_law_334 ?_
            refine l_sld hC hX hbl hbA hL (by omega) d_law_335 ?_
            refine j_aload_0 hC d_law_336 ?_
            refine j_iload_3 hC d_law_337 ?_
            refine j_iconst hC ic_2 d_law_338 ?_
            refine j_addN hC d_law_339 ?_
            refine l_sld hC hX hbl hbA hL (by omega) d_law_340 ?_
            refine lx_calli2 hC (c_X_repeat (eL E) a u hRX hW) v_X_repeat k_law_56 (by decide) (Nat.le_of_ble_eq_true rfl) d_law_341 (fun r u1 h9 => ?_)
            obtain ⟨a1, e1, hR1⟩ := h9
            refine j_aload_2 hC d_law_344 ?_
            refine j_aload_0 hC d_law_345 ?_
            refine j_iload_3 hC d_law_346 ?_
            refine j_iconst hC ic_1 d_law_347 ?_
            refine j_addN hC d_law_348 ?_
            refine l_sld hC hX hbl hbA hL (by omega) d_law_349 ?_
            refine j_aload_0 hC d_law_350 ?_
            refine j_iload_3 hC d_law_351 ?_
            refine j_iconst hC ic_2 d_law_352 ?_
            refine j_addN hC d_law_353 ?_
            refine l_sld hC hX hbl hbA hL (by omega) d_law_354 ?_
            refine lm_calli2 hC (c_M_repeat (eL E) a w hRM hW) v_M_repeat k_law_59 (by decide) (Nat.le_of_ble_eq_true rfl) d_law_355 (fun r2 w1 h8 => ?_)
            obtain ⟨a2, e2, hR2⟩ := h8
            obtain ⟨h3, h4⟩ : r = r2 ∧ a1 = a2 := by rw [e1] at e2; cases e2; exact ⟨rfl, rfl⟩
            subst h3
            subst h4
            refine j_icmp_eq hC 593 (by decide) d_law_358 (fun c_358 => ?_) (fun c_358 => ?_)
            · refine j_iinc_3 hC inc3 (by decide) d_law_593 ?_
              refine j_goto hC 18 (by decide) d_law_596 ?_
              exact ih_lp (i + 3) a1 u1 w1 (by omega) (by omega) hR1 hR2 (wf_repeat hW e1)
            · exact absurd rfl c_358
          · refine l_tabIn hC (tgt := 363) (off := 331) (by decide +kernel) (by decide +kernel) (by decide +kernel) (by decide) d_law_32 ?_
            refine j_aload_1 hC d_law_363 ?_
            refine lx_calli0 hC (c_X_compare (eL E) a u hRX hW) v_X_compare k_law_60 (by decide) (Nat.le_of_ble_eq_true rfl) d_law_364 (fun r u1 h9 => ?_)
            obtain ⟨a1, e1, hR1⟩ := h9
            refine j_aload_2 hC d_law_367 ?_
            refine lm_calli0 hC (c_M_compare (eL E) a w hRM hW) v_M_compare k_law_63 (by decide) (Nat.le_of_ble_eq_true rfl) d_law_368 (fun r2 w1 h8 => ?_)
            obtain ⟨a2, e2, hR2⟩ := h8
            obtain ⟨h3, h4⟩ : r = r2 ∧ a1 = a2 := by rw [e1] at e2; cases e2; exact ⟨rfl, rfl⟩
            subst h3
            subst h4
            refine j_icmp_eq hC 593 (by decide) d_law_371 (fun c_371 => ?_) (fun c_371 => ?_)
            · refine j_iinc_3 hC inc3 (by decide) d_law_593 ?_
              refine j_goto hC 18 (by decide) d_law_596 ?_
              exact ih_lp (i + 3) a1 u1 w1 (by omega) (by omega) hR1 hR2 (wf_compare hW e1)
            · exact absurd rfl c_371
          · refine l_tabIn hC (tgt := 376) (off := 344) (by decide +kernel) (by decide +kernel) (by decide +kernel) (by decide) d_law_32 ?_
            refine j_aload_1 hC d_law_376 ?_
            refine j_aload_0 hC d_law_377 ?_
            refine j_iload_3 hC d_law_378 ?_
            refine j_iconst hC ic_1 d_law_379 ?_
            refine j_addN hC d_law_380 ?_
            refine l_sld hC hX hbl hbA hL (by omega) d_law_381 ?_
            refine j_aload_0 hC d_law_382 ?_
            refine j_iload_3 hC d_law_383 ?_
            refine j_iconst hC ic_2 d_law_384 ?_
            refine j_addN hC d_law_385 ?_
            refine l_sld hC hX hbl hbA hL (by omega) d_law_386 ?_
            refine lx_calli2 hC (c_X_find (eL E) a u hRX hW) v_X_find k_law_64 (by decide) (Nat.le_of_ble_eq_true rfl) d_law_387 (fun r u1 h9 => ?_)
            obtain ⟨a1, e1, hR1⟩ := h9
            refine j_aload_2 hC d_law_390 ?_
            refine j_aload_0 hC d_law_391 ?_
            refine j_iload_3 hC d_law_392 ?_
            refine j_iconst hC ic_1 d_law_393 ?_
            refine j_addN hC d_law_394 ?_
            refine l_sld hC hX hbl hbA hL (by omega) d_law_395 ?_
            refine j_aload_0 hC d_law_396 ?_
            refine j_iload_3 hC d_law_397 ?_
            refine j_iconst hC ic_2 d_law_398 ?_
            refine j_addN hC d_law_399 ?_
            refine l_sld hC hX hbl hbA hL (by omega) d_law_400 ?_
            refine lm_calli2 hC (c_M_find (eL E) a w hRM hW) v_M_find k_law_67 (by decide) (Nat.le_of_ble_eq_true rfl) d_law_401 (fun r2 w1 h8 => ?_)
            obtain ⟨a2, e2, hR2⟩ := h8
            obtain ⟨h3, h4⟩ : r = r2 ∧ a1 = a2 := by rw [e1] at e2; cases e2; exact ⟨rfl, rfl⟩
            subst h3
            subst h4
            refine j_icmp_eq hC 593 (by decide) d_law_404 (fun c_404 => ?_) (fun c_404 => ?_)
            · refine j_iinc_3 hC inc3 (by decide) d_law_593 ?_
              refine j_goto hC 18 (by decide) d_law_596 ?_
              exact ih_lp (i + 3) a1 u1 w1 (by omega) (by omega) hR1 hR2 (wf_find hW e1)
            · exact absurd rfl c_404
          · refine l_tabIn hC (tgt := 409) (off := 377) (by decide +kernel) (by decide +kernel) (by decide +kernel) (by decide) d_law_32 ?_
            refine j_aload_1 hC d_law_409 ?_
            refine j_aload_0 hC d_law_410 ?_
            refine j_iload_3 hC d_law_411 ?_
            refine j_iconst hC ic_1 d_law_412 ?_
            refine j_addN hC d_law_413 ?_
            refine l_sld hC hX hbl hbA hL (by omega) d_law_414 ?_
            refine j_aload_0 hC d_law_415 ?_
            refine j_iload_3 hC d_law_416 ?_
            refine j_iconst hC ic_2 d_law_417 ?_
            refine j_addN hC d_law_418 ?_
            refine l_sld hC hX hbl hbA hL (by omega) d_law_419 ?_
            refine lx_calli2 hC (c_X_setMid (eL E) a u hRX hW) v_X_setMid k_law_68 (by decide) (Nat.le_of_ble_eq_true rfl) d_law_420 (fun r u1 h9 => ?_)
            obtain ⟨a1, e1, hR1⟩ := h9
            refine j_aload_2 hC d_law_423 ?_
            refine j_aload_0 hC d_law_424 ?_
            refine j_iload_3 hC d_law_425 ?_
            refine j_iconst hC ic_1 d_law_426 ?_
            refine j_addN hC d_law_427 ?_
            refine l_sld hC hX hbl hbA hL (by omega) d_law_428 ?_
            refine j_aload_0 hC d_law_429 ?_
            refine j_iload_3 hC d_law_430 ?_
            refine j_iconst hC ic_2 d_law_431 ?_
            refine j_addN hC d_law_432 ?_
            refine l_sld hC hX hbl hbA hL (by omega) d_law_433 ?_
            refine lm_calli2 hC (c_M_setMid (eL E) a w hRM hW) v_M_setMid k_law_71 (by decide) (Nat.le_of_ble_eq_true rfl) d_law_434 (fun r2 w1 h8 => ?_)
            obtain ⟨a2, e2, hR2⟩ := h8
            obtain ⟨h3, h4⟩ : r = r2 ∧ a1 = a2 := by rw [e1] at e2; cases e2; exact ⟨rfl, rfl⟩
            subst h3
            subst h4
            refine j_icmp_eq hC 593 (by decide) d_law_437 (fun c_437 => ?_) (fun c_437 => ?_)
            · refine j_iinc_3 hC inc3 (by decide) d_law_593 ?_
              refine j_goto hC 18 (by decide) d_law_596 ?_
              exact ih_lp (i + 3) a1 u1 w1 (by omega) (by omega) hR1 hR2 (wf_setMid hW e1)
            · exact absurd rfl c_437
          · refine l_tabIn hC (tgt := 442) (off := 410) (by decide +kernel) (by decide +kernel) (by decide +kernel) (by decide) d_law_32 ?_
            refine j_aload_1 hC d_law_442 ?_
            refine j_aload_0 hC d_law_443 ?_
            refine j_iload_3 hC d_law_444 ?_
            refine j_iconst hC ic_1 d_law_445 ?_
            refine j_addN hC d_law_446 ?_
            refine l_sld hC hX hbl hbA hL (by omega) d_law_447 ?_
            refine j_aload_0 hC d_law_448 ?_
            refine j_iload_3 hC d_law_449 ?_
            refine j_iconst hC ic_2 d_law_450 ?_
            refine j_addN hC d_law_451 ?_
            refine l_sld hC hX hbl hbA hL (by omega) d_law_452 ?_
            refine lx_calli2 hC (c_X_swap (eL E) a u hRX hW) v_X_swap k_law_72 (by decide) (Nat.le_of_ble_eq_true rfl) d_law_453 (fun r u1 h9 => ?_)
            obtain ⟨a1, e1, hR1⟩ := h9
            refine j_aload_2 hC d_law_456 ?_
            refine j_aload_0 hC d_law_457 ?_
            refine j_iload_3 hC d_law_458 ?_
            refine j_iconst hC ic_1 d_law_459 ?_
            refine j_addN hC d_law_460 ?_
            refine l_sld hC hX hbl hbA hL (by omega) d_law_461 ?_
            refine j_aload_0 hC d_law_462 ?_
            refine j_iload_3 hC d_law_463 ?_
            refine j_iconst hC ic_2 d_law_464 ?_
            refine j_addN hC d_law_465 ?_
            refine l_sld hC hX hbl hbA hL (by omega) d_law_466 ?_
            refine lm_calli2 hC (c_M_swap (eL E) a w hRM hW) v_M_swap k_law_75 (by decide) (Nat.le_of_ble_eq_true rfl) d_law_467 (fun r2 w1 h8 => ?_)
            obtain ⟨a2, e2, hR2⟩ := h8
            obtain ⟨h3, h4⟩ : r = r2 ∧ a1 = a2 := by rw [e1] at e2; cases e2; exact ⟨rfl, rfl⟩
            subst h3
            subst h4
            refine j_icmp_eq hC 593 (by decide) d_law_470 (fun c_470 => ?_) (fun c_470 => ?_)
            · refine j_iinc_3 hC inc3 (by decide) d_law_593 ?_
              refine j_goto hC 18 (by decide) d_law_596 ?_
              exact ih_lp (i + 3) a1 u1 w1 (by omega) (by omega) hR1 hR2 (wf_swap hW e1)
            · exact absurd rfl c_470
          · refine l_tabIn hC (tgt := 475) (off := 443) (by decide +kernel) (by decide +kernel) (by decide +kernel) (by decide) d_law_32 ?_
            refine j_aload_1 hC d_law_475 ?_
            refine j_aload_0 hC d_law_476 ?_
            refine j_iload_3 hC d_law_477 ?_
            refine j_iconst hC ic_1 d_law_478 ?_
            refine j_addN hC d_law_479 ?_
            refine l_sld hC hX hbl hbA hL (by omega) d_law_480 ?_
            refine lx_calli1 hC (c_X_length (eL E) a u hRX hW) v_X_length k_law_76 (by decide) (Nat.le_of_ble_eq_true rfl) d_law_481 (fun r u1 h9 => ?_)
            obtain ⟨a1, e1, hR1⟩ := h9
            refine j_aload_2 hC d_law_484 ?_
            refine j_aload_0 hC d_law_485 ?_
            refine j_iload_3 hC d_law_486 ?_
            refine j_iconst hC ic_1 d_law_487 ?_
            refine j_addN hC d_law_488 ?_
            refine l_sld hC hX hbl hbA hL (by omega) d_law_489 ?_
            refine lm_calli1 hC (c_M_length (eL E) a w hRM hW) v_M_length k_law_79 (by decide) (Nat.le_of_ble_eq_true rfl) d_law_490 (fun r2 w1 h8 => ?_)
            obtain ⟨a2, e2, hR2⟩ := h8
            obtain ⟨h3, h4⟩ : r = r2 ∧ a1 = a2 := by rw [e1] at e2; cases e2; exact ⟨rfl, rfl⟩
            subst h3
            subst h4
            refine j_icmp_eq hC 593 (by decide) d_law_493 (fun c_493 => ?_) (fun c_493 => ?_)
            · refine j_iinc_3 hC inc3 (by decide) d_law_593 ?_
              refine j_goto hC 18 (by decide) d_law_596 ?_
              exact ih_lp (i + 3) a1 u1 w1 (by omega) (by omega) hR1 hR2 (wf_length hW e1)
            · exact absurd rfl c_493
          · refine l_tabIn hC (tgt := 498) (off := 466) (by decide +kernel) (by decide +kernel) (by decide +kernel) (by decide) d_law_32 ?_
            refine j_aload_1 hC d_law_498 ?_
            refine j_aload_0 hC d_law_499 ?_
            refine j_iload_3 hC d_law_500 ?_
            refine j_iconst hC ic_1 d_law_501 ?_
            refine j_addN hC d_law_502 ?_
            refine l_sld hC hX hbl hbA hL (by omega) d_law_503 ?_
            refine j_aload_0 hC d_law_504 ?_
            refine j_iload_3 hC d_law_505 ?_
            refine j_iconst hC ic_2 d_law_506 ?_
            refine j_addN hC d_law_507 ?_
            refine l_sld hC hX hbl hbA hL (by omega) d_law_508 ?_
            refine lx_calli2 hC (c_X_at (eL E) a u hRX hW) v_X_at k_law_80 (by decide) (Nat.le_of_ble_eq_true rfl) d_law_509 (fun r u1 h9 => ?_)
            obtain ⟨a1, e1, hR1⟩ := h9
            refine j_aload_2 hC d_law_512 ?_
            refine j_aload_0 hC d_law_513 ?_
            refine j_iload_3 hC d_law_514 ?_
            refine j_iconst hC ic_1 d_law_515 ?_
            refine j_addN hC d_law_516 ?_
            refine l_sld hC hX hbl hbA hL (by omega) d_law_517 ?_
            refine j_aload_0 hC d_law_518 ?_
            refine j_iload_3 hC d_law_519 ?_
            refine j_iconst hC ic_2 d_law_520 ?_
            refine j_addN hC d_law_521 ?_
            refine l_sld hC hX hbl hbA hL (by omega) d_law_522 ?_
            refine lm_calli2 hC (c_M_at (eL E) a w hRM hW) v_M_at k_law_83 (by decide) (Nat.le_of_ble_eq_true rfl) d_law_523 (fun r2 w1 h8 => ?_)
            obtain ⟨a2, e2, hR2⟩ := h8
            obtain ⟨h3, h4⟩ : r = r2 ∧ a1 = a2 := by rw [e1] at e2; cases e2; exact ⟨rfl, rfl⟩
            subst h3
            subst h4
            refine j_icmp_eq hC 593 (by decide) d_law_526 (fun c_526 => ?_) (fun c_526 => ?_)
            · refine j_iinc_3 hC inc3 (by decide) d_law_593 ?_
              refine j_goto hC 18 (by decide) d_law_596 ?_
              exact ih_lp (i + 3) a1 u1 w1 (by omega) (by omega) hR1 hR2 (wf_at hW e1)
            · exact absurd rfl c_526
          · refine l_tabIn hC (tgt := 531) (off := 499) (by decide +kernel) (by decide +kernel) (by decide +kernel) (by decide) d_law_32 ?_
            refine j_aload_1 hC d_law_531 ?_
            refine lx_calli0 hC (c_X_pile (eL E) a u hRX hW) v_X_pile k_law_84 (by decide) (Nat.le_of_ble_eq_true rfl) d_law_532 (fun r u1 h9 => ?_)
            obtain ⟨a1, e1, hR1⟩ := h9
            refine j_aload_2 hC d_law_535 ?_
            refine lm_calli0 hC (c_M_pile (eL E) a w hRM hW) v_M_pile k_law_87 (by decide) (Nat.le_of_ble_eq_true rfl) d_law_536 (fun r2 w1 h8 => ?_)
            obtain ⟨a2, e2, hR2⟩ := h8
            obtain ⟨h3, h4⟩ : r = r2 ∧ a1 = a2 := by rw [e1] at e2; cases e2; exact ⟨rfl, rfl⟩
            subst h3
            subst h4
            refine j_icmp_eq hC 593 (by decide) d_law_539 (fun c_539 => ?_) (fun c_539 => ?_)
            · refine j_iinc_3 hC inc3 (by decide) d_law_593 ?_
              refine j_goto hC 18 (by decide) d_law_596 ?_
              exact ih_lp (i + 3) a1 u1 w1 (by omega) (by omega) hR1 hR2 (wf_pile hW e1)
            · exact absurd rfl c_539
          · refine l_tabIn hC (tgt := 544) (off := 512) (by decide +kernel) (by decide +kernel) (by decide +kernel) (by decide) d_law_32 ?_
            refine j_aload_1 hC d_law_544 ?_
            refine lx_calli0 hC (c_X_topLength (eL E) a u hRX hW) v_X_topLength k_law_88 (by decide) (Nat.le_of_ble_eq_true rfl) d_law_545 (fun r u1 h9 => ?_)
            obtain ⟨a1, e1, hR1⟩ := h9
            refine j_aload_2 hC d_law_548 ?_
            refine lm_calli0 hC (c_M_topLength (eL E) a w hRM hW) v_M_topLength k_law_91 (by decide) (Nat.le_of_ble_eq_true rfl) d_law_549 (fun r2 w1 h8 => ?_)
            obtain ⟨a2, e2, hR2⟩ := h8
            obtain ⟨h3, h4⟩ : r = r2 ∧ a1 = a2 := by rw [e1] at e2; cases e2; exact ⟨rfl, rfl⟩
            subst h3
            subst h4
            refine j_icmp_eq hC 593 (by decide) d_law_552 (fun c_552 => ?_) (fun c_552 => ?_)
            · refine j_iinc_3 hC inc3 (by decide) d_law_593 ?_
              refine j_goto hC 18 (by decide) d_law_596 ?_
              exact ih_lp (i + 3) a1 u1 w1 (by omega) (by omega) hR1 hR2 (wf_topLength hW e1)
            · exact absurd rfl c_552
          · refine l_tabIn hC (tgt := 557) (off := 525) (by decide +kernel) (by decide +kernel) (by decide +kernel) (by decide) d_law_32 ?_
            refine j_aload_1 hC d_law_557 ?_
            refine j_aload_0 hC d_law_558 ?_
            refine j_iload_3 hC d_law_559 ?_
            refine j_iconst hC ic_1 d_law_560 ?_
            refine j_addN hC d_law_561 ?_
            refine l_sld hC hX hbl hbA hL (by omega) d_law_562 ?_
            refine lx_calli1 hC (c_X_topAt (eL E) a u hRX hW) v_X_topAt k_law_92 (by decide) (Nat.le_of_ble_eq_true rfl) d_law_563 (fun r u1 h9 => ?_)
            obtain ⟨a1, e1, hR1⟩ := h9
            refine j_aload_2 hC d_law_566 ?_
            refine j_aload_0 hC d_law_567 ?_
            refine j_iload_3 hC d_law_568 ?_
            refine j_iconst hC ic_1 d_law_569 ?_
            refine j_addN hC d_law_570 ?_
            refine l_sld hC hX hbl hbA hL (by omega) d_law_571 ?_
            refine lm_calli1 hC (c_M_topAt (eL E) a w hRM hW) v_M_topAt k_law_95 (by decide) (Nat.le_of_ble_eq_true rfl) d_law_572 (fun r2 w1 h8 => ?_)
            obtain ⟨a2, e2, hR2⟩ := h8
            obtain ⟨h3, h4⟩ : r = r2 ∧ a1 = a2 := by rw [e1] at e2; cases e2; exact ⟨rfl, rfl⟩
            subst h3
            subst h4
            refine j_icmp_eq hC 593 (by decide) d_law_575 (fun c_575 => ?_) (fun c_575 => ?_)
            · refine j_iinc_3 hC inc3 (by decide) d_law_593 ?_
              refine j_goto hC 18 (by decide) d_law_596 ?_
              exact ih_lp (i + 3) a1 u1 w1 (by omega) (by omega) hR1 hR2 (wf_topAt hW e1)
            · exact absurd rfl c_575
          · refine l_tabIn hC (tgt := 580) (off := 548) (by decide +kernel) (by decide +kernel) (by decide +kernel) (by decide) d_law_32 ?_
            refine j_aload_1 hC d_law_580 ?_
            refine lx_calli0 hC (c_X_used_R (eL E) a u hRX hW) v_X_used k_law_96 (by decide) (Nat.le_of_ble_eq_true rfl) d_law_581 (fun r u1 h9 => ?_)
            obtain ⟨a1, e1, hR1⟩ := h9
            refine j_aload_2 hC d_law_584 ?_
            refine lm_calli0 hC (c_M_used_R (eL E) a w hRM hW) v_M_used k_law_99 (by decide) (Nat.le_of_ble_eq_true rfl) d_law_585 (fun r2 w1 h8 => ?_)
            obtain ⟨a2, e2, hR2⟩ := h8
            obtain ⟨h3, h4⟩ : r = r2 ∧ a1 = a2 := by rw [e1] at e2; cases e2; exact ⟨rfl, rfl⟩
            subst h3
            subst h4
            refine j_icmp_eq hC 593 (by decide) d_law_588 (fun c_588 => ?_) (fun c_588 => ?_)
            · refine j_iinc_3 hC inc3 (by decide) d_law_593 ?_
              refine j_goto hC 18 (by decide) d_law_596 ?_
              exact ih_lp (i + 3) a1 u1 w1 (by omega) (by omega) hR1 hR2 (wf_used hW e1)
            · exact absurd rfl c_588
          · refine l_tabOut hC (tgt := 593) (Or.inr (by rw [nI_toInt (by omega)]; omega)) (by decide) d_law_32 ?_
            refine j_iinc_3 hC inc3 (by decide) d_law_593 ?_
            refine j_goto hC 18 (by decide) d_law_596 ?_
            exact ih_lp (i + 3) a u w (by omega) (by omega) hRX hRM hW
      · have hneg : nI L - nI 3 < 0 := pk_sneg (by decide) (by omega)
        refine j_isub hC d_law_22 ?_
        refine j_icmp_gt hC 599 (by decide) d_law_23 (fun c_23 => ?_) (fun c_23 => ?_)
        · refine j_iconst hC ir_1 d_law_599 ?_
          exact l_ret hC hr h1 h2 h3 h4 hA d_law_600
        · exact absurd (Int32.lt_of_lt_of_le hneg (nI_pos' (by omega))) c_23
  exact lp (L + 4) 0 a0 u0 w0 (by omega) (by omega) RX_0 RM_0 wf_0
end
section
theorem g_X_init : GoodIn lw_tbl (wY y_X_init b_X_init 1 none) := wY_good (wT_of (List.mem_of_getElem? (i := 27) rfl) rfl) wT_tbl
theorem g_M_init : GoodIn lw_tbl (wY y_M_init b_M_init 1 none) := wY_good (wT_of (List.mem_of_getElem? (i := 202) rfl) rfl) wT_tbl
theorem hL_law {ls : Array Slot} {n b x y : Nat} (hn : n = 4) (hl : lv_has ls 4 [(3, .int (nI 0)), (2, .ref y), (1, .ref x), (0, .ref b)]) : hL ls n (m8 (some (.ref b)) (some (.ref x)) (some (.ref y)) (some (.int (nI 0))) none none none none) := by
  subst hn
  refine ⟨hl.1, hl.2.1, fun i v hi => ?_⟩
  match i, hi with
  | 0, hi => cases hi; exact ⟨lv_at hl 3 rfl, rfl⟩
  | 1, hi => cases hi; exact ⟨lv_at hl 2 rfl, rfl⟩
  | 2, hi => cases hi; exact ⟨lv_at hl 1 rfl, rfl⟩
  | 3, hi => cases hi; exact ⟨lv_at hl 0 rfl, rfl⟩
  | 4, hi => cases hi
  | 5, hi => cases hi
  | 6, hi => cases hi
  | 7, hi => cases hi
  | i + 8, hi => cases hi
set_option maxHeartbeats 1000000 in
set_option maxRecDepth 100000 in
/-- THE LAW, from its entry: both objects come, then the loop -/
theorem whole_start {p : Program} {e : Env} {s : State} {m : MethodId} {below : List Frame} {meth : Method} {c : Code} (l : Launch) {b L : Nat} {xs : Nat → Int32} (hL : L ≤ 1536) (C0 : lw_At p s m meth c b L xs) : W p l e room_1 s m #[Value.ref b] below meth c s.heap [] 0 0 (lw_Z below #[Value.ref b] s) (entryFrame m ([Value.ref b] : List Value).toArray 4) := by
  obtain ⟨hx, hb, hr, hml, hown, hts, hX, hbl, hlocks, hgv⟩ := id C0
  have hA : ∀ q : Nat, s.heap.size ≤ q → (fun q : Nat => s.heap.size ≤ q) q := fun _ h => h
  have hbA : ¬ (fun q : Nat => s.heap.size ≤ q) b := Nat.not_le.mpr hbl
  obtain ⟨c0, iS0, hKn0⟩ := u_known (C := R_X) (T := F_X) (N := 9) (n := 9) hts i_X (hts (.instantiable R_X 9) (List.mem_of_getElem? (i := 24) rfl))
  obtain ⟨c1, iS1, hKn1⟩ := u_known (C := R_M) (T := F_M) (N := 3) (n := 3) hts i_M (hts (.instantiable R_M 3) (List.mem_of_getElem? (i := 199) rfl))
  obtain ⟨D, hKc⟩ : ∃ (D : va_G), ∀ (k : Nat) (q : vw_C), classes[k]? = some q → u_Kn s q.1 q.2.1 q.2.2 (D.1 k) (D.2 k) := by
    refine ⟨(fun k => if k = 0 then c0 else c1, fun k => if k = 0 then iS0 else iS1), ?_⟩
    intro k q hq
    match k, hq with
    | 0, hq => cases hq; exact hKn0
    | 1, hq => cases hq; exact hKn1
    | k + 2, hq => simp [classes] at hq
  have hS : va_S (fun q : Nat => s.heap.size ≤ q) s.heap s.heap [] := va_S.rf
  have hKn : va_K D classes [] s := ⟨hKc, fun k q h => by simp at h⟩
  have hP : va_P D classes [] s.heap := fun k q h => by simp at h
  have hD : va_D (fun q : Nat => s.heap.size ≤ q) [] := ⟨fun i j p q h => by simp at h, fun k q h => by simp at h⟩
  have hl := lv_entry ([.ref b]) (n := 4) (Nat.le_of_ble_eq_true rfl)
  rw [lg_entry_eq]
  generalize (lg_sl ([.ref b]) ++ List.replicate (4 - (lg_sl ([.ref b])).length) Slot.unset).toArray = ls at hl ⊢
  have hl : lv_has ls 4 [(0, .ref b)] := hl
  refine va_new (ci := 0) (fs := [.int 0, .null, .int 0, .null, .null, .int 0, .null, .null, .null]) (C := R_X) (T := F_X) (N := 9) hx hb hts i_X t_X t_X_ok hown (hts (.classLink R_law 7 R_X) (List.mem_of_getElem? (i := 23) rfl)) (hts (.instantiable R_X 9) (List.mem_of_getElem? (i := 24) rfl)) (hts (.initialized R_X) (List.mem_of_getElem? (i := 21) rfl)) hKn hP hD hS hA rfl (fun j hj => by rcases (show j = 0 ∨ j = 1 ∨ j = 2 ∨ j = 3 ∨ j = 4 ∨ j = 5 ∨ j = 6 ∨ j = 7 ∨ j = 8 by omega) with rfl | rfl | rfl | rfl | rfl | rfl | rfl | rfl | rfl <;> rfl) (Nat.le_of_ble_eq_true rfl) (Nat.le_of_ble_eq_true rfl) d_law_0 (fun q0v H hP hD hS => ?_)
  have hP : va_P D classes [(q0v, .inr (0, [.int 0, .null, .int 0, .null, .null, .int 0, .null, .null, .null]))] H := hP
  have hD : va_D (fun q : Nat => s.heap.size ≤ q) [(q0v, .inr (0, [.int 0, .null, .int 0, .null, .null, .int 0, .null, .null, .null]))] := hD
  refine W.widen (k := 1) (n := 9) (Nat.le_of_ble_eq_true rfl) (Nat.le_of_ble_eq_true rfl) ?_
  refine lv_dup hx hb d_law_3 rfl ?_
  have hPc := hP.sub (ws' := [(q0v, .inr (0, [.int 0, .null, .int 0, .null, .null, .int 0, .null, .null, .null]))]) [0] rfl
  have hDc := hD.sub (ws' := [(q0v, .inr (0, [.int 0, .null, .int 0, .null, .null, .int 0, .null, .null, .null]))]) [0] (by decide) rfl
  have hFc := va_free (wc := [(q0v, .inr (0, [.int 0, .null, .int 0, .null, .null, .int 0, .null, .null, .null]))]) hD hS hA [0] rfl
  refine va_callv (va_runI (As := []) (rest := [.ref q0v]) ⟨hx, hb, hml, hown, hts⟩ (c_X_init l D q0v H.size) (cwI 0 hts g_X_init rfl rfl rfl (hts (.initialized R_X) (List.mem_of_getElem? (i := 21) rfl)) (hts (.methodLink R_law 9 y_X_init) (List.mem_of_getElem? (i := 25) rfl)) (hts (.instanceMethod y_X_init) (List.mem_of_getElem? (i := 26) rfl)) rfl (by decide +kernel) ⟨Nat.le_of_ble_eq_true rfl, Nat.le_of_ble_eq_true rfl⟩) ⟨fun a U g mk q => by obtain ⟨q0, q1, qP, qK, qD⟩ := q; exact ⟨q0, q1, qP, va_K.moved (u := U) (U := U.calling g mk a) (Vm.Alike.refl U.vm) qK, qD⟩, fun U hU hW => ⟨rfl, by rw [hU], by rw [hU]; exact hPc, va_K.moved hW.alike hKn, hDc.weaken (fun _ _ _ _ => trivial)⟩⟩ rfl rfl hl.1 rfl (lv_room (Nat.le_of_ble_eq_true rfl)) d_law_4 ⟨Nat.le_of_ble_eq_true rfl, Nat.le_of_ble_eq_true rfl⟩) hS (fun q _ h => hFc q h) hFc (fun z t H1 locs ht hvm hw hB hz1 hk1 hS => ?_)
  obtain ⟨qx, cI, cZ⟩ := z
  obtain ⟨hP1, hK1, hD1⟩ := hB
  rw [ht] at hP1
  have hKx : va_K D classes (tyz cI cZ) s := va_K.moved hvm.symm hK1
  have hw : qx 0 = q0v := hw
  obtain ⟨hPa, hDa⟩ := va_join (wr := []) (w1 := wX cI cZ qx u0) hP hD [0] [] rfl rfl (by decide) (by decide) hk1 hFc hP1 hD1
  subst hw
  have hP : va_P D classes (wX cI cZ qx u0) H1 := hPa
  have hD : va_D (fun q : Nat => s.heap.size ≤ q) (wX cI cZ qx u0) := hDa
  clear hPa hDa hk1 hFc hP1 hPc hDc
  refine W.widen (k := 7) (n := 501) (Nat.le_of_ble_eq_true rfl) (Nat.le_of_ble_eq_true rfl) ?_
  refine lv_astore_n (lv' := [(1, .ref (qx 0)), (0, .ref b)]) hx hb d_law_7 rfl hl (by decide) rfl (fun ls hl => ?_)
  refine va_new (ci := 1) (fs := [.null, .null, .int 0]) (C := R_M) (T := F_M) (N := 3) hx hb hts i_M t_M t_M_ok hown (hts (.classLink R_law 10 R_M) (List.mem_of_getElem? (i := 198) rfl)) (hts (.instantiable R_M 3) (List.mem_of_getElem? (i := 199) rfl)) (hts (.initialized R_M) (List.mem_of_getElem? (i := 22) rfl)) hKn hP hD hS hA rfl (fun j hj => by rcases (show j = 0 ∨ j = 1 ∨ j = 2 by omega) with rfl | rfl | rfl <;> rfl) (Nat.le_of_ble_eq_true rfl) (Nat.le_of_ble_eq_true rfl) d_law_8 (fun q1v H hP hD hS => ?_)
  refine W.widen (k := 8) (n := 504) (Nat.le_of_ble_eq_true rfl) (Nat.le_of_ble_eq_true rfl) ?_
  refine lv_dup hx hb d_law_11 rfl ?_
  have hPc := hP.sub (ws' := [(q1v, .inr (1, [.null, .null, .int 0]))]) [7] rfl
  have hDc := hD.sub (ws' := [(q1v, .inr (1, [.null, .null, .int 0]))]) [7] (by decide) rfl
  have hFc := va_free (wc := [(q1v, .inr (1, [.null, .null, .int 0]))]) hD hS hA [7] rfl
  refine va_callv (va_runI (As := []) (rest := [.ref q1v]) ⟨hx, hb, hml, hown, hts⟩ (c_M_init l D q1v H.size) (cwI 0 hts g_M_init rfl rfl rfl (hts (.initialized R_M) (List.mem_of_getElem? (i := 22) rfl)) (hts (.methodLink R_law 12 y_M_init) (List.mem_of_getElem? (i := 200) rfl)) (hts (.instanceMethod y_M_init) (List.mem_of_getElem? (i := 201) rfl)) rfl (by decide +kernel) ⟨Nat.le_of_ble_eq_true rfl, Nat.le_of_ble_eq_true rfl⟩) ⟨fun a U g mk q => by obtain ⟨q0, q1, qP, qK, qD⟩ := q; exact ⟨q0, q1, qP, va_K.moved (u := U) (U := U.calling g mk a) (Vm.Alike.refl U.vm) qK, qD⟩, fun U hU hW => ⟨rfl, by rw [hU], by rw [hU]; exact hPc, va_K.moved hW.alike hKn, hDc.weaken (fun _ _ _ _ => trivial)⟩⟩ rfl rfl hl.1 rfl (lv_room (Nat.le_of_ble_eq_true rfl)) d_law_12 ⟨Nat.le_of_ble_eq_true rfl, Nat.le_of_ble_eq_true rfl⟩) hS (fun q _ h => hFc q h) hFc (fun z t H1 locs ht hvm hw hB hz1 hk1 hS => ?_)
  obtain ⟨qm, cI2, cZ2⟩ := z
  obtain ⟨hP1, hK1, hD1⟩ := hB
  rw [ht] at hP1
  have hKm : va_K D classes (tyi cI2 cZ2) s := va_K.moved hvm.symm hK1
  have hw : qm 0 = q1v := hw
  have eC : cI = cI2 := Option.some.inj ((hKx.2 0 _ rfl).2.symm.trans (hKm.2 0 _ rfl).2)
  subst eC
  obtain ⟨hPa, hDa⟩ := va_join (wr := wX cI cZ qx u0) (w1 := wM cI cZ qm w0) hP hD [7] [0, 1, 2, 3, 4, 5, 6] rfl rfl (by decide) (by decide) hk1 hFc hP1 hD1
  subst hw
  refine W.widen (k := 10) (n := 955) (Nat.le_of_ble_eq_true rfl) (Nat.le_of_ble_eq_true rfl) ?_
  refine lv_astore_n (lv' := [(2, .ref (qm 0)), (1, .ref (qx 0)), (0, .ref b)]) hx hb d_law_15 rfl hl (by decide) rfl (fun ls hl => ?_)
  refine lv_iconst (v := nI 0) hx hb d_law_16 (by decide +kernel) ?_
  refine lv_istore_n (lv' := [(3, .int (nI 0)), (2, .ref (qm 0)), (1, .ref (qx 0)), (0, .ref b)]) hx hb d_law_17 rfl hl (by decide) rfl (fun ls hl => ?_)
  refine law_loop (E := (p, l, e, room_1, s, m, #[Value.ref b], below, meth, c, D, cI, cZ, (fun q : Nat => s.heap.size ≤ q), 10, 955)) (qx := qx) (qm := qm) hL ⟨hx, hb, hml, hown, fun w hw => hts w (wT_tbl w hw).1, hKx, fun q h => h, hlocks, Nat.le_of_ble_eq_true rfl, Nat.le_of_ble_eq_true rfl, Nat.le_of_ble_eq_true rfl, Nat.le_of_ble_eq_true rfl⟩ hr rfl rfl rfl rfl (fun q h => h) hX hbl hbA _ _ ls ⟨hPa, hDa, hS⟩ (hL_law hml hl)
set_option maxHeartbeats 4000000 in
theorem lw_walk (l : Launch) (b : Addr) (xs : List Int32) : MetFree l x (headSpec (Jvm.Cond.code x code maxLocals ret :: tables_1) room_1) (lw_P b xs) (fun _ _ _ _ _ => True) lw_Q := by
  refine MetFree.of_bodyS (code := code) (maxLocals := maxLocals) (ret := ret) (by decide) ?_ ?_
  · intro args s m h hn
    obtain ⟨meth, c, h1, h2, h3, h4, h5, h6, -, -⟩ := Cond.code_spec hn (atoms_spec (ws := Jvm.Cond.code x code maxLocals ret :: tables_1) h _ List.mem_cons_self)
    exact ⟨meth, c, h1, h2, h3, h4, h5, h6⟩
  · intro p e s m args below meth c s₁ B hml0 hP _
    obtain ⟨rfl, hx, hbd, hgv⟩ := hP
    obtain ⟨scr, harrAt, hlist, hof, hsmall⟩ := hx
    obtain ⟨hcb, hkn, -, -⟩ := State.arrayAt?_spec harrAt
    have hown : s.vm.findClass R_law = some m.cls := findClass_of_methodNamed B.named
    have hts0 : ∀ c ∈ (Jvm.Cond.code x code maxLocals ret :: tables_1), c.before #[Value.ref b] s = true := atoms_spec (ws := Jvm.Cond.code x code maxLocals ret :: tables_1) B.pre
    have hts : ∀ w ∈ lw_tbl, w.before #[Value.ref b] s = true := k2_hts_sels lw_privs (fun w hw => hts0 w (List.mem_cons_of_mem _ hw)) lw_privs_ok
    have hml : c.maxLocals = 4 := B.maxLocals_eq (hts0 _ List.mem_cons_self)
    have X₀ : Stand p l e room_1 s m #[Value.ref b] below meth c s₁ [] 0 0 := Stand.of_body B
    have hh0 : s₁.heap = s.heap := by rw [B.state]; rfl
    have hsz : scr.slots.size = xs.length := by rw [← Array.length_toList, hlist, List.length_map]
    have hval : ∀ j : Nat, j < xs.length → scr.slots[j]? = some (.int (xs.getD j 0)) := fun j hj => by
      rw [← Array.getElem?_toList, hlist]
      simp [hj]
    have hbl : b < s.heap.size := (Array.getElem?_eq_some_iff.mp hcb).1
    have hX : va_X b xs.length (fun j => xs.getD j 0) s s.heap := ⟨scr, hcb, hof, hkn, hsz, hval⟩
    have K : W p l e room_1 s m #[Value.ref b] below meth c s₁.heap [] 0 0 (lw_Z below #[Value.ref b] s) (entryFrame m ([Value.ref b] : List Value).toArray 4) := by
      rw [hh0]
      exact whole_start l hbd ⟨B.exec, B.bytes, B.returns, hml, hown, hts, hX, hbl, B.notSynchronized, hgv⟩
    obtain ⟨t, a1, o, b1, b2, b3⟩ := K s₁ rfl X₀
    exact ⟨t, o, a1, b1, b2, b3⟩
theorem lw_pre_spec {args : Array Value} {s : State} (h : (Jvm.Cond.and given_1 narrow_1).before args s = true) (hr : rest_1_c.before args s = true) : ∃ (b : Addr) (xs : List Int32), lw_P b xs args s := by
  have hs := flat_of_before _ h
  have hq := flat_of_before _ hr
  have hc : (Cond.count 1).before args s = true := hs _ (by decide +kernel)
  have harr : (Cond.arrayOf (.arg 0) .int).before args s = true := hs _ (by decide +kernel)
  have hle : (Cond.le (.length (.arg 0)) (.int 1536)).before args s = true := hs _ (by decide +kernel)
  have hlen : (Cond.isInt (.length (.arg 0))).before args s = true := hq _ (by decide +kernel)
  have hall : (Cond.all (.arg 0) (.isInt (.elem (.arg 0) (.index 0)))).before args s = true := hq _ (by decide +kernel)
  obtain ⟨b, xs, hb, hx⟩ := State.ints_of_pre rfl harr hlen hall
  have hsm : xs.length < 2 ^ 31 := hx.choose_spec.2.2.2
  have hev : (Term.length (.arg 0)).eval args s none [] s = some (.int xs.length.toInt32) := hx.length_eval hb
  have hv := Cond.le_ints hev (show (Term.int 1536).eval args s none [] s = some (.int 1536) from rfl)
  have hd : xs.length.toInt32 ≤ 1536 := by
    simpa [Cond.before, Cond.holds, hv] using hle
  have hN : xs.length ≤ 1536 := (Int32.ofNat_le_ofNat hsm (by decide)).mp (show Int32.ofNat xs.length ≤ Int32.ofNat 1536 from hd)
  exact ⟨b, xs, Cond.one_arg hc (show args[0]? = some (.ref b) from hb), hx, hN, h⟩
theorem lw_comes (l : Launch) : Comes l x (Jvm.Cond.code x code maxLocals ret :: tables_1) room_1 (fun tb e args s => Calls_1 tb e args s ∧ rest_1 tb e args s ∧ Pre_1 tb e args s)
    (fun _ _ args s o t => lw_Q args s o t) := by
  intro p e ha hc hk s m args below hf hfit hheap happ hpre
  obtain ⟨b, xs, hP⟩ := lw_pre_spec hpre.2.2 hpre.2.1
  obtain ⟨k, o, h1, h2, h3, hQ⟩ := lw_walk l b xs p e ha hc hk s m args below hf ((Spec.applies_iff_loose hf).mp happ).1 hP trivial
  exact ⟨k, o, h1, h2, h3, hQ⟩
theorem lw_frame {s t : State} {o : Outcome} {args : Array Value} (h : Framed s o t [] 10 955) :
    Framed s o t (fieldLocs frame_1_writes args s ++ arrayLocs frame_1_arrays args s ++ staticLocs frame_1_statics s) 10 955 := h
theorem lw_limb (L : Cond) (hL : ∀ (args : Array Value) (s t : State), L.after args s (.returned (some (.int 1))) t = true) :
    ArmFor flags0 classFile x code maxLocals ret World_1 tables_1 room_1 Calls_1 rest_1 Pre_1
      (fun tb e a s o t => postC L tb e a s o t ∧ Framed s o t (fieldLocs frame_1_writes a s ++ arrayLocs frame_1_arrays a s ++ staticLocs frame_1_statics s) 10 955) := by
  intro l _ _ _ p e ha hc hk s m args below hf hfit hheap happ hpre
  obtain ⟨k, o, h1, h2, h3, rfl, hF⟩ := lw_comes l p e ha hc hk s m args below hf hfit hheap happ hpre
  exact ⟨k, _, h1, h2, h3, hL args s _, lw_frame hF⟩
theorem i_vc : Claimed_1_1 ∧ Claimed_1_2 := ⟨lw_limb limb_1_1 (fun args s t => by simp [limb_1_1, Cond.after, Cond.holds, Cond.value]), lw_limb limb_1_2 (fun args s t => Cond.after_iff.mpr (by
  first | (rw [show limb_1_2 = Cond.eq .result (.int 1) from rfl, Cond.eq_ints (x := 1) (y := 1) rfl rfl]; simp; done) | (simp [limb_1_2, Cond.value, Term.eval]; done)))⟩
end
