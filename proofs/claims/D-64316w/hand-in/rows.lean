section
-- ===== PART A: goes FIRST, ahead of the names: the tables' words, and 'selects' of the private methods out of them =====
/-- a private method of a class that the tables say can be made, by its rows of tables_1 -/
def lw_okq (q : MethodName × Nat) : Prop := (q.1.cls ≠ "java/lang/invoke/MethodHandle" ∧ q.1.cls ≠ "java/lang/invoke/VarHandle") ∧ Cond.instantiable q.1.cls q.2 ∈ tables_1 ∧ Cond.privateMethod q.1 ∈ tables_1 ∧ Cond.instanceMethod q.1 ∈ tables_1
theorem lw_p0 : lw_okq (⟨"DigestDesk", "mayStart", "(I)Z"⟩, 14) := ⟨⟨by decide +kernel, by decide +kernel⟩, List.mem_of_getElem? (i := 7) (by decide +kernel), List.mem_of_getElem? (i := 74) (by decide +kernel), List.mem_of_getElem? (i := 75) (by decide +kernel)⟩
theorem lw_p1 : lw_okq (⟨"DigestDesk", "begin", "(I)V"⟩, 14) := ⟨⟨by decide +kernel, by decide +kernel⟩, List.mem_of_getElem? (i := 7) (by decide +kernel), List.mem_of_getElem? (i := 78) (by decide +kernel), List.mem_of_getElem? (i := 79) (by decide +kernel)⟩
theorem lw_p2 : lw_okq (⟨"DigestDesk", "fill", "(I)V"⟩, 14) := ⟨⟨by decide +kernel, by decide +kernel⟩, List.mem_of_getElem? (i := 7) (by decide +kernel), List.mem_of_getElem? (i := 95) (by decide +kernel), List.mem_of_getElem? (i := 96) (by decide +kernel)⟩
theorem lw_p3 : lw_okq (⟨"DigestDesk", "put", "(I)V"⟩, 14) := ⟨⟨by decide +kernel, by decide +kernel⟩, List.mem_of_getElem? (i := 7) (by decide +kernel), List.mem_of_getElem? (i := 99) (by decide +kernel), List.mem_of_getElem? (i := 100) (by decide +kernel)⟩
theorem lw_p4 : lw_okq (⟨"DigestDesk", "mixFour", "()V"⟩, 14) := ⟨⟨by decide +kernel, by decide +kernel⟩, List.mem_of_getElem? (i := 7) (by decide +kernel), List.mem_of_getElem? (i := 104) (by decide +kernel), List.mem_of_getElem? (i := 105) (by decide +kernel)⟩
theorem lw_p5 : lw_okq (⟨"DigestDesk", "mixFive", "()V"⟩, 14) := ⟨⟨by decide +kernel, by decide +kernel⟩, List.mem_of_getElem? (i := 7) (by decide +kernel), List.mem_of_getElem? (i := 118) (by decide +kernel), List.mem_of_getElem? (i := 119) (by decide +kernel)⟩
theorem lw_p6 : lw_okq (⟨"DigestDesk", "end", "()V"⟩, 14) := ⟨⟨by decide +kernel, by decide +kernel⟩, List.mem_of_getElem? (i := 7) (by decide +kernel), List.mem_of_getElem? (i := 124) (by decide +kernel), List.mem_of_getElem? (i := 125) (by decide +kernel)⟩
theorem lw_p7 : lw_okq (⟨"DigestDeskModel", "begin", "(I)V"⟩, 18) := ⟨⟨by decide +kernel, by decide +kernel⟩, List.mem_of_getElem? (i := 165) (by decide +kernel), List.mem_of_getElem? (i := 252) (by decide +kernel), List.mem_of_getElem? (i := 253) (by decide +kernel)⟩
theorem lw_p8 : lw_okq (⟨"DigestDeskModel", "add", "(I)V"⟩, 18) := ⟨⟨by decide +kernel, by decide +kernel⟩, List.mem_of_getElem? (i := 165) (by decide +kernel), List.mem_of_getElem? (i := 270) (by decide +kernel), List.mem_of_getElem? (i := 271) (by decide +kernel)⟩
theorem lw_p9 : lw_okq (⟨"DigestDeskModel", "five", "()V"⟩, 18) := ⟨⟨by decide +kernel, by decide +kernel⟩, List.mem_of_getElem? (i := 165) (by decide +kernel), List.mem_of_getElem? (i := 275) (by decide +kernel), List.mem_of_getElem? (i := 276) (by decide +kernel)⟩
theorem lw_p10 : lw_okq (⟨"DigestDeskModel", "one", "()V"⟩, 18) := ⟨⟨by decide +kernel, by decide +kernel⟩, List.mem_of_getElem? (i := 165) (by decide +kernel), List.mem_of_getElem? (i := 285) (by decide +kernel), List.mem_of_getElem? (i := 286) (by decide +kernel)⟩
theorem lw_p11 : lw_okq (⟨"DigestDeskModel", "end", "()V"⟩, 18) := ⟨⟨by decide +kernel, by decide +kernel⟩, List.mem_of_getElem? (i := 165) (by decide +kernel), List.mem_of_getElem? (i := 289) (by decide +kernel), List.mem_of_getElem? (i := 290) (by decide +kernel)⟩
theorem lw_p12 : lw_okq (⟨"DigestDeskModel", "width", "()I"⟩, 18) := ⟨⟨by decide +kernel, by decide +kernel⟩, List.mem_of_getElem? (i := 165) (by decide +kernel), List.mem_of_getElem? (i := 296) (by decide +kernel), List.mem_of_getElem? (i := 297) (by decide +kernel)⟩
def lw_privs_1 : List (MethodName × Nat) := [(⟨"DigestDesk", "mayStart", "(I)Z"⟩, 14), (⟨"DigestDesk", "begin", "(I)V"⟩, 14), (⟨"DigestDesk", "fill", "(I)V"⟩, 14), (⟨"DigestDesk", "put", "(I)V"⟩, 14), (⟨"DigestDesk", "mixFour", "()V"⟩, 14), (⟨"DigestDesk", "mixFive", "()V"⟩, 14), (⟨"DigestDesk", "end", "()V"⟩, 14), (⟨"DigestDeskModel", "begin", "(I)V"⟩, 18), (⟨"DigestDeskModel", "add", "(I)V"⟩, 18), (⟨"DigestDeskModel", "five", "()V"⟩, 18), (⟨"DigestDeskModel", "one", "()V"⟩, 18), (⟨"DigestDeskModel", "end", "()V"⟩, 18), (⟨"DigestDeskModel", "width", "()I"⟩, 18)]
theorem lw_r1 : ∀ q ∈ lw_privs_1, lw_okq q := List.forall_mem_cons.mpr ⟨lw_p0, List.forall_mem_cons.mpr ⟨lw_p1, List.forall_mem_cons.mpr ⟨lw_p2, List.forall_mem_cons.mpr ⟨lw_p3, List.forall_mem_cons.mpr ⟨lw_p4, List.forall_mem_cons.mpr ⟨lw_p5, List.forall_mem_cons.mpr ⟨lw_p6, List.forall_mem_cons.mpr ⟨lw_p7, List.forall_mem_cons.mpr ⟨lw_p8, List.forall_mem_cons.mpr ⟨lw_p9, List.forall_mem_cons.mpr ⟨lw_p10, List.forall_mem_cons.mpr ⟨lw_p11, List.forall_mem_cons.mpr ⟨lw_p12, fun _ h => absurd h List.not_mem_nil⟩⟩⟩⟩⟩⟩⟩⟩⟩⟩⟩⟩⟩
def lw_privs : List (MethodName × Nat) := lw_privs_1
def lw_tbl : List Cond := k2_sels lw_privs ++ tables_1
theorem lw_privs_ok : ∀ q ∈ lw_privs, lw_okq q := lw_r1
/-- the good words of the tables: one list for every method -/
def tT : List Cond := lw_tbl.filter goodWord
theorem tm {w : Cond} (i : Nat) (h : lw_tbl[i]? = some w) (g : goodWord w = true) : w ∈ tT := List.mem_filter.mpr ⟨List.mem_of_getElem? h, g⟩
theorem tT_sub {w : Cond} (h : w ∈ tT) : w ∈ lw_tbl := (List.mem_filter.mp h).1
theorem tT_good : GoodIn tT tT := fun w h => ⟨h, good_of_word (List.mem_filter.mp h).2⟩
theorem tT_goodL : GoodIn lw_tbl tT := fun w h => ⟨tT_sub h, good_of_word (List.mem_filter.mp h).2⟩
theorem tT_cons {w : Cond} (h : w ∈ tT) : GoodIn tT (w :: tT) := fun v hv => by
  rcases List.mem_cons.mp hv with rfl | h2
  · exact tT_good _ h
  · exact tT_good _ h2
theorem tT_V {own C : String} {i : Nat} {y : MethodName} {w : Cond} (h1 : Cond.methodLink own i y ∈ tT) (h2 : Cond.instanceMethod y ∈ tT) (h3 : Cond.selects C y y ∈ tT) (h4 : Cond.initialized C ∈ tT) (h5 : w ∈ tT) : GoodIn tT (wsV own i C y (w :: tT)) := fun v hv => by
  unfold wsV at hv
  rcases List.mem_append.mp hv with h | h
  · simp only [List.mem_cons, List.not_mem_nil, or_false] at h
    rcases h with rfl | rfl | rfl | rfl
    · exact tT_good _ h1
    · exact tT_good _ h2
    · exact tT_good _ h3
    · exact tT_good _ h4
  · exact tT_cons h5 v h
theorem tT_S {own : String} {i : Nat} {y : MethodName} {w : Cond} (h1 : Cond.methodLink own i y ∈ tT) (h2 : Cond.static y ∈ tT) (h4 : Cond.initialized y.cls ∈ tT) (h5 : w ∈ tT) : GoodIn tT (va_wsS own i y (w :: tT)) := fun v hv => by
  unfold va_wsS at hv
  rcases List.mem_append.mp hv with h | h
  · simp only [List.mem_cons, List.not_mem_nil, or_false] at h
    rcases h with rfl | rfl | rfl
    · exact tT_good _ h1
    · exact tT_good _ h2
    · exact tT_good _ h4
  · exact tT_cons h5 v h

-- names
abbrev R_D : String := "DigestDesk"
abbrev R_M : String := "DigestDeskModel"
abbrev R_L : String := "DigestDeskLaw"
def F_D : u_T := fun k => match k with
  | 0 => ("DigestDesk", "limit", "I", true)
  | 1 => ("DigestDesk", "isReady", "Z", false)
  | 2 => ("DigestDesk", "key", "[B", true)
  | 3 => ("DigestDesk", "keyCount", "I", false)
  | 4 => ("DigestDesk", "alg", "I", false)
  | 5 => ("DigestDesk", "state", "[I", true)
  | 6 => ("DigestDesk", "buffer", "[B", true)
  | 7 => ("DigestDesk", "words", "[I", true)
  | 8 => ("DigestDesk", "count", "J", false)
  | 9 => ("DigestDesk", "isOpen", "Z", false)
  | 10 => ("DigestDesk", "isMac", "Z", false)
  | 11 => ("DigestDesk", "filled", "[B", true)
  | 12 => ("DigestDesk", "result", "[B", true)
  | _ => ("DigestDesk", "resultLength", "I", false)
def t_D : Nat → FieldType := fun k => match k with
  | 0 => .int
  | 1 => .boolean
  | 2 => .array .byte
  | 3 => .int
  | 4 => .int
  | 5 => .array .int
  | 6 => .array .byte
  | 7 => .array .int
  | 8 => .long
  | 9 => .boolean
  | 10 => .boolean
  | 11 => .array .byte
  | 12 => .array .byte
  | _ => .int
abbrev w_D : List Cond := u_ws R_D F_D 14
theorem n_D : ∀ a, a < 14 → ∀ b, b < 14 → a ≠ b → (F_D a).2.1 ≠ (F_D b).2.1 := by decide +kernel
theorem t_D_ok : ∀ k, k < 14 → parseFieldDescriptor (F_D k).2.2.1 = some (t_D k) := by decide +kernel
theorem i_D0 : ∀ w ∈ w_D, w ∈ lw_tbl ∧ goodWord w = true := by decide +kernel
theorem i_D : ∀ w ∈ w_D, w ∈ tT := fun w h => List.mem_filter.mpr (i_D0 w h)
def F_M : u_T := fun k => match k with
  | 0 => ("DigestDeskModel", "limit", "I", true)
  | 1 => ("DigestDeskModel", "ready", "Z", false)
  | 2 => ("DigestDeskModel", "key", "[I", true)
  | 3 => ("DigestDeskModel", "keys", "I", false)
  | 4 => ("DigestDeskModel", "open", "I", false)
  | 5 => ("DigestDeskModel", "mac", "Z", false)
  | 6 => ("DigestDeskModel", "bytes", "J", false)
  | 7 => ("DigestDeskModel", "padded", "[I", true)
  | 8 => ("DigestDeskModel", "hash", "I", false)
  | 9 => ("DigestDeskModel", "h", "[I", true)
  | 10 => ("DigestDeskModel", "block", "[I", true)
  | 11 => ("DigestDeskModel", "came", "J", false)
  | 12 => ("DigestDeskModel", "w", "[I", true)
  | 13 => ("DigestDeskModel", "sines", "[I", true)
  | 14 => ("DigestDeskModel", "roots", "[I", true)
  | 15 => ("DigestDeskModel", "digest", "[I", true)
  | 16 => ("DigestDeskModel", "result", "[I", true)
  | _ => ("DigestDeskModel", "results", "I", false)
def t_M : Nat → FieldType := fun k => match k with
  | 0 => .int
  | 1 => .boolean
  | 2 => .array .int
  | 3 => .int
  | 4 => .int
  | 5 => .boolean
  | 6 => .long
  | 7 => .array .int
  | 8 => .int
  | 9 => .array .int
  | 10 => .array .int
  | 11 => .long
  | 12 => .array .int
  | 13 => .array .int
  | 14 => .array .int
  | 15 => .array .int
  | 16 => .array .int
  | _ => .int
abbrev w_M : List Cond := u_ws R_M F_M 18
theorem n_M : ∀ a, a < 18 → ∀ b, b < 18 → a ≠ b → (F_M a).2.1 ≠ (F_M b).2.1 := by decide +kernel
theorem t_M_ok : ∀ k, k < 18 → parseFieldDescriptor (F_M k).2.2.1 = some (t_M k) := by decide +kernel
theorem i_M0 : ∀ w ∈ w_M, w ∈ lw_tbl ∧ goodWord w = true := by decide +kernel
theorem i_M : ∀ w ∈ w_M, w ∈ tT := fun w h => List.mem_filter.mpr (i_M0 w h)
abbrev classes : List vw_C := [(R_D, F_D, 14), (R_M, F_M, 18)]
abbrev b_D_new : ByteArray := prog_1_method_1_code
abbrev y_D_new : MethodName := ⟨"DigestDesk", "<init>", "(I)V"⟩
abbrev k_D_new : Cond := .code y_D_new b_D_new 2 none
theorem cd_D_new : k_D_new ∈ tT := tm 23 rfl rfl
abbrev b_O_new : ByteArray := object_method_1_code
abbrev y_O_new : MethodName := ⟨"java/lang/Object", "<init>", "()V"⟩
abbrev k_O_new : Cond := .code y_O_new b_O_new 1 none
theorem cd_O_new : k_O_new ∈ tT := tm 26 rfl rfl
abbrev b_H_min : ByteArray := prog_5_method_69_code
abbrev y_H_min : MethodName := ⟨"java/lang/Math", "min", "(II)I"⟩
abbrev k_H_min : Cond := .code y_H_min b_H_min 2 (some .int)
theorem cd_H_min : k_H_min ∈ tT := tm 29 rfl rfl
abbrev b_H_max : ByteArray := prog_5_method_65_code
abbrev y_H_max : MethodName := ⟨"java/lang/Math", "max", "(II)I"⟩
abbrev k_H_max : Cond := .code y_H_max b_H_max 2 (some .int)
theorem cd_H_max : k_H_max ∈ tT := tm 32 rfl rfl
abbrev b_D_init : ByteArray := prog_1_method_9_code
abbrev y_D_init : MethodName := ⟨"DigestDesk", "init", "()V"⟩
abbrev k_D_init : Cond := .code y_D_init b_D_init 1 none
theorem cd_D_init : k_D_init ∈ tT := tm 81 rfl rfl
abbrev b_D_start : ByteArray := prog_1_method_11_code
abbrev y_D_start : MethodName := ⟨"DigestDesk", "start", "(I)Z"⟩
abbrev k_D_start : Cond := .code y_D_start b_D_start 2 (some .boolean)
theorem cd_D_start : k_D_start ∈ tT := tm 85 rfl rfl
abbrev b_D_mayStart : ByteArray := prog_1_method_10_code
abbrev y_D_mayStart : MethodName := ⟨"DigestDesk", "mayStart", "(I)Z"⟩
abbrev k_D_mayStart : Cond := .code y_D_mayStart b_D_mayStart 2 (some .boolean)
theorem cd_D_mayStart : k_D_mayStart ∈ tT := tm 89 rfl rfl
abbrev b_D_begin : ByteArray := prog_1_method_2_code
abbrev y_D_begin : MethodName := ⟨"DigestDesk", "begin", "(I)V"⟩
abbrev k_D_begin : Cond := .code y_D_begin b_D_begin 2 none
theorem cd_D_begin : k_D_begin ∈ tT := tm 93 rfl rfl
abbrev b_D_keyByte : ByteArray := prog_1_method_12_code
abbrev y_D_keyByte : MethodName := ⟨"DigestDesk", "keyByte", "(I)Z"⟩
abbrev k_D_keyByte : Cond := .code y_D_keyByte b_D_keyByte 2 (some .boolean)
theorem cd_D_keyByte : k_D_keyByte ∈ tT := tm 102 rfl rfl
abbrev b_D_startMac : ByteArray := prog_1_method_13_code
abbrev y_D_startMac : MethodName := ⟨"DigestDesk", "startMac", "(I)Z"⟩
abbrev k_D_startMac : Cond := .code y_D_startMac b_D_startMac 6 (some .boolean)
theorem cd_D_startMac : k_D_startMac ∈ tT := tm 106 rfl rfl
abbrev b_D_fill : ByteArray := prog_1_method_14_code
abbrev y_D_fill : MethodName := ⟨"DigestDesk", "fill", "(I)V"⟩
abbrev k_D_fill : Cond := .code y_D_fill b_D_fill 4 none
theorem cd_D_fill : k_D_fill ∈ tT := tm 110 rfl rfl
abbrev b_D_put : ByteArray := prog_1_method_3_code
abbrev y_D_put : MethodName := ⟨"DigestDesk", "put", "(I)V"⟩
abbrev k_D_put : Cond := .code y_D_put b_D_put 5 none
theorem cd_D_put : k_D_put ∈ tT := tm 114 rfl rfl
abbrev b_D_mixFour : ByteArray := prog_1_method_5_code
abbrev y_D_mixFour : MethodName := ⟨"DigestDesk", "mixFour", "()V"⟩
abbrev k_D_mixFour : Cond := .code y_D_mixFour b_D_mixFour 10 none
theorem cd_D_mixFour : k_D_mixFour ∈ tT := tm 119 rfl rfl
abbrev b_D_choose : ByteArray := prog_1_method_4_code
abbrev y_D_choose : MethodName := ⟨"DigestDesk", "choose", "(III)I"⟩
abbrev k_D_choose : Cond := .code y_D_choose b_D_choose 3 (some .int)
theorem cd_D_choose : k_D_choose ∈ tT := tm 122 rfl rfl
abbrev b_J_rotateLeft : ByteArray := prog_4_method_50_code
abbrev y_J_rotateLeft : MethodName := ⟨"java/lang/Integer", "rotateLeft", "(II)I"⟩
abbrev k_J_rotateLeft : Cond := .code y_J_rotateLeft b_J_rotateLeft 2 (some .int)
theorem cd_J_rotateLeft : k_J_rotateLeft ∈ tT := tm 129 rfl rfl
abbrev b_D_mixFive : ByteArray := prog_1_method_6_code
abbrev y_D_mixFive : MethodName := ⟨"DigestDesk", "mixFive", "()V"⟩
abbrev k_D_mixFive : Cond := .code y_D_mixFive b_D_mixFive 10 none
theorem cd_D_mixFive : k_D_mixFive ∈ tT := tm 133 rfl rfl
abbrev b_D_end : ByteArray := prog_1_method_8_code
abbrev y_D_end : MethodName := ⟨"DigestDesk", "end", "()V"⟩
abbrev k_D_end : Cond := .code y_D_end b_D_end 5 none
theorem cd_D_end : k_D_end ∈ tT := tm 139 rfl rfl
abbrev b_D_lengthOf : ByteArray := prog_1_method_7_code
abbrev y_D_lengthOf : MethodName := ⟨"DigestDesk", "lengthOf", "(I)I"⟩
abbrev k_D_lengthOf : Cond := .code y_D_lengthOf b_D_lengthOf 1 (some .int)
theorem cd_D_lengthOf : k_D_lengthOf ∈ tT := tm 144 rfl rfl
abbrev b_D_update : ByteArray := prog_1_method_15_code
abbrev y_D_update : MethodName := ⟨"DigestDesk", "update", "(I)Z"⟩
abbrev k_D_update : Cond := .code y_D_update b_D_update 2 (some .boolean)
theorem cd_D_update : k_D_update ∈ tT := tm 148 rfl rfl
abbrev b_D_pour : ByteArray := prog_1_method_16_code
abbrev y_D_pour : MethodName := ⟨"DigestDesk", "pour", "(IIIII)Z"⟩
abbrev k_D_pour : Cond := .code y_D_pour b_D_pour 9 (some .boolean)
theorem cd_D_pour : k_D_pour ∈ tT := tm 152 rfl rfl
abbrev b_D_finish : ByteArray := prog_1_method_17_code
abbrev y_D_finish : MethodName := ⟨"DigestDesk", "finish", "()Z"⟩
abbrev k_D_finish : Cond := .code y_D_finish b_D_finish 5 (some .boolean)
theorem cd_D_finish : k_D_finish ∈ tT := tm 156 rfl rfl
abbrev b_D_out : ByteArray := prog_1_method_18_code
abbrev y_D_out : MethodName := ⟨"DigestDesk", "out", "(I)I"⟩
abbrev k_D_out : Cond := .code y_D_out b_D_out 2 (some .int)
theorem cd_D_out : k_D_out ∈ tT := tm 160 rfl rfl
abbrev b_D_outLen : ByteArray := prog_1_method_19_code
abbrev y_D_outLen : MethodName := ⟨"DigestDesk", "outLen", "()I"⟩
abbrev k_D_outLen : Cond := .code y_D_outLen b_D_outLen 1 (some .int)
theorem cd_D_outLen : k_D_outLen ∈ tT := tm 164 rfl rfl
abbrev b_D_keyLen : ByteArray := prog_1_method_20_code
abbrev y_D_keyLen : MethodName := ⟨"DigestDesk", "keyLen", "()I"⟩
abbrev k_D_keyLen : Cond := .code y_D_keyLen b_D_keyLen 1 (some .int)
theorem cd_D_keyLen : k_D_keyLen ∈ tT := tm 168 rfl rfl
abbrev b_D_length : ByteArray := prog_1_method_21_code
abbrev y_D_length : MethodName := ⟨"DigestDesk", "length", "()J"⟩
abbrev k_D_length : Cond := .code y_D_length b_D_length 1 (some .long)
theorem cd_D_length : k_D_length ∈ tT := tm 172 rfl rfl
abbrev b_L_cell : ByteArray := method_2_code
abbrev y_L_cell : MethodName := ⟨"DigestDeskLaw", "cell", "([II)I"⟩
abbrev k_L_cell : Cond := .code y_L_cell b_L_cell 2 (some .int)
theorem cd_L_cell : k_L_cell ∈ tT := tm 176 rfl rfl
abbrev b_M_new : ByteArray := prog_3_method_1_code
abbrev y_M_new : MethodName := ⟨"DigestDeskModel", "<init>", "(I)V"⟩
abbrev k_M_new : Cond := .code y_M_new b_M_new 3 none
theorem cd_M_new : k_M_new ∈ tT := tm 181 rfl rfl
abbrev b_M_sine : ByteArray := prog_3_method_3_code
abbrev y_M_sine : MethodName := ⟨"DigestDeskModel", "sine", "(I)D"⟩
abbrev k_M_sine : Cond := .code y_M_sine b_M_sine 9 (some .double)
theorem cd_M_sine : k_M_sine ∈ tT := tm 185 rfl rfl
abbrev b_M_size : ByteArray := prog_3_method_2_code
abbrev y_M_size : MethodName := ⟨"DigestDeskModel", "size", "(D)D"⟩
abbrev k_M_size : Cond := .code y_M_size b_M_size 2 (some .double)
theorem cd_M_size : k_M_size ∈ tT := tm 191 rfl rfl
abbrev b_M_root : ByteArray := prog_3_method_4_code
abbrev y_M_root : MethodName := ⟨"DigestDeskModel", "root", "(J)I"⟩
abbrev k_M_root : Cond := .code y_M_root b_M_root 9 (some .int)
theorem cd_M_root : k_M_root ∈ tT := tm 196 rfl rfl
abbrev b_M_init : ByteArray := prog_3_method_13_code
abbrev y_M_init : MethodName := ⟨"DigestDeskModel", "init", "()V"⟩
abbrev k_M_init : Cond := .code y_M_init b_M_init 1 none
theorem cd_M_init : k_M_init ∈ tT := tm 259 rfl rfl
abbrev b_M_start : ByteArray := prog_3_method_14_code
abbrev y_M_start : MethodName := ⟨"DigestDeskModel", "start", "(I)Z"⟩
abbrev k_M_start : Cond := .code y_M_start b_M_start 2 (some .boolean)
theorem cd_M_start : k_M_start ∈ tT := tm 263 rfl rfl
abbrev b_M_begin : ByteArray := prog_3_method_6_code
abbrev y_M_begin : MethodName := ⟨"DigestDeskModel", "begin", "(I)V"⟩
abbrev k_M_begin : Cond := .code y_M_begin b_M_begin 2 none
theorem cd_M_begin : k_M_begin ∈ tT := tm 267 rfl rfl
abbrev b_M_keyByte : ByteArray := prog_3_method_15_code
abbrev y_M_keyByte : MethodName := ⟨"DigestDeskModel", "keyByte", "(I)Z"⟩
abbrev k_M_keyByte : Cond := .code y_M_keyByte b_M_keyByte 2 (some .boolean)
theorem cd_M_keyByte : k_M_keyByte ∈ tT := tm 276 rfl rfl
abbrev b_M_startMac : ByteArray := prog_3_method_16_code
abbrev y_M_startMac : MethodName := ⟨"DigestDeskModel", "startMac", "(I)Z"⟩
abbrev k_M_startMac : Cond := .code y_M_startMac b_M_startMac 4 (some .boolean)
theorem cd_M_startMac : k_M_startMac ∈ tT := tm 280 rfl rfl
abbrev b_M_add : ByteArray := prog_3_method_7_code
abbrev y_M_add : MethodName := ⟨"DigestDeskModel", "add", "(I)V"⟩
abbrev k_M_add : Cond := .code y_M_add b_M_add 3 none
theorem cd_M_add : k_M_add ∈ tT := tm 285 rfl rfl
abbrev b_M_five : ByteArray := prog_3_method_9_code
abbrev y_M_five : MethodName := ⟨"DigestDeskModel", "five", "()V"⟩
abbrev k_M_five : Cond := .code y_M_five b_M_five 10 none
theorem cd_M_five : k_M_five ∈ tT := tm 290 rfl rfl
abbrev b_M_turned : ByteArray := prog_3_method_8_code
abbrev y_M_turned : MethodName := ⟨"DigestDeskModel", "turned", "(I)I"⟩
abbrev k_M_turned : Cond := .code y_M_turned b_M_turned 3 (some .int)
theorem cd_M_turned : k_M_turned ∈ tT := tm 293 rfl rfl
abbrev b_M_left : ByteArray := prog_3_method_5_code
abbrev y_M_left : MethodName := ⟨"DigestDeskModel", "left", "(II)I"⟩
abbrev k_M_left : Cond := .code y_M_left b_M_left 2 (some .int)
theorem cd_M_left : k_M_left ∈ tT := tm 296 rfl rfl
abbrev b_M_one : ByteArray := prog_3_method_10_code
abbrev y_M_one : MethodName := ⟨"DigestDeskModel", "one", "()V"⟩
abbrev k_M_one : Cond := .code y_M_one b_M_one 10 none
theorem cd_M_one : k_M_one ∈ tT := tm 300 rfl rfl
abbrev b_M_end : ByteArray := prog_3_method_12_code
abbrev y_M_end : MethodName := ⟨"DigestDeskModel", "end", "()V"⟩
abbrev k_M_end : Cond := .code y_M_end b_M_end 4 none
theorem cd_M_end : k_M_end ∈ tT := tm 304 rfl rfl
abbrev b_M_width : ByteArray := prog_3_method_11_code
abbrev y_M_width : MethodName := ⟨"DigestDeskModel", "width", "()I"⟩
abbrev k_M_width : Cond := .code y_M_width b_M_width 1 (some .int)
theorem cd_M_width : k_M_width ∈ tT := tm 311 rfl rfl
abbrev b_M_update : ByteArray := prog_3_method_17_code
abbrev y_M_update : MethodName := ⟨"DigestDeskModel", "update", "(I)Z"⟩
abbrev k_M_update : Cond := .code y_M_update b_M_update 2 (some .boolean)
theorem cd_M_update : k_M_update ∈ tT := tm 315 rfl rfl
abbrev b_M_pour : ByteArray := prog_3_method_18_code
abbrev y_M_pour : MethodName := ⟨"DigestDeskModel", "pour", "(IIIII)Z"⟩
abbrev k_M_pour : Cond := .code y_M_pour b_M_pour 9 (some .boolean)
theorem cd_M_pour : k_M_pour ∈ tT := tm 319 rfl rfl
abbrev b_M_finish : ByteArray := prog_3_method_19_code
abbrev y_M_finish : MethodName := ⟨"DigestDeskModel", "finish", "()Z"⟩
abbrev k_M_finish : Cond := .code y_M_finish b_M_finish 2 (some .boolean)
theorem cd_M_finish : k_M_finish ∈ tT := tm 323 rfl rfl
abbrev b_M_out : ByteArray := prog_3_method_20_code
abbrev y_M_out : MethodName := ⟨"DigestDeskModel", "out", "(I)I"⟩
abbrev k_M_out : Cond := .code y_M_out b_M_out 2 (some .int)
theorem cd_M_out : k_M_out ∈ tT := tm 327 rfl rfl
abbrev b_M_outLen : ByteArray := prog_3_method_21_code
abbrev y_M_outLen : MethodName := ⟨"DigestDeskModel", "outLen", "()I"⟩
abbrev k_M_outLen : Cond := .code y_M_outLen b_M_outLen 1 (some .int)
theorem cd_M_outLen : k_M_outLen ∈ tT := tm 331 rfl rfl
abbrev b_M_keyLen : ByteArray := prog_3_method_22_code
abbrev y_M_keyLen : MethodName := ⟨"DigestDeskModel", "keyLen", "()I"⟩
abbrev k_M_keyLen : Cond := .code y_M_keyLen b_M_keyLen 1 (some .int)
theorem cd_M_keyLen : k_M_keyLen ∈ tT := tm 335 rfl rfl
abbrev b_M_length : ByteArray := prog_3_method_23_code
abbrev y_M_length : MethodName := ⟨"DigestDeskModel", "length", "()J"⟩
abbrev k_M_length : Cond := .code y_M_length b_M_length 1 (some .long)
theorem cd_M_length : k_M_length ∈ tT := tm 339 rfl rfl
abbrev y_S_arraycopy : MethodName := ⟨"java/lang/System", "arraycopy", "(Ljava/lang/Object;ILjava/lang/Object;II)V"⟩
theorem sel_D_mayStart : Cond.selects "DigestDesk" y_D_mayStart y_D_mayStart ∈ tT := tm 0 rfl rfl
theorem sel_D_begin : Cond.selects "DigestDesk" y_D_begin y_D_begin ∈ tT := tm 1 rfl rfl
theorem sel_D_fill : Cond.selects "DigestDesk" y_D_fill y_D_fill ∈ tT := tm 2 rfl rfl
theorem sel_D_put : Cond.selects "DigestDesk" y_D_put y_D_put ∈ tT := tm 3 rfl rfl
theorem sel_D_mixFour : Cond.selects "DigestDesk" y_D_mixFour y_D_mixFour ∈ tT := tm 4 rfl rfl
theorem sel_D_mixFive : Cond.selects "DigestDesk" y_D_mixFive y_D_mixFive ∈ tT := tm 5 rfl rfl
theorem sel_D_end : Cond.selects "DigestDesk" y_D_end y_D_end ∈ tT := tm 6 rfl rfl
theorem sel_M_begin : Cond.selects "DigestDeskModel" y_M_begin y_M_begin ∈ tT := tm 7 rfl rfl
theorem sel_M_add : Cond.selects "DigestDeskModel" y_M_add y_M_add ∈ tT := tm 8 rfl rfl
theorem sel_M_five : Cond.selects "DigestDeskModel" y_M_five y_M_five ∈ tT := tm 9 rfl rfl
theorem sel_M_one : Cond.selects "DigestDeskModel" y_M_one y_M_one ∈ tT := tm 10 rfl rfl
theorem sel_M_end : Cond.selects "DigestDeskModel" y_M_end y_M_end ∈ tT := tm 11 rfl rfl
theorem sel_M_width : Cond.selects "DigestDeskModel" y_M_width y_M_width ∈ tT := tm 12 rfl rfl
theorem in_L : Cond.initialized "DigestDeskLaw" ∈ tT := tm 13 rfl rfl
theorem in_D : Cond.initialized "DigestDesk" ∈ tT := tm 14 rfl rfl
theorem in_H : Cond.initialized "java/lang/Math" ∈ tT := tm 15 rfl rfl
theorem in_M : Cond.initialized "DigestDeskModel" ∈ tT := tm 16 rfl rfl
theorem in_S : Cond.initialized "java/lang/System" ∈ tT := tm 17 rfl rfl
theorem in_J : Cond.initialized "java/lang/Integer" ∈ tT := tm 18 rfl rfl
theorem cl_L_7 : Cond.classLink "DigestDeskLaw" 7 "DigestDesk" ∈ tT := tm 19 rfl rfl
theorem it_D : Cond.instantiable "DigestDesk" 14 ∈ tT := tm 20 rfl rfl
theorem ml_L_15 : Cond.methodLink "DigestDeskLaw" 15 y_D_new ∈ tT := tm 21 rfl rfl
theorem im_D_new : Cond.instanceMethod y_D_new ∈ tT := tm 22 rfl rfl
theorem ml_D_1 : Cond.methodLink "DigestDesk" 1 y_O_new ∈ tT := tm 24 rfl rfl
theorem im_O_new : Cond.instanceMethod y_O_new ∈ tT := tm 25 rfl rfl
theorem ml_D_26 : Cond.methodLink "DigestDesk" 26 y_H_min ∈ tT := tm 27 rfl rfl
theorem sm_H_min : Cond.static y_H_min ∈ tT := tm 28 rfl rfl
theorem ml_D_32 : Cond.methodLink "DigestDesk" 32 y_H_max ∈ tT := tm 30 rfl rfl
theorem sm_H_max : Cond.static y_H_max ∈ tT := tm 31 rfl rfl
theorem fl_D_35 : Cond.fieldLink "DigestDesk" 35 "DigestDesk" "limit" "I" ∈ tT := tm 33 rfl rfl
theorem fl_D_96 : Cond.fieldLink "DigestDesk" 96 "DigestDesk" "isReady" "Z" ∈ tT := tm 34 rfl rfl
theorem fl_D_39 : Cond.fieldLink "DigestDesk" 39 "DigestDesk" "key" "[B" ∈ tT := tm 35 rfl rfl
theorem fl_D_100 : Cond.fieldLink "DigestDesk" 100 "DigestDesk" "keyCount" "I" ∈ tT := tm 36 rfl rfl
theorem fl_D_42 : Cond.fieldLink "DigestDesk" 42 "DigestDesk" "alg" "I" ∈ tT := tm 37 rfl rfl
theorem fl_D_7 : Cond.fieldLink "DigestDesk" 7 "DigestDesk" "state" "[I" ∈ tT := tm 38 rfl rfl
theorem fl_D_13 : Cond.fieldLink "DigestDesk" 13 "DigestDesk" "buffer" "[B" ∈ tT := tm 39 rfl rfl
theorem fl_D_17 : Cond.fieldLink "DigestDesk" 17 "DigestDesk" "words" "[I" ∈ tT := tm 40 rfl rfl
theorem fl_D_45 : Cond.fieldLink "DigestDesk" 45 "DigestDesk" "count" "J" ∈ tT := tm 41 rfl rfl
theorem fl_D_103 : Cond.fieldLink "DigestDesk" 103 "DigestDesk" "isOpen" "Z" ∈ tT := tm 42 rfl rfl
theorem fl_D_116 : Cond.fieldLink "DigestDesk" 116 "DigestDesk" "isMac" "Z" ∈ tT := tm 43 rfl rfl
theorem fl_D_20 : Cond.fieldLink "DigestDesk" 20 "DigestDesk" "filled" "[B" ∈ tT := tm 44 rfl rfl
theorem fl_D_23 : Cond.fieldLink "DigestDesk" 23 "DigestDesk" "result" "[B" ∈ tT := tm 45 rfl rfl
theorem fl_D_106 : Cond.fieldLink "DigestDesk" 106 "DigestDesk" "resultLength" "I" ∈ tT := tm 46 rfl rfl
theorem ac_int : Cond.arrayClass .int ∈ tT := tm 76 rfl rfl
theorem ac_byte : Cond.arrayClass .byte ∈ tT := tm 77 rfl rfl
theorem ml_L_21 : Cond.methodLink "DigestDeskLaw" 21 y_D_init ∈ tT := tm 78 rfl rfl
theorem im_D_init : Cond.instanceMethod y_D_init ∈ tT := tm 79 rfl rfl
theorem sel_D_init : Cond.selects "DigestDesk" y_D_init y_D_init ∈ tT := tm 80 rfl rfl
theorem ml_L_25 : Cond.methodLink "DigestDeskLaw" 25 y_D_start ∈ tT := tm 82 rfl rfl
theorem im_D_start : Cond.instanceMethod y_D_start ∈ tT := tm 83 rfl rfl
theorem sel_D_start : Cond.selects "DigestDesk" y_D_start y_D_start ∈ tT := tm 84 rfl rfl
theorem ml_D_109 : Cond.methodLink "DigestDesk" 109 y_D_mayStart ∈ tT := tm 86 rfl rfl
theorem im_D_mayStart : Cond.instanceMethod y_D_mayStart ∈ tT := tm 88 rfl rfl
theorem ml_D_113 : Cond.methodLink "DigestDesk" 113 y_D_begin ∈ tT := tm 90 rfl rfl
theorem im_D_begin : Cond.instanceMethod y_D_begin ∈ tT := tm 92 rfl rfl
theorem fl_D_49 : Cond.fieldLink "DigestDesk" 49 "DigestDesk" "START" "[I" ∈ tT := tm 94 rfl rfl
theorem ls_START : Cond.laysStatic "DigestDesk" "START" "[I" ∈ lw_tbl := List.mem_of_getElem? (i := 95) rfl
theorem ml_D_52 : Cond.methodLink "DigestDesk" 52 y_S_arraycopy ∈ tT := tm 96 rfl rfl
theorem sm_S_arraycopy : Cond.static y_S_arraycopy ∈ tT := tm 97 rfl rfl
theorem nm_S_arraycopy : Cond.native y_S_arraycopy ∈ tT := tm 98 rfl rfl
theorem ml_L_30 : Cond.methodLink "DigestDeskLaw" 30 y_D_keyByte ∈ tT := tm 99 rfl rfl
theorem im_D_keyByte : Cond.instanceMethod y_D_keyByte ∈ tT := tm 100 rfl rfl
theorem sel_D_keyByte : Cond.selects "DigestDesk" y_D_keyByte y_D_keyByte ∈ tT := tm 101 rfl rfl
theorem ml_L_34 : Cond.methodLink "DigestDeskLaw" 34 y_D_startMac ∈ tT := tm 103 rfl rfl
theorem im_D_startMac : Cond.instanceMethod y_D_startMac ∈ tT := tm 104 rfl rfl
theorem sel_D_startMac : Cond.selects "DigestDesk" y_D_startMac y_D_startMac ∈ tT := tm 105 rfl rfl
theorem ml_D_119 : Cond.methodLink "DigestDesk" 119 y_D_fill ∈ tT := tm 107 rfl rfl
theorem im_D_fill : Cond.instanceMethod y_D_fill ∈ tT := tm 109 rfl rfl
theorem ml_D_86 : Cond.methodLink "DigestDesk" 86 y_D_put ∈ tT := tm 111 rfl rfl
theorem im_D_put : Cond.instanceMethod y_D_put ∈ tT := tm 113 rfl rfl
theorem cn_D_58 : Cond.constantLong "DigestDesk" 58 (64 : Int64) ∈ tT := tm 115 rfl rfl
theorem ml_D_60 : Cond.methodLink "DigestDesk" 60 y_D_mixFour ∈ tT := tm 116 rfl rfl
theorem im_D_mixFour : Cond.instanceMethod y_D_mixFour ∈ tT := tm 118 rfl rfl
theorem ml_D_66 : Cond.methodLink "DigestDesk" 66 y_D_choose ∈ tT := tm 120 rfl rfl
theorem sm_D_choose : Cond.static y_D_choose ∈ tT := tm 121 rfl rfl
theorem fl_D_70 : Cond.fieldLink "DigestDesk" 70 "DigestDesk" "SINES" "[I" ∈ tT := tm 123 rfl rfl
theorem ls_SINES : Cond.laysStatic "DigestDesk" "SINES" "[I" ∈ lw_tbl := List.mem_of_getElem? (i := 124) rfl
theorem fl_D_73 : Cond.fieldLink "DigestDesk" 73 "DigestDesk" "TURNS" "[I" ∈ tT := tm 125 rfl rfl
theorem ls_TURNS : Cond.laysStatic "DigestDesk" "TURNS" "[I" ∈ lw_tbl := List.mem_of_getElem? (i := 126) rfl
theorem ml_D_76 : Cond.methodLink "DigestDesk" 76 y_J_rotateLeft ∈ tT := tm 127 rfl rfl
theorem sm_J_rotateLeft : Cond.static y_J_rotateLeft ∈ tT := tm 128 rfl rfl
theorem ml_D_63 : Cond.methodLink "DigestDesk" 63 y_D_mixFive ∈ tT := tm 130 rfl rfl
theorem im_D_mixFive : Cond.instanceMethod y_D_mixFive ∈ tT := tm 132 rfl rfl
theorem fl_D_81 : Cond.fieldLink "DigestDesk" 81 "DigestDesk" "ADDED" "[I" ∈ tT := tm 134 rfl rfl
theorem ls_ADDED : Cond.laysStatic "DigestDesk" "ADDED" "[I" ∈ lw_tbl := List.mem_of_getElem? (i := 135) rfl
theorem ml_D_122 : Cond.methodLink "DigestDesk" 122 y_D_end ∈ tT := tm 136 rfl rfl
theorem im_D_end : Cond.instanceMethod y_D_end ∈ tT := tm 138 rfl rfl
theorem cn_D_84 : Cond.constantLong "DigestDesk" 84 (8 : Int64) ∈ tT := tm 140 rfl rfl
theorem cn_D_90 : Cond.constantLong "DigestDesk" 90 (56 : Int64) ∈ tT := tm 141 rfl rfl
theorem ml_D_92 : Cond.methodLink "DigestDesk" 92 y_D_lengthOf ∈ tT := tm 142 rfl rfl
theorem sm_D_lengthOf : Cond.static y_D_lengthOf ∈ tT := tm 143 rfl rfl
theorem ml_L_38 : Cond.methodLink "DigestDeskLaw" 38 y_D_update ∈ tT := tm 145 rfl rfl
theorem im_D_update : Cond.instanceMethod y_D_update ∈ tT := tm 146 rfl rfl
theorem sel_D_update : Cond.selects "DigestDesk" y_D_update y_D_update ∈ tT := tm 147 rfl rfl
theorem ml_L_42 : Cond.methodLink "DigestDeskLaw" 42 y_D_pour ∈ tT := tm 149 rfl rfl
theorem im_D_pour : Cond.instanceMethod y_D_pour ∈ tT := tm 150 rfl rfl
theorem sel_D_pour : Cond.selects "DigestDesk" y_D_pour y_D_pour ∈ tT := tm 151 rfl rfl
theorem ml_L_47 : Cond.methodLink "DigestDeskLaw" 47 y_D_finish ∈ tT := tm 153 rfl rfl
theorem im_D_finish : Cond.instanceMethod y_D_finish ∈ tT := tm 154 rfl rfl
theorem sel_D_finish : Cond.selects "DigestDesk" y_D_finish y_D_finish ∈ tT := tm 155 rfl rfl
theorem ml_L_52 : Cond.methodLink "DigestDeskLaw" 52 y_D_out ∈ tT := tm 157 rfl rfl
theorem im_D_out : Cond.instanceMethod y_D_out ∈ tT := tm 158 rfl rfl
theorem sel_D_out : Cond.selects "DigestDesk" y_D_out y_D_out ∈ tT := tm 159 rfl rfl
theorem ml_L_57 : Cond.methodLink "DigestDeskLaw" 57 y_D_outLen ∈ tT := tm 161 rfl rfl
theorem im_D_outLen : Cond.instanceMethod y_D_outLen ∈ tT := tm 162 rfl rfl
theorem sel_D_outLen : Cond.selects "DigestDesk" y_D_outLen y_D_outLen ∈ tT := tm 163 rfl rfl
theorem ml_L_62 : Cond.methodLink "DigestDeskLaw" 62 y_D_keyLen ∈ tT := tm 165 rfl rfl
theorem im_D_keyLen : Cond.instanceMethod y_D_keyLen ∈ tT := tm 166 rfl rfl
theorem sel_D_keyLen : Cond.selects "DigestDesk" y_D_keyLen y_D_keyLen ∈ tT := tm 167 rfl rfl
theorem ml_L_66 : Cond.methodLink "DigestDeskLaw" 66 y_D_length ∈ tT := tm 169 rfl rfl
theorem im_D_length : Cond.instanceMethod y_D_length ∈ tT := tm 170 rfl rfl
theorem sel_D_length : Cond.selects "DigestDesk" y_D_length y_D_length ∈ tT := tm 171 rfl rfl
theorem cn_D_125 : Cond.constantLong "DigestDesk" 125 (-1 : Int64) ∈ tT := tm 173 rfl rfl
theorem ml_L_9 : Cond.methodLink "DigestDeskLaw" 9 y_L_cell ∈ tT := tm 174 rfl rfl
theorem sm_L_cell : Cond.static y_L_cell ∈ tT := tm 175 rfl rfl
theorem cl_L_18 : Cond.classLink "DigestDeskLaw" 18 "DigestDeskModel" ∈ tT := tm 177 rfl rfl
theorem it_M : Cond.instantiable "DigestDeskModel" 18 ∈ tT := tm 178 rfl rfl
theorem ml_L_20 : Cond.methodLink "DigestDeskLaw" 20 y_M_new ∈ tT := tm 179 rfl rfl
theorem im_M_new : Cond.instanceMethod y_M_new ∈ tT := tm 180 rfl rfl
theorem ml_M_1 : Cond.methodLink "DigestDeskModel" 1 y_O_new ∈ tT := tm 182 rfl rfl
theorem ml_M_44 : Cond.methodLink "DigestDeskModel" 44 y_M_sine ∈ tT := tm 183 rfl rfl
theorem sm_M_sine : Cond.static y_M_sine ∈ tT := tm 184 rfl rfl
theorem cn_M_66 : Cond.constantDouble "DigestDeskModel" 66 (4618760256179416344 : UInt64) ∈ tT := tm 186 rfl rfl
theorem cn_M_68 : Cond.constantDouble "DigestDeskModel" 68 (4602678819172646912 : UInt64) ∈ tT := tm 187 rfl rfl
theorem cn_M_70 : Cond.constantDouble "DigestDeskModel" 70 (4373459396149402631 : UInt64) ∈ tT := tm 188 rfl rfl
theorem ml_M_48 : Cond.methodLink "DigestDeskModel" 48 y_M_size ∈ tT := tm 189 rfl rfl
theorem sm_M_size : Cond.static y_M_size ∈ tT := tm 190 rfl rfl
theorem cn_M_52 : Cond.constantDouble "DigestDeskModel" 52 (4751297606875873280 : UInt64) ∈ tT := tm 192 rfl rfl
theorem cn_M_54 : Cond.constantLong "DigestDeskModel" 54 (2 : Int64) ∈ tT := tm 193 rfl rfl
theorem ml_M_56 : Cond.methodLink "DigestDeskModel" 56 y_M_root ∈ tT := tm 194 rfl rfl
theorem sm_M_root : Cond.static y_M_root ∈ tT := tm 195 rfl rfl
theorem cn_M_72 : Cond.constantLong "DigestDeskModel" 72 (-9223372036854775808 : Int64) ∈ tT := tm 197 rfl rfl
theorem cn_M_60 : Cond.constantLong "DigestDeskModel" 60 (3 : Int64) ∈ tT := tm 198 rfl rfl
theorem cn_M_62 : Cond.constantLong "DigestDeskModel" 62 (5 : Int64) ∈ tT := tm 199 rfl rfl
theorem cn_M_64 : Cond.constantLong "DigestDeskModel" 64 (10 : Int64) ∈ tT := tm 200 rfl rfl
theorem fl_M_41 : Cond.fieldLink "DigestDeskModel" 41 "DigestDeskModel" "limit" "I" ∈ tT := tm 201 rfl rfl
theorem fl_M_116 : Cond.fieldLink "DigestDeskModel" 116 "DigestDeskModel" "ready" "Z" ∈ tT := tm 202 rfl rfl
theorem fl_M_7 : Cond.fieldLink "DigestDeskModel" 7 "DigestDeskModel" "key" "[I" ∈ tT := tm 203 rfl rfl
theorem fl_M_120 : Cond.fieldLink "DigestDeskModel" 120 "DigestDeskModel" "keys" "I" ∈ tT := tm 204 rfl rfl
theorem fl_M_13 : Cond.fieldLink "DigestDeskModel" 13 "DigestDeskModel" "open" "I" ∈ tT := tm 205 rfl rfl
theorem fl_M_126 : Cond.fieldLink "DigestDeskModel" 126 "DigestDeskModel" "mac" "Z" ∈ tT := tm 206 rfl rfl
theorem fl_M_129 : Cond.fieldLink "DigestDeskModel" 129 "DigestDeskModel" "bytes" "J" ∈ tT := tm 207 rfl rfl
theorem fl_M_17 : Cond.fieldLink "DigestDeskModel" 17 "DigestDeskModel" "padded" "[I" ∈ tT := tm 208 rfl rfl
theorem fl_M_74 : Cond.fieldLink "DigestDeskModel" 74 "DigestDeskModel" "hash" "I" ∈ tT := tm 209 rfl rfl
theorem fl_M_20 : Cond.fieldLink "DigestDeskModel" 20 "DigestDeskModel" "h" "[I" ∈ tT := tm 210 rfl rfl
theorem fl_M_23 : Cond.fieldLink "DigestDeskModel" 23 "DigestDeskModel" "block" "[I" ∈ tT := tm 211 rfl rfl
theorem fl_M_82 : Cond.fieldLink "DigestDeskModel" 82 "DigestDeskModel" "came" "J" ∈ tT := tm 212 rfl rfl
theorem fl_M_26 : Cond.fieldLink "DigestDeskModel" 26 "DigestDeskModel" "w" "[I" ∈ tT := tm 213 rfl rfl
theorem fl_M_29 : Cond.fieldLink "DigestDeskModel" 29 "DigestDeskModel" "sines" "[I" ∈ tT := tm 214 rfl rfl
theorem fl_M_32 : Cond.fieldLink "DigestDeskModel" 32 "DigestDeskModel" "roots" "[I" ∈ tT := tm 215 rfl rfl
theorem fl_M_35 : Cond.fieldLink "DigestDeskModel" 35 "DigestDeskModel" "digest" "[I" ∈ tT := tm 216 rfl rfl
theorem fl_M_38 : Cond.fieldLink "DigestDeskModel" 38 "DigestDeskModel" "result" "[I" ∈ tT := tm 217 rfl rfl
theorem fl_M_123 : Cond.fieldLink "DigestDeskModel" 123 "DigestDeskModel" "results" "I" ∈ tT := tm 218 rfl rfl
theorem ml_L_24 : Cond.methodLink "DigestDeskLaw" 24 y_M_init ∈ tT := tm 256 rfl rfl
theorem im_M_init : Cond.instanceMethod y_M_init ∈ tT := tm 257 rfl rfl
theorem sel_M_init : Cond.selects "DigestDeskModel" y_M_init y_M_init ∈ tT := tm 258 rfl rfl
theorem ml_L_29 : Cond.methodLink "DigestDeskLaw" 29 y_M_start ∈ tT := tm 260 rfl rfl
theorem im_M_start : Cond.instanceMethod y_M_start ∈ tT := tm 261 rfl rfl
theorem sel_M_start : Cond.selects "DigestDeskModel" y_M_start y_M_start ∈ tT := tm 262 rfl rfl
theorem ml_M_132 : Cond.methodLink "DigestDeskModel" 132 y_M_begin ∈ tT := tm 264 rfl rfl
theorem im_M_begin : Cond.instanceMethod y_M_begin ∈ tT := tm 266 rfl rfl
theorem cn_M_77 : Cond.constant "DigestDeskModel" 77 (1732584193 : Int32) ∈ tT := tm 268 rfl rfl
theorem cn_M_78 : Cond.constant "DigestDeskModel" 78 (-271733879 : Int32) ∈ tT := tm 269 rfl rfl
theorem cn_M_79 : Cond.constant "DigestDeskModel" 79 (-1732584194 : Int32) ∈ tT := tm 270 rfl rfl
theorem cn_M_80 : Cond.constant "DigestDeskModel" 80 (271733878 : Int32) ∈ tT := tm 271 rfl rfl
theorem cn_M_81 : Cond.constant "DigestDeskModel" 81 (-1009589776 : Int32) ∈ tT := tm 272 rfl rfl
theorem ml_L_33 : Cond.methodLink "DigestDeskLaw" 33 y_M_keyByte ∈ tT := tm 273 rfl rfl
theorem im_M_keyByte : Cond.instanceMethod y_M_keyByte ∈ tT := tm 274 rfl rfl
theorem sel_M_keyByte : Cond.selects "DigestDeskModel" y_M_keyByte y_M_keyByte ∈ tT := tm 275 rfl rfl
theorem ml_L_37 : Cond.methodLink "DigestDeskLaw" 37 y_M_startMac ∈ tT := tm 277 rfl rfl
theorem im_M_startMac : Cond.instanceMethod y_M_startMac ∈ tT := tm 278 rfl rfl
theorem sel_M_startMac : Cond.selects "DigestDeskModel" y_M_startMac y_M_startMac ∈ tT := tm 279 rfl rfl
theorem ml_M_135 : Cond.methodLink "DigestDeskModel" 135 y_M_start ∈ tT := tm 281 rfl rfl
theorem ml_M_104 : Cond.methodLink "DigestDeskModel" 104 y_M_add ∈ tT := tm 282 rfl rfl
theorem im_M_add : Cond.instanceMethod y_M_add ∈ tT := tm 284 rfl rfl
theorem cn_M_86 : Cond.constantLong "DigestDeskModel" 86 (64 : Int64) ∈ tT := tm 286 rfl rfl
theorem ml_M_88 : Cond.methodLink "DigestDeskModel" 88 y_M_five ∈ tT := tm 287 rfl rfl
theorem im_M_five : Cond.instanceMethod y_M_five ∈ tT := tm 289 rfl rfl
theorem ml_M_94 : Cond.methodLink "DigestDeskModel" 94 y_M_turned ∈ tT := tm 291 rfl rfl
theorem sm_M_turned : Cond.static y_M_turned ∈ tT := tm 292 rfl rfl
theorem ml_M_98 : Cond.methodLink "DigestDeskModel" 98 y_M_left ∈ tT := tm 294 rfl rfl
theorem sm_M_left : Cond.static y_M_left ∈ tT := tm 295 rfl rfl
theorem ml_M_91 : Cond.methodLink "DigestDeskModel" 91 y_M_one ∈ tT := tm 297 rfl rfl
theorem im_M_one : Cond.instanceMethod y_M_one ∈ tT := tm 299 rfl rfl
theorem ml_M_139 : Cond.methodLink "DigestDeskModel" 139 y_M_end ∈ tT := tm 301 rfl rfl
theorem im_M_end : Cond.instanceMethod y_M_end ∈ tT := tm 303 rfl rfl
theorem cn_M_102 : Cond.constantLong "DigestDeskModel" 102 (8 : Int64) ∈ tT := tm 305 rfl rfl
theorem cn_M_108 : Cond.constantLong "DigestDeskModel" 108 (56 : Int64) ∈ tT := tm 306 rfl rfl
theorem cn_M_110 : Cond.constantLong "DigestDeskModel" 110 (255 : Int64) ∈ tT := tm 307 rfl rfl
theorem ml_M_112 : Cond.methodLink "DigestDeskModel" 112 y_M_width ∈ tT := tm 308 rfl rfl
theorem im_M_width : Cond.instanceMethod y_M_width ∈ tT := tm 310 rfl rfl
theorem ml_L_41 : Cond.methodLink "DigestDeskLaw" 41 y_M_update ∈ tT := tm 312 rfl rfl
theorem im_M_update : Cond.instanceMethod y_M_update ∈ tT := tm 313 rfl rfl
theorem sel_M_update : Cond.selects "DigestDeskModel" y_M_update y_M_update ∈ tT := tm 314 rfl rfl
theorem ml_L_46 : Cond.methodLink "DigestDeskLaw" 46 y_M_pour ∈ tT := tm 316 rfl rfl
theorem im_M_pour : Cond.instanceMethod y_M_pour ∈ tT := tm 317 rfl rfl
theorem sel_M_pour : Cond.selects "DigestDeskModel" y_M_pour y_M_pour ∈ tT := tm 318 rfl rfl
theorem ml_L_51 : Cond.methodLink "DigestDeskLaw" 51 y_M_finish ∈ tT := tm 320 rfl rfl
theorem im_M_finish : Cond.instanceMethod y_M_finish ∈ tT := tm 321 rfl rfl
theorem sel_M_finish : Cond.selects "DigestDeskModel" y_M_finish y_M_finish ∈ tT := tm 322 rfl rfl
theorem ml_L_56 : Cond.methodLink "DigestDeskLaw" 56 y_M_out ∈ tT := tm 324 rfl rfl
theorem im_M_out : Cond.instanceMethod y_M_out ∈ tT := tm 325 rfl rfl
theorem sel_M_out : Cond.selects "DigestDeskModel" y_M_out y_M_out ∈ tT := tm 326 rfl rfl
theorem ml_L_61 : Cond.methodLink "DigestDeskLaw" 61 y_M_outLen ∈ tT := tm 328 rfl rfl
theorem im_M_outLen : Cond.instanceMethod y_M_outLen ∈ tT := tm 329 rfl rfl
theorem sel_M_outLen : Cond.selects "DigestDeskModel" y_M_outLen y_M_outLen ∈ tT := tm 330 rfl rfl
theorem ml_L_65 : Cond.methodLink "DigestDeskLaw" 65 y_M_keyLen ∈ tT := tm 332 rfl rfl
theorem im_M_keyLen : Cond.instanceMethod y_M_keyLen ∈ tT := tm 333 rfl rfl
theorem sel_M_keyLen : Cond.selects "DigestDeskModel" y_M_keyLen y_M_keyLen ∈ tT := tm 334 rfl rfl
theorem ml_L_70 : Cond.methodLink "DigestDeskLaw" 70 y_M_length ∈ tT := tm 336 rfl rfl
theorem im_M_length : Cond.instanceMethod y_M_length ∈ tT := tm 337 rfl rfl
theorem sel_M_length : Cond.selects "DigestDeskModel" y_M_length y_M_length ∈ tT := tm 338 rfl rfl
theorem cn_M_142 : Cond.constantLong "DigestDeskModel" 142 (-1 : Int64) ∈ tT := tm 340 rfl rfl
end
section
theorem d_D_new_0 : decode b_D_new 0 = .ok (.aload_n 0, 1) := by decide +kernel
theorem d_D_new_1 : decode b_D_new 1 = .ok (.invokespecial 1, 3) := by decide +kernel
theorem d_D_new_4 : decode b_D_new 4 = .ok (.aload_n 0, 1) := by decide +kernel
theorem d_D_new_5 : decode b_D_new 5 = .ok (.iconst 5, 1) := by decide +kernel
theorem d_D_new_6 : decode b_D_new 6 = .ok (.newarray .int, 2) := by decide +kernel
theorem d_D_new_8 : decode b_D_new 8 = .ok (.putfield 7, 3) := by decide +kernel
theorem d_D_new_11 : decode b_D_new 11 = .ok (.aload_n 0, 1) := by decide +kernel
theorem d_D_new_12 : decode b_D_new 12 = .ok (.bipush 64, 2) := by decide +kernel
theorem d_D_new_14 : decode b_D_new 14 = .ok (.newarray .byte, 2) := by decide +kernel
theorem d_D_new_16 : decode b_D_new 16 = .ok (.putfield 13, 3) := by decide +kernel
theorem d_D_new_19 : decode b_D_new 19 = .ok (.aload_n 0, 1) := by decide +kernel
theorem d_D_new_20 : decode b_D_new 20 = .ok (.bipush 80, 2) := by decide +kernel
theorem d_D_new_22 : decode b_D_new 22 = .ok (.newarray .int, 2) := by decide +kernel
theorem d_D_new_24 : decode b_D_new 24 = .ok (.putfield 17, 3) := by decide +kernel
theorem d_D_new_27 : decode b_D_new 27 = .ok (.aload_n 0, 1) := by decide +kernel
theorem d_D_new_28 : decode b_D_new 28 = .ok (.bipush 64, 2) := by decide +kernel
theorem d_D_new_30 : decode b_D_new 30 = .ok (.newarray .byte, 2) := by decide +kernel
theorem d_D_new_32 : decode b_D_new 32 = .ok (.putfield 20, 3) := by decide +kernel
theorem d_D_new_35 : decode b_D_new 35 = .ok (.aload_n 0, 1) := by decide +kernel
theorem d_D_new_36 : decode b_D_new 36 = .ok (.bipush 20, 2) := by decide +kernel
theorem d_D_new_38 : decode b_D_new 38 = .ok (.newarray .byte, 2) := by decide +kernel
theorem d_D_new_40 : decode b_D_new 40 = .ok (.putfield 23, 3) := by decide +kernel
theorem d_D_new_43 : decode b_D_new 43 = .ok (.aload_n 0, 1) := by decide +kernel
theorem d_D_new_44 : decode b_D_new 44 = .ok (.iconst 0, 1) := by decide +kernel
theorem d_D_new_45 : decode b_D_new 45 = .ok (.sipush 300, 3) := by decide +kernel
theorem d_D_new_48 : decode b_D_new 48 = .ok (.iload_n 1, 1) := by decide +kernel
theorem d_D_new_49 : decode b_D_new 49 = .ok (.invokestatic 26, 3) := by decide +kernel
theorem d_D_new_52 : decode b_D_new 52 = .ok (.invokestatic 32, 3) := by decide +kernel
theorem d_D_new_55 : decode b_D_new 55 = .ok (.putfield 35, 3) := by decide +kernel
theorem d_D_new_58 : decode b_D_new 58 = .ok (.aload_n 0, 1) := by decide +kernel
theorem d_D_new_59 : decode b_D_new 59 = .ok (.aload_n 0, 1) := by decide +kernel
theorem d_D_new_60 : decode b_D_new 60 = .ok (.getfield 35, 3) := by decide +kernel
theorem d_D_new_63 : decode b_D_new 63 = .ok (.newarray .byte, 2) := by decide +kernel
theorem d_D_new_65 : decode b_D_new 65 = .ok (.putfield 39, 3) := by decide +kernel
theorem d_D_new_68 : decode b_D_new 68 = .ok (.return_, 1) := by decide +kernel
theorem d_D_begin_0 : decode b_D_begin 0 = .ok (.aload_n 0, 1) := by decide +kernel
theorem d_D_begin_1 : decode b_D_begin 1 = .ok (.iload_n 1, 1) := by decide +kernel
theorem d_D_begin_2 : decode b_D_begin 2 = .ok (.putfield 42, 3) := by decide +kernel
theorem d_D_begin_5 : decode b_D_begin 5 = .ok (.aload_n 0, 1) := by decide +kernel
theorem d_D_begin_6 : decode b_D_begin 6 = .ok (.lconst 0, 1) := by decide +kernel
theorem d_D_begin_7 : decode b_D_begin 7 = .ok (.putfield 45, 3) := by decide +kernel
theorem d_D_begin_10 : decode b_D_begin 10 = .ok (.getstatic 49, 3) := by decide +kernel
theorem d_D_begin_13 : decode b_D_begin 13 = .ok (.iconst 0, 1) := by decide +kernel
theorem d_D_begin_14 : decode b_D_begin 14 = .ok (.aload_n 0, 1) := by decide +kernel
theorem d_D_begin_15 : decode b_D_begin 15 = .ok (.getfield 7, 3) := by decide +kernel
theorem d_D_begin_18 : decode b_D_begin 18 = .ok (.iconst 0, 1) := by decide +kernel
theorem d_D_begin_19 : decode b_D_begin 19 = .ok (.iconst 5, 1) := by decide +kernel
theorem d_D_begin_20 : decode b_D_begin 20 = .ok (.invokestatic 52, 3) := by decide +kernel
theorem d_D_begin_23 : decode b_D_begin 23 = .ok (.return_, 1) := by decide +kernel
theorem d_D_put_0 : decode b_D_put 0 = .ok (.aload_n 0, 1) := by decide +kernel
theorem d_D_put_1 : decode b_D_put 1 = .ok (.getfield 13, 3) := by decide +kernel
theorem d_D_put_4 : decode b_D_put 4 = .ok (.aload_n 0, 1) := by decide +kernel
theorem d_D_put_5 : decode b_D_put 5 = .ok (.dup, 1) := by decide +kernel
theorem d_D_put_6 : decode b_D_put 6 = .ok (.getfield 45, 3) := by decide +kernel
theorem d_D_put_9 : decode b_D_put 9 = .ok (.dup2_x1, 1) := by decide +kernel
theorem d_D_put_10 : decode b_D_put 10 = .ok (.lconst 1, 1) := by decide +kernel
theorem d_D_put_11 : decode b_D_put 11 = .ok (.ladd, 1) := by decide +kernel
theorem d_D_put_12 : decode b_D_put 12 = .ok (.putfield 45, 3) := by decide +kernel
theorem d_D_put_15 : decode b_D_put 15 = .ok (.ldc2_w 58, 3) := by decide +kernel
theorem d_D_put_18 : decode b_D_put 18 = .ok (.lrem, 1) := by decide +kernel
theorem d_D_put_19 : decode b_D_put 19 = .ok (.l2i, 1) := by decide +kernel
theorem d_D_put_20 : decode b_D_put 20 = .ok (.iload_n 1, 1) := by decide +kernel
theorem d_D_put_21 : decode b_D_put 21 = .ok (.i2b, 1) := by decide +kernel
theorem d_D_put_22 : decode b_D_put 22 = .ok (.bastore, 1) := by decide +kernel
theorem d_D_put_23 : decode b_D_put 23 = .ok (.aload_n 0, 1) := by decide +kernel
theorem d_D_put_24 : decode b_D_put 24 = .ok (.getfield 45, 3) := by decide +kernel
theorem d_D_put_27 : decode b_D_put 27 = .ok (.ldc2_w 58, 3) := by decide +kernel
theorem d_D_put_30 : decode b_D_put 30 = .ok (.lrem, 1) := by decide +kernel
theorem d_D_put_31 : decode b_D_put 31 = .ok (.lconst 0, 1) := by decide +kernel
theorem d_D_put_32 : decode b_D_put 32 = .ok (.lcmp, 1) := by decide +kernel
theorem d_D_put_33 : decode b_D_put 33 = .ok (.ifCond .ne (104), 3) := by decide +kernel
theorem d_D_put_36 : decode b_D_put 36 = .ok (.iconst 0, 1) := by decide +kernel
theorem d_D_put_37 : decode b_D_put 37 = .ok (.istore_n 2, 1) := by decide +kernel
theorem d_D_put_38 : decode b_D_put 38 = .ok (.iload_n 2, 1) := by decide +kernel
theorem d_D_put_39 : decode b_D_put 39 = .ok (.bipush 16, 2) := by decide +kernel
theorem d_D_put_41 : decode b_D_put 41 = .ok (.if_icmp .ge (78), 3) := by decide +kernel
theorem d_D_put_44 : decode b_D_put 44 = .ok (.aload_n 0, 1) := by decide +kernel
theorem d_D_put_45 : decode b_D_put 45 = .ok (.getfield 17, 3) := by decide +kernel
theorem d_D_put_48 : decode b_D_put 48 = .ok (.iload_n 2, 1) := by decide +kernel
theorem d_D_put_49 : decode b_D_put 49 = .ok (.iconst 0, 1) := by decide +kernel
theorem d_D_put_50 : decode b_D_put 50 = .ok (.iastore, 1) := by decide +kernel
theorem d_D_put_51 : decode b_D_put 51 = .ok (.iconst 0, 1) := by decide +kernel
theorem d_D_put_52 : decode b_D_put 52 = .ok (.istore_n 3, 1) := by decide +kernel
theorem d_D_put_53 : decode b_D_put 53 = .ok (.iload_n 3, 1) := by decide +kernel
theorem d_D_put_54 : decode b_D_put 54 = .ok (.iconst 4, 1) := by decide +kernel
theorem d_D_put_55 : decode b_D_put 55 = .ok (.if_icmp .ge (58), 3) := by decide +kernel
theorem d_D_put_58 : decode b_D_put 58 = .ok (.aload_n 0, 1) := by decide +kernel
theorem d_D_put_59 : decode b_D_put 59 = .ok (.getfield 42, 3) := by decide +kernel
theorem d_D_put_62 : decode b_D_put 62 = .ok (.ifCond .ne (10), 3) := by decide +kernel
theorem d_D_put_65 : decode b_D_put 65 = .ok (.bipush 8, 2) := by decide +kernel
theorem d_D_put_67 : decode b_D_put 67 = .ok (.iload_n 3, 1) := by decide +kernel
theorem d_D_put_68 : decode b_D_put 68 = .ok (.imul, 1) := by decide +kernel
theorem d_D_put_69 : decode b_D_put 69 = .ok (.goto (10), 3) := by decide +kernel
theorem d_D_put_72 : decode b_D_put 72 = .ok (.bipush 24, 2) := by decide +kernel
theorem d_D_put_74 : decode b_D_put 74 = .ok (.bipush 8, 2) := by decide +kernel
theorem d_D_put_76 : decode b_D_put 76 = .ok (.iload_n 3, 1) := by decide +kernel
theorem d_D_put_77 : decode b_D_put 77 = .ok (.imul, 1) := by decide +kernel
theorem d_D_put_78 : decode b_D_put 78 = .ok (.isub, 1) := by decide +kernel
theorem d_D_put_79 : decode b_D_put 79 = .ok (.istore 4, 2) := by decide +kernel
theorem d_D_put_81 : decode b_D_put 81 = .ok (.aload_n 0, 1) := by decide +kernel
theorem d_D_put_82 : decode b_D_put 82 = .ok (.getfield 17, 3) := by decide +kernel
theorem d_D_put_85 : decode b_D_put 85 = .ok (.iload_n 2, 1) := by decide +kernel
theorem d_D_put_86 : decode b_D_put 86 = .ok (.dup2, 1) := by decide +kernel
theorem d_D_put_87 : decode b_D_put 87 = .ok (.iaload, 1) := by decide +kernel
theorem d_D_put_88 : decode b_D_put 88 = .ok (.aload_n 0, 1) := by decide +kernel
theorem d_D_put_89 : decode b_D_put 89 = .ok (.getfield 13, 3) := by decide +kernel
theorem d_D_put_92 : decode b_D_put 92 = .ok (.iconst 4, 1) := by decide +kernel
theorem d_D_put_93 : decode b_D_put 93 = .ok (.iload_n 2, 1) := by decide +kernel
theorem d_D_put_94 : decode b_D_put 94 = .ok (.imul, 1) := by decide +kernel
theorem d_D_put_95 : decode b_D_put 95 = .ok (.iload_n 3, 1) := by decide +kernel
theorem d_D_put_96 : decode b_D_put 96 = .ok (.iadd, 1) := by decide +kernel
theorem d_D_put_97 : decode b_D_put 97 = .ok (.baload, 1) := by decide +kernel
theorem d_D_put_98 : decode b_D_put 98 = .ok (.sipush 255, 3) := by decide +kernel
theorem d_D_put_101 : decode b_D_put 101 = .ok (.iand, 1) := by decide +kernel
theorem d_D_put_102 : decode b_D_put 102 = .ok (.iload 4, 2) := by decide +kernel
theorem d_D_put_104 : decode b_D_put 104 = .ok (.ishl, 1) := by decide +kernel
theorem d_D_put_105 : decode b_D_put 105 = .ok (.ior, 1) := by decide +kernel
theorem d_D_put_106 : decode b_D_put 106 = .ok (.iastore, 1) := by decide +kernel
theorem d_D_put_107 : decode b_D_put 107 = .ok (.iinc 3 (1), 3) := by decide +kernel
theorem d_D_put_110 : decode b_D_put 110 = .ok (.goto (-57), 3) := by decide +kernel
theorem d_D_put_113 : decode b_D_put 113 = .ok (.iinc 2 (1), 3) := by decide +kernel
theorem d_D_put_116 : decode b_D_put 116 = .ok (.goto (-78), 3) := by decide +kernel
theorem d_D_put_119 : decode b_D_put 119 = .ok (.aload_n 0, 1) := by decide +kernel
theorem d_D_put_120 : decode b_D_put 120 = .ok (.getfield 42, 3) := by decide +kernel
theorem d_D_put_123 : decode b_D_put 123 = .ok (.ifCond .ne (10), 3) := by decide +kernel
theorem d_D_put_126 : decode b_D_put 126 = .ok (.aload_n 0, 1) := by decide +kernel
theorem d_D_put_127 : decode b_D_put 127 = .ok (.invokevirtual 60, 3) := by decide +kernel
theorem d_D_put_130 : decode b_D_put 130 = .ok (.goto (7), 3) := by decide +kernel
theorem d_D_put_133 : decode b_D_put 133 = .ok (.aload_n 0, 1) := by decide +kernel
theorem d_D_put_134 : decode b_D_put 134 = .ok (.invokevirtual 63, 3) := by decide +kernel
theorem d_D_put_137 : decode b_D_put 137 = .ok (.return_, 1) := by decide +kernel
theorem d_D_choose_0 : decode b_D_choose 0 = .ok (.iload_n 0, 1) := by decide +kernel
theorem d_D_choose_1 : decode b_D_choose 1 = .ok (.iload_n 1, 1) := by decide +kernel
theorem d_D_choose_2 : decode b_D_choose 2 = .ok (.iand, 1) := by decide +kernel
theorem d_D_choose_3 : decode b_D_choose 3 = .ok (.iload_n 0, 1) := by decide +kernel
theorem d_D_choose_4 : decode b_D_choose 4 = .ok (.iconst (-1), 1) := by decide +kernel
theorem d_D_choose_5 : decode b_D_choose 5 = .ok (.ixor, 1) := by decide +kernel
theorem d_D_choose_6 : decode b_D_choose 6 = .ok (.iload_n 2, 1) := by decide +kernel
theorem d_D_choose_7 : decode b_D_choose 7 = .ok (.iand, 1) := by decide +kernel
theorem d_D_choose_8 : decode b_D_choose 8 = .ok (.ior, 1) := by decide +kernel
theorem d_D_choose_9 : decode b_D_choose 9 = .ok (.ireturn, 1) := by decide +kernel
theorem d_D_mixFour_0 : decode b_D_mixFour 0 = .ok (.aload_n 0, 1) := by decide +kernel
theorem d_D_mixFour_1 : decode b_D_mixFour 1 = .ok (.getfield 7, 3) := by decide +kernel
theorem d_D_mixFour_4 : decode b_D_mixFour 4 = .ok (.iconst 0, 1) := by decide +kernel
theorem d_D_mixFour_5 : decode b_D_mixFour 5 = .ok (.iaload, 1) := by decide +kernel
theorem d_D_mixFour_6 : decode b_D_mixFour 6 = .ok (.istore_n 1, 1) := by decide +kernel
theorem d_D_mixFour_7 : decode b_D_mixFour 7 = .ok (.aload_n 0, 1) := by decide +kernel
theorem d_D_mixFour_8 : decode b_D_mixFour 8 = .ok (.getfield 7, 3) := by decide +kernel
theorem d_D_mixFour_11 : decode b_D_mixFour 11 = .ok (.iconst 1, 1) := by decide +kernel
theorem d_D_mixFour_12 : decode b_D_mixFour 12 = .ok (.iaload, 1) := by decide +kernel
theorem d_D_mixFour_13 : decode b_D_mixFour 13 = .ok (.istore_n 2, 1) := by decide +kernel
theorem d_D_mixFour_14 : decode b_D_mixFour 14 = .ok (.aload_n 0, 1) := by decide +kernel
theorem d_D_mixFour_15 : decode b_D_mixFour 15 = .ok (.getfield 7, 3) := by decide +kernel
theorem d_D_mixFour_18 : decode b_D_mixFour 18 = .ok (.iconst 2, 1) := by decide +kernel
theorem d_D_mixFour_19 : decode b_D_mixFour 19 = .ok (.iaload, 1) := by decide +kernel
theorem d_D_mixFour_20 : decode b_D_mixFour 20 = .ok (.istore_n 3, 1) := by decide +kernel
theorem d_D_mixFour_21 : decode b_D_mixFour 21 = .ok (.aload_n 0, 1) := by decide +kernel
theorem d_D_mixFour_22 : decode b_D_mixFour 22 = .ok (.getfield 7, 3) := by decide +kernel
theorem d_D_mixFour_25 : decode b_D_mixFour 25 = .ok (.iconst 3, 1) := by decide +kernel
theorem d_D_mixFour_26 : decode b_D_mixFour 26 = .ok (.iaload, 1) := by decide +kernel
theorem d_D_mixFour_27 : decode b_D_mixFour 27 = .ok (.istore 4, 2) := by decide +kernel
theorem d_D_mixFour_29 : decode b_D_mixFour 29 = .ok (.iconst 0, 1) := by decide +kernel
theorem d_D_mixFour_30 : decode b_D_mixFour 30 = .ok (.istore 5, 2) := by decide +kernel
theorem d_D_mixFour_32 : decode b_D_mixFour 32 = .ok (.iload 5, 2) := by decide +kernel
theorem d_D_mixFour_34 : decode b_D_mixFour 34 = .ok (.bipush 64, 2) := by decide +kernel
theorem d_D_mixFour_36 : decode b_D_mixFour 36 = .ok (.if_icmp .ge (172), 3) := by decide +kernel
theorem d_D_mixFour_39 : decode b_D_mixFour 39 = .ok (.iload 5, 2) := by decide +kernel
theorem d_D_mixFour_41 : decode b_D_mixFour 41 = .ok (.bipush 16, 2) := by decide +kernel
theorem d_D_mixFour_43 : decode b_D_mixFour 43 = .ok (.idiv, 1) := by decide +kernel
theorem d_D_mixFour_44 : decode b_D_mixFour 44 = .ok (.istore 6, 2) := by decide +kernel
theorem d_D_mixFour_46 : decode b_D_mixFour 46 = .ok (.iload 6, 2) := by decide +kernel
theorem d_D_mixFour_48 : decode b_D_mixFour 48 = .ok (.ifCond .ne (13), 3) := by decide +kernel
theorem d_D_mixFour_51 : decode b_D_mixFour 51 = .ok (.iload_n 2, 1) := by decide +kernel
theorem d_D_mixFour_52 : decode b_D_mixFour 52 = .ok (.iload_n 3, 1) := by decide +kernel
theorem d_D_mixFour_53 : decode b_D_mixFour 53 = .ok (.iload 4, 2) := by decide +kernel
theorem d_D_mixFour_55 : decode b_D_mixFour 55 = .ok (.invokestatic 66, 3) := by decide +kernel
theorem d_D_mixFour_58 : decode b_D_mixFour 58 = .ok (.goto (42), 3) := by decide +kernel
theorem d_D_mixFour_61 : decode b_D_mixFour 61 = .ok (.iload 6, 2) := by decide +kernel
theorem d_D_mixFour_63 : decode b_D_mixFour 63 = .ok (.iconst 1, 1) := by decide +kernel
theorem d_D_mixFour_64 : decode b_D_mixFour 64 = .ok (.if_icmp .ne (13), 3) := by decide +kernel
theorem d_D_mixFour_67 : decode b_D_mixFour 67 = .ok (.iload 4, 2) := by decide +kernel
theorem d_D_mixFour_69 : decode b_D_mixFour 69 = .ok (.iload_n 2, 1) := by decide +kernel
theorem d_D_mixFour_70 : decode b_D_mixFour 70 = .ok (.iload_n 3, 1) := by decide +kernel
theorem d_D_mixFour_71 : decode b_D_mixFour 71 = .ok (.invokestatic 66, 3) := by decide +kernel
theorem d_D_mixFour_74 : decode b_D_mixFour 74 = .ok (.goto (26), 3) := by decide +kernel
theorem d_D_mixFour_77 : decode b_D_mixFour 77 = .ok (.iload 6, 2) := by decide +kernel
theorem d_D_mixFour_79 : decode b_D_mixFour 79 = .ok (.iconst 2, 1) := by decide +kernel
theorem d_D_mixFour_80 : decode b_D_mixFour 80 = .ok (.if_icmp .ne (12), 3) := by decide +kernel
theorem d_D_mixFour_83 : decode b_D_mixFour 83 = .ok (.iload_n 2, 1) := by decide +kernel
theorem d_D_mixFour_84 : decode b_D_mixFour 84 = .ok (.iload_n 3, 1) := by decide +kernel
theorem d_D_mixFour_85 : decode b_D_mixFour 85 = .ok (.ixor, 1) := by decide +kernel
theorem d_D_mixFour_86 : decode b_D_mixFour 86 = .ok (.iload 4, 2) := by decide +kernel
theorem d_D_mixFour_88 : decode b_D_mixFour 88 = .ok (.ixor, 1) := by decide +kernel
theorem d_D_mixFour_89 : decode b_D_mixFour 89 = .ok (.goto (11), 3) := by decide +kernel
theorem d_D_mixFour_92 : decode b_D_mixFour 92 = .ok (.iload_n 3, 1) := by decide +kernel
theorem d_D_mixFour_93 : decode b_D_mixFour 93 = .ok (.iload_n 2, 1) := by decide +kernel
theorem d_D_mixFour_94 : decode b_D_mixFour 94 = .ok (.iload 4, 2) := by decide +kernel
theorem d_D_mixFour_96 : decode b_D_mixFour 96 = .ok (.iconst (-1), 1) := by decide +kernel
theorem d_D_mixFour_97 : decode b_D_mixFour 97 = .ok (.ixor, 1) := by decide +kernel
theorem d_D_mixFour_98 : decode b_D_mixFour 98 = .ok (.ior, 1) := by decide +kernel
theorem d_D_mixFour_99 : decode b_D_mixFour 99 = .ok (.ixor, 1) := by decide +kernel
theorem d_D_mixFour_100 : decode b_D_mixFour 100 = .ok (.istore 7, 2) := by decide +kernel
theorem d_D_mixFour_102 : decode b_D_mixFour 102 = .ok (.iload 6, 2) := by decide +kernel
theorem d_D_mixFour_104 : decode b_D_mixFour 104 = .ok (.ifCond .ne (8), 3) := by decide +kernel
theorem d_D_mixFour_107 : decode b_D_mixFour 107 = .ok (.iload 5, 2) := by decide +kernel
theorem d_D_mixFour_109 : decode b_D_mixFour 109 = .ok (.goto (38), 3) := by decide +kernel
theorem d_D_mixFour_112 : decode b_D_mixFour 112 = .ok (.iload 6, 2) := by decide +kernel
theorem d_D_mixFour_114 : decode b_D_mixFour 114 = .ok (.iconst 1, 1) := by decide +kernel
theorem d_D_mixFour_115 : decode b_D_mixFour 115 = .ok (.if_icmp .ne (12), 3) := by decide +kernel
theorem d_D_mixFour_118 : decode b_D_mixFour 118 = .ok (.iconst 5, 1) := by decide +kernel
theorem d_D_mixFour_119 : decode b_D_mixFour 119 = .ok (.iload 5, 2) := by decide +kernel
theorem d_D_mixFour_121 : decode b_D_mixFour 121 = .ok (.imul, 1) := by decide +kernel
theorem d_D_mixFour_122 : decode b_D_mixFour 122 = .ok (.iconst 1, 1) := by decide +kernel
theorem d_D_mixFour_123 : decode b_D_mixFour 123 = .ok (.iadd, 1) := by decide +kernel
theorem d_D_mixFour_124 : decode b_D_mixFour 124 = .ok (.goto (23), 3) := by decide +kernel
theorem d_D_mixFour_127 : decode b_D_mixFour 127 = .ok (.iload 6, 2) := by decide +kernel
theorem d_D_mixFour_129 : decode b_D_mixFour 129 = .ok (.iconst 2, 1) := by decide +kernel
theorem d_D_mixFour_130 : decode b_D_mixFour 130 = .ok (.if_icmp .ne (12), 3) := by decide +kernel
theorem d_D_mixFour_133 : decode b_D_mixFour 133 = .ok (.iconst 3, 1) := by decide +kernel
theorem d_D_mixFour_134 : decode b_D_mixFour 134 = .ok (.iload 5, 2) := by decide +kernel
theorem d_D_mixFour_136 : decode b_D_mixFour 136 = .ok (.imul, 1) := by decide +kernel
theorem d_D_mixFour_137 : decode b_D_mixFour 137 = .ok (.iconst 5, 1) := by decide +kernel
theorem d_D_mixFour_138 : decode b_D_mixFour 138 = .ok (.iadd, 1) := by decide +kernel
theorem d_D_mixFour_139 : decode b_D_mixFour 139 = .ok (.goto (8), 3) := by decide +kernel
theorem d_D_mixFour_142 : decode b_D_mixFour 142 = .ok (.bipush 7, 2) := by decide +kernel
theorem d_D_mixFour_144 : decode b_D_mixFour 144 = .ok (.iload 5, 2) := by decide +kernel
theorem d_D_mixFour_146 : decode b_D_mixFour 146 = .ok (.imul, 1) := by decide +kernel
theorem d_D_mixFour_147 : decode b_D_mixFour 147 = .ok (.istore 8, 2) := by decide +kernel
theorem d_D_mixFour_149 : decode b_D_mixFour 149 = .ok (.iload_n 1, 1) := by decide +kernel
theorem d_D_mixFour_150 : decode b_D_mixFour 150 = .ok (.iload 7, 2) := by decide +kernel
theorem d_D_mixFour_152 : decode b_D_mixFour 152 = .ok (.iadd, 1) := by decide +kernel
theorem d_D_mixFour_153 : decode b_D_mixFour 153 = .ok (.getstatic 70, 3) := by decide +kernel
theorem d_D_mixFour_156 : decode b_D_mixFour 156 = .ok (.iload 5, 2) := by decide +kernel
theorem d_D_mixFour_158 : decode b_D_mixFour 158 = .ok (.iaload, 1) := by decide +kernel
theorem d_D_mixFour_159 : decode b_D_mixFour 159 = .ok (.iadd, 1) := by decide +kernel
theorem d_D_mixFour_160 : decode b_D_mixFour 160 = .ok (.aload_n 0, 1) := by decide +kernel
theorem d_D_mixFour_161 : decode b_D_mixFour 161 = .ok (.getfield 17, 3) := by decide +kernel
theorem d_D_mixFour_164 : decode b_D_mixFour 164 = .ok (.iload 8, 2) := by decide +kernel
theorem d_D_mixFour_166 : decode b_D_mixFour 166 = .ok (.bipush 16, 2) := by decide +kernel
theorem d_D_mixFour_168 : decode b_D_mixFour 168 = .ok (.irem, 1) := by decide +kernel
theorem d_D_mixFour_169 : decode b_D_mixFour 169 = .ok (.iaload, 1) := by decide +kernel
theorem d_D_mixFour_170 : decode b_D_mixFour 170 = .ok (.iadd, 1) := by decide +kernel
theorem d_D_mixFour_171 : decode b_D_mixFour 171 = .ok (.istore 9, 2) := by decide +kernel
theorem d_D_mixFour_173 : decode b_D_mixFour 173 = .ok (.iload 4, 2) := by decide +kernel
theorem d_D_mixFour_175 : decode b_D_mixFour 175 = .ok (.istore_n 1, 1) := by decide +kernel
theorem d_D_mixFour_176 : decode b_D_mixFour 176 = .ok (.iload_n 3, 1) := by decide +kernel
theorem d_D_mixFour_177 : decode b_D_mixFour 177 = .ok (.istore 4, 2) := by decide +kernel
theorem d_D_mixFour_179 : decode b_D_mixFour 179 = .ok (.iload_n 2, 1) := by decide +kernel
theorem d_D_mixFour_180 : decode b_D_mixFour 180 = .ok (.istore_n 3, 1) := by decide +kernel
theorem d_D_mixFour_181 : decode b_D_mixFour 181 = .ok (.iload_n 2, 1) := by decide +kernel
theorem d_D_mixFour_182 : decode b_D_mixFour 182 = .ok (.iload 9, 2) := by decide +kernel
theorem d_D_mixFour_184 : decode b_D_mixFour 184 = .ok (.getstatic 73, 3) := by decide +kernel
theorem d_D_mixFour_187 : decode b_D_mixFour 187 = .ok (.iconst 4, 1) := by decide +kernel
theorem d_D_mixFour_188 : decode b_D_mixFour 188 = .ok (.iload 6, 2) := by decide +kernel
theorem d_D_mixFour_190 : decode b_D_mixFour 190 = .ok (.imul, 1) := by decide +kernel
theorem d_D_mixFour_191 : decode b_D_mixFour 191 = .ok (.iload 5, 2) := by decide +kernel
theorem d_D_mixFour_193 : decode b_D_mixFour 193 = .ok (.iconst 4, 1) := by decide +kernel
theorem d_D_mixFour_194 : decode b_D_mixFour 194 = .ok (.irem, 1) := by decide +kernel
theorem d_D_mixFour_195 : decode b_D_mixFour 195 = .ok (.iadd, 1) := by decide +kernel
theorem d_D_mixFour_196 : decode b_D_mixFour 196 = .ok (.iaload, 1) := by decide +kernel
theorem d_D_mixFour_197 : decode b_D_mixFour 197 = .ok (.invokestatic 76, 3) := by decide +kernel
theorem d_D_mixFour_200 : decode b_D_mixFour 200 = .ok (.iadd, 1) := by decide +kernel
theorem d_D_mixFour_201 : decode b_D_mixFour 201 = .ok (.istore_n 2, 1) := by decide +kernel
theorem d_D_mixFour_202 : decode b_D_mixFour 202 = .ok (.iinc 5 (1), 3) := by decide +kernel
theorem d_D_mixFour_205 : decode b_D_mixFour 205 = .ok (.goto (-173), 3) := by decide +kernel
theorem d_D_mixFour_208 : decode b_D_mixFour 208 = .ok (.aload_n 0, 1) := by decide +kernel
theorem d_D_mixFour_209 : decode b_D_mixFour 209 = .ok (.getfield 7, 3) := by decide +kernel
theorem d_D_mixFour_212 : decode b_D_mixFour 212 = .ok (.iconst 0, 1) := by decide +kernel
theorem d_D_mixFour_213 : decode b_D_mixFour 213 = .ok (.dup2, 1) := by decide +kernel
theorem d_D_mixFour_214 : decode b_D_mixFour 214 = .ok (.iaload, 1) := by decide +kernel
theorem d_D_mixFour_215 : decode b_D_mixFour 215 = .ok (.iload_n 1, 1) := by decide +kernel
theorem d_D_mixFour_216 : decode b_D_mixFour 216 = .ok (.iadd, 1) := by decide +kernel
theorem d_D_mixFour_217 : decode b_D_mixFour 217 = .ok (.iastore, 1) := by decide +kernel
theorem d_D_mixFour_218 : decode b_D_mixFour 218 = .ok (.aload_n 0, 1) := by decide +kernel
theorem d_D_mixFour_219 : decode b_D_mixFour 219 = .ok (.getfield 7, 3) := by decide +kernel
theorem d_D_mixFour_222 : decode b_D_mixFour 222 = .ok (.iconst 1, 1) := by decide +kernel
theorem d_D_mixFour_223 : decode b_D_mixFour 223 = .ok (.dup2, 1) := by decide +kernel
theorem d_D_mixFour_224 : decode b_D_mixFour 224 = .ok (.iaload, 1) := by decide +kernel
theorem d_D_mixFour_225 : decode b_D_mixFour 225 = .ok (.iload_n 2, 1) := by decide +kernel
theorem d_D_mixFour_226 : decode b_D_mixFour 226 = .ok (.iadd, 1) := by decide +kernel
theorem d_D_mixFour_227 : decode b_D_mixFour 227 = .ok (.iastore, 1) := by decide +kernel
theorem d_D_mixFour_228 : decode b_D_mixFour 228 = .ok (.aload_n 0, 1) := by decide +kernel
theorem d_D_mixFour_229 : decode b_D_mixFour 229 = .ok (.getfield 7, 3) := by decide +kernel
theorem d_D_mixFour_232 : decode b_D_mixFour 232 = .ok (.iconst 2, 1) := by decide +kernel
theorem d_D_mixFour_233 : decode b_D_mixFour 233 = .ok (.dup2, 1) := by decide +kernel
theorem d_D_mixFour_234 : decode b_D_mixFour 234 = .ok (.iaload, 1) := by decide +kernel
theorem d_D_mixFour_235 : decode b_D_mixFour 235 = .ok (.iload_n 3, 1) := by decide +kernel
theorem d_D_mixFour_236 : decode b_D_mixFour 236 = .ok (.iadd, 1) := by decide +kernel
theorem d_D_mixFour_237 : decode b_D_mixFour 237 = .ok (.iastore, 1) := by decide +kernel
theorem d_D_mixFour_238 : decode b_D_mixFour 238 = .ok (.aload_n 0, 1) := by decide +kernel
theorem d_D_mixFour_239 : decode b_D_mixFour 239 = .ok (.getfield 7, 3) := by decide +kernel
theorem d_D_mixFour_242 : decode b_D_mixFour 242 = .ok (.iconst 3, 1) := by decide +kernel
theorem d_D_mixFour_243 : decode b_D_mixFour 243 = .ok (.dup2, 1) := by decide +kernel
theorem d_D_mixFour_244 : decode b_D_mixFour 244 = .ok (.iaload, 1) := by decide +kernel
theorem d_D_mixFour_245 : decode b_D_mixFour 245 = .ok (.iload 4, 2) := by decide +kernel
theorem d_D_mixFour_247 : decode b_D_mixFour 247 = .ok (.iadd, 1) := by decide +kernel
theorem d_D_mixFour_248 : decode b_D_mixFour 248 = .ok (.iastore, 1) := by decide +kernel
theorem d_D_mixFour_249 : decode b_D_mixFour 249 = .ok (.return_, 1) := by decide +kernel
theorem d_D_mixFive_0 : decode b_D_mixFive 0 = .ok (.bipush 16, 2) := by decide +kernel
theorem d_D_mixFive_2 : decode b_D_mixFive 2 = .ok (.istore_n 1, 1) := by decide +kernel
theorem d_D_mixFive_3 : decode b_D_mixFive 3 = .ok (.iload_n 1, 1) := by decide +kernel
theorem d_D_mixFive_4 : decode b_D_mixFive 4 = .ok (.bipush 80, 2) := by decide +kernel
theorem d_D_mixFive_6 : decode b_D_mixFive 6 = .ok (.if_icmp .ge (57), 3) := by decide +kernel
theorem d_D_mixFive_9 : decode b_D_mixFive 9 = .ok (.aload_n 0, 1) := by decide +kernel
theorem d_D_mixFive_10 : decode b_D_mixFive 10 = .ok (.getfield 17, 3) := by decide +kernel
theorem d_D_mixFive_13 : decode b_D_mixFive 13 = .ok (.iload_n 1, 1) := by decide +kernel
theorem d_D_mixFive_14 : decode b_D_mixFive 14 = .ok (.aload_n 0, 1) := by decide +kernel
theorem d_D_mixFive_15 : decode b_D_mixFive 15 = .ok (.getfield 17, 3) := by decide +kernel
theorem d_D_mixFive_18 : decode b_D_mixFive 18 = .ok (.iload_n 1, 1) := by decide +kernel
theorem d_D_mixFive_19 : decode b_D_mixFive 19 = .ok (.iconst 3, 1) := by decide +kernel
theorem d_D_mixFive_20 : decode b_D_mixFive 20 = .ok (.isub, 1) := by decide +kernel
theorem d_D_mixFive_21 : decode b_D_mixFive 21 = .ok (.iaload, 1) := by decide +kernel
theorem d_D_mixFive_22 : decode b_D_mixFive 22 = .ok (.aload_n 0, 1) := by decide +kernel
theorem d_D_mixFive_23 : decode b_D_mixFive 23 = .ok (.getfield 17, 3) := by decide +kernel
theorem d_D_mixFive_26 : decode b_D_mixFive 26 = .ok (.iload_n 1, 1) := by decide +kernel
theorem d_D_mixFive_27 : decode b_D_mixFive 27 = .ok (.bipush 8, 2) := by decide +kernel
theorem d_D_mixFive_29 : decode b_D_mixFive 29 = .ok (.isub, 1) := by decide +kernel
theorem d_D_mixFive_30 : decode b_D_mixFive 30 = .ok (.iaload, 1) := by decide +kernel
theorem d_D_mixFive_31 : decode b_D_mixFive 31 = .ok (.ixor, 1) := by decide +kernel
theorem d_D_mixFive_32 : decode b_D_mixFive 32 = .ok (.aload_n 0, 1) := by decide +kernel
theorem d_D_mixFive_33 : decode b_D_mixFive 33 = .ok (.getfield 17, 3) := by decide +kernel
theorem d_D_mixFive_36 : decode b_D_mixFive 36 = .ok (.iload_n 1, 1) := by decide +kernel
theorem d_D_mixFive_37 : decode b_D_mixFive 37 = .ok (.bipush 14, 2) := by decide +kernel
theorem d_D_mixFive_39 : decode b_D_mixFive 39 = .ok (.isub, 1) := by decide +kernel
theorem d_D_mixFive_40 : decode b_D_mixFive 40 = .ok (.iaload, 1) := by decide +kernel
theorem d_D_mixFive_41 : decode b_D_mixFive 41 = .ok (.ixor, 1) := by decide +kernel
theorem d_D_mixFive_42 : decode b_D_mixFive 42 = .ok (.aload_n 0, 1) := by decide +kernel
theorem d_D_mixFive_43 : decode b_D_mixFive 43 = .ok (.getfield 17, 3) := by decide +kernel
theorem d_D_mixFive_46 : decode b_D_mixFive 46 = .ok (.iload_n 1, 1) := by decide +kernel
theorem d_D_mixFive_47 : decode b_D_mixFive 47 = .ok (.bipush 16, 2) := by decide +kernel
theorem d_D_mixFive_49 : decode b_D_mixFive 49 = .ok (.isub, 1) := by decide +kernel
theorem d_D_mixFive_50 : decode b_D_mixFive 50 = .ok (.iaload, 1) := by decide +kernel
theorem d_D_mixFive_51 : decode b_D_mixFive 51 = .ok (.ixor, 1) := by decide +kernel
theorem d_D_mixFive_52 : decode b_D_mixFive 52 = .ok (.iconst 1, 1) := by decide +kernel
theorem d_D_mixFive_53 : decode b_D_mixFive 53 = .ok (.invokestatic 76, 3) := by decide +kernel
theorem d_D_mixFive_56 : decode b_D_mixFive 56 = .ok (.iastore, 1) := by decide +kernel
theorem d_D_mixFive_57 : decode b_D_mixFive 57 = .ok (.iinc 1 (1), 3) := by decide +kernel
theorem d_D_mixFive_60 : decode b_D_mixFive 60 = .ok (.goto (-57), 3) := by decide +kernel
theorem d_D_mixFive_63 : decode b_D_mixFive 63 = .ok (.aload_n 0, 1) := by decide +kernel
theorem d_D_mixFive_64 : decode b_D_mixFive 64 = .ok (.getfield 7, 3) := by decide +kernel
theorem d_D_mixFive_67 : decode b_D_mixFive 67 = .ok (.iconst 0, 1) := by decide +kernel
theorem d_D_mixFive_68 : decode b_D_mixFive 68 = .ok (.iaload, 1) := by decide +kernel
theorem d_D_mixFive_69 : decode b_D_mixFive 69 = .ok (.istore_n 1, 1) := by decide +kernel
theorem d_D_mixFive_70 : decode b_D_mixFive 70 = .ok (.aload_n 0, 1) := by decide +kernel
theorem d_D_mixFive_71 : decode b_D_mixFive 71 = .ok (.getfield 7, 3) := by decide +kernel
theorem d_D_mixFive_74 : decode b_D_mixFive 74 = .ok (.iconst 1, 1) := by decide +kernel
theorem d_D_mixFive_75 : decode b_D_mixFive 75 = .ok (.iaload, 1) := by decide +kernel
theorem d_D_mixFive_76 : decode b_D_mixFive 76 = .ok (.istore_n 2, 1) := by decide +kernel
theorem d_D_mixFive_77 : decode b_D_mixFive 77 = .ok (.aload_n 0, 1) := by decide +kernel
theorem d_D_mixFive_78 : decode b_D_mixFive 78 = .ok (.getfield 7, 3) := by decide +kernel
theorem d_D_mixFive_81 : decode b_D_mixFive 81 = .ok (.iconst 2, 1) := by decide +kernel
theorem d_D_mixFive_82 : decode b_D_mixFive 82 = .ok (.iaload, 1) := by decide +kernel
theorem d_D_mixFive_83 : decode b_D_mixFive 83 = .ok (.istore_n 3, 1) := by decide +kernel
theorem d_D_mixFive_84 : decode b_D_mixFive 84 = .ok (.aload_n 0, 1) := by decide +kernel
theorem d_D_mixFive_85 : decode b_D_mixFive 85 = .ok (.getfield 7, 3) := by decide +kernel
theorem d_D_mixFive_88 : decode b_D_mixFive 88 = .ok (.iconst 3, 1) := by decide +kernel
theorem d_D_mixFive_89 : decode b_D_mixFive 89 = .ok (.iaload, 1) := by decide +kernel
theorem d_D_mixFive_90 : decode b_D_mixFive 90 = .ok (.istore 4, 2) := by decide +kernel
theorem d_D_mixFive_92 : decode b_D_mixFive 92 = .ok (.aload_n 0, 1) := by decide +kernel
theorem d_D_mixFive_93 : decode b_D_mixFive 93 = .ok (.getfield 7, 3) := by decide +kernel
theorem d_D_mixFive_96 : decode b_D_mixFive 96 = .ok (.iconst 4, 1) := by decide +kernel
theorem d_D_mixFive_97 : decode b_D_mixFive 97 = .ok (.iaload, 1) := by decide +kernel
theorem d_D_mixFive_98 : decode b_D_mixFive 98 = .ok (.istore 5, 2) := by decide +kernel
theorem d_D_mixFive_100 : decode b_D_mixFive 100 = .ok (.iconst 0, 1) := by decide +kernel
theorem d_D_mixFive_101 : decode b_D_mixFive 101 = .ok (.istore 6, 2) := by decide +kernel
theorem d_D_mixFive_103 : decode b_D_mixFive 103 = .ok (.iload 6, 2) := by decide +kernel
theorem d_D_mixFive_105 : decode b_D_mixFive 105 = .ok (.bipush 80, 2) := by decide +kernel
theorem d_D_mixFive_107 : decode b_D_mixFive 107 = .ok (.if_icmp .ge (108), 3) := by decide +kernel
theorem d_D_mixFive_110 : decode b_D_mixFive 110 = .ok (.iload 6, 2) := by decide +kernel
theorem d_D_mixFive_112 : decode b_D_mixFive 112 = .ok (.bipush 20, 2) := by decide +kernel
theorem d_D_mixFive_114 : decode b_D_mixFive 114 = .ok (.idiv, 1) := by decide +kernel
theorem d_D_mixFive_115 : decode b_D_mixFive 115 = .ok (.istore 7, 2) := by decide +kernel
theorem d_D_mixFive_117 : decode b_D_mixFive 117 = .ok (.iload 7, 2) := by decide +kernel
theorem d_D_mixFive_119 : decode b_D_mixFive 119 = .ok (.ifCond .ne (13), 3) := by decide +kernel
theorem d_D_mixFive_122 : decode b_D_mixFive 122 = .ok (.iload_n 2, 1) := by decide +kernel
theorem d_D_mixFive_123 : decode b_D_mixFive 123 = .ok (.iload_n 3, 1) := by decide +kernel
theorem d_D_mixFive_124 : decode b_D_mixFive 124 = .ok (.iload 4, 2) := by decide +kernel
theorem d_D_mixFive_126 : decode b_D_mixFive 126 = .ok (.invokestatic 66, 3) := by decide +kernel
theorem d_D_mixFive_129 : decode b_D_mixFive 129 = .ok (.goto (31), 3) := by decide +kernel
theorem d_D_mixFive_132 : decode b_D_mixFive 132 = .ok (.iload 7, 2) := by decide +kernel
theorem d_D_mixFive_134 : decode b_D_mixFive 134 = .ok (.iconst 2, 1) := by decide +kernel
theorem d_D_mixFive_135 : decode b_D_mixFive 135 = .ok (.if_icmp .ne (19), 3) := by decide +kernel
theorem d_D_mixFive_138 : decode b_D_mixFive 138 = .ok (.iload_n 2, 1) := by decide +kernel
theorem d_D_mixFive_139 : decode b_D_mixFive 139 = .ok (.iload_n 3, 1) := by decide +kernel
theorem d_D_mixFive_140 : decode b_D_mixFive 140 = .ok (.iand, 1) := by decide +kernel
theorem d_D_mixFive_141 : decode b_D_mixFive 141 = .ok (.iload_n 2, 1) := by decide +kernel
theorem d_D_mixFive_142 : decode b_D_mixFive 142 = .ok (.iload 4, 2) := by decide +kernel
theorem d_D_mixFive_144 : decode b_D_mixFive 144 = .ok (.iand, 1) := by decide +kernel
theorem d_D_mixFive_145 : decode b_D_mixFive 145 = .ok (.ior, 1) := by decide +kernel
theorem d_D_mixFive_146 : decode b_D_mixFive 146 = .ok (.iload_n 3, 1) := by decide +kernel
theorem d_D_mixFive_147 : decode b_D_mixFive 147 = .ok (.iload 4, 2) := by decide +kernel
theorem d_D_mixFive_149 : decode b_D_mixFive 149 = .ok (.iand, 1) := by decide +kernel
theorem d_D_mixFive_150 : decode b_D_mixFive 150 = .ok (.ior, 1) := by decide +kernel
theorem d_D_mixFive_151 : decode b_D_mixFive 151 = .ok (.goto (9), 3) := by decide +kernel
theorem d_D_mixFive_154 : decode b_D_mixFive 154 = .ok (.iload_n 2, 1) := by decide +kernel
theorem d_D_mixFive_155 : decode b_D_mixFive 155 = .ok (.iload_n 3, 1) := by decide +kernel
theorem d_D_mixFive_156 : decode b_D_mixFive 156 = .ok (.ixor, 1) := by decide +kernel
theorem d_D_mixFive_157 : decode b_D_mixFive 157 = .ok (.iload 4, 2) := by decide +kernel
theorem d_D_mixFive_159 : decode b_D_mixFive 159 = .ok (.ixor, 1) := by decide +kernel
theorem d_D_mixFive_160 : decode b_D_mixFive 160 = .ok (.istore 8, 2) := by decide +kernel
theorem d_D_mixFive_162 : decode b_D_mixFive 162 = .ok (.iload_n 1, 1) := by decide +kernel
theorem d_D_mixFive_163 : decode b_D_mixFive 163 = .ok (.iconst 5, 1) := by decide +kernel
theorem d_D_mixFive_164 : decode b_D_mixFive 164 = .ok (.invokestatic 76, 3) := by decide +kernel
theorem d_D_mixFive_167 : decode b_D_mixFive 167 = .ok (.iload 8, 2) := by decide +kernel
theorem d_D_mixFive_169 : decode b_D_mixFive 169 = .ok (.iadd, 1) := by decide +kernel
theorem d_D_mixFive_170 : decode b_D_mixFive 170 = .ok (.iload 5, 2) := by decide +kernel
theorem d_D_mixFive_172 : decode b_D_mixFive 172 = .ok (.iadd, 1) := by decide +kernel
theorem d_D_mixFive_173 : decode b_D_mixFive 173 = .ok (.getstatic 81, 3) := by decide +kernel
theorem d_D_mixFive_176 : decode b_D_mixFive 176 = .ok (.iload 7, 2) := by decide +kernel
theorem d_D_mixFive_178 : decode b_D_mixFive 178 = .ok (.iaload, 1) := by decide +kernel
theorem d_D_mixFive_179 : decode b_D_mixFive 179 = .ok (.iadd, 1) := by decide +kernel
theorem d_D_mixFive_180 : decode b_D_mixFive 180 = .ok (.aload_n 0, 1) := by decide +kernel
theorem d_D_mixFive_181 : decode b_D_mixFive 181 = .ok (.getfield 17, 3) := by decide +kernel
theorem d_D_mixFive_184 : decode b_D_mixFive 184 = .ok (.iload 6, 2) := by decide +kernel
theorem d_D_mixFive_186 : decode b_D_mixFive 186 = .ok (.iaload, 1) := by decide +kernel
theorem d_D_mixFive_187 : decode b_D_mixFive 187 = .ok (.iadd, 1) := by decide +kernel
theorem d_D_mixFive_188 : decode b_D_mixFive 188 = .ok (.istore 9, 2) := by decide +kernel
theorem d_D_mixFive_190 : decode b_D_mixFive 190 = .ok (.iload 4, 2) := by decide +kernel
theorem d_D_mixFive_192 : decode b_D_mixFive 192 = .ok (.istore 5, 2) := by decide +kernel
theorem d_D_mixFive_194 : decode b_D_mixFive 194 = .ok (.iload_n 3, 1) := by decide +kernel
theorem d_D_mixFive_195 : decode b_D_mixFive 195 = .ok (.istore 4, 2) := by decide +kernel
theorem d_D_mixFive_197 : decode b_D_mixFive 197 = .ok (.iload_n 2, 1) := by decide +kernel
theorem d_D_mixFive_198 : decode b_D_mixFive 198 = .ok (.bipush 30, 2) := by decide +kernel
theorem d_D_mixFive_200 : decode b_D_mixFive 200 = .ok (.invokestatic 76, 3) := by decide +kernel
theorem d_D_mixFive_203 : decode b_D_mixFive 203 = .ok (.istore_n 3, 1) := by decide +kernel
theorem d_D_mixFive_204 : decode b_D_mixFive 204 = .ok (.iload_n 1, 1) := by decide +kernel
theorem d_D_mixFive_205 : decode b_D_mixFive 205 = .ok (.istore_n 2, 1) := by decide +kernel
theorem d_D_mixFive_206 : decode b_D_mixFive 206 = .ok (.iload 9, 2) := by decide +kernel
theorem d_D_mixFive_208 : decode b_D_mixFive 208 = .ok (.istore_n 1, 1) := by decide +kernel
theorem d_D_mixFive_209 : decode b_D_mixFive 209 = .ok (.iinc 6 (1), 3) := by decide +kernel
theorem d_D_mixFive_212 : decode b_D_mixFive 212 = .ok (.goto (-109), 3) := by decide +kernel
theorem d_D_mixFive_215 : decode b_D_mixFive 215 = .ok (.aload_n 0, 1) := by decide +kernel
theorem d_D_mixFive_216 : decode b_D_mixFive 216 = .ok (.getfield 7, 3) := by decide +kernel
theorem d_D_mixFive_219 : decode b_D_mixFive 219 = .ok (.iconst 0, 1) := by decide +kernel
theorem d_D_mixFive_220 : decode b_D_mixFive 220 = .ok (.dup2, 1) := by decide +kernel
theorem d_D_mixFive_221 : decode b_D_mixFive 221 = .ok (.iaload, 1) := by decide +kernel
theorem d_D_mixFive_222 : decode b_D_mixFive 222 = .ok (.iload_n 1, 1) := by decide +kernel
theorem d_D_mixFive_223 : decode b_D_mixFive 223 = .ok (.iadd, 1) := by decide +kernel
theorem d_D_mixFive_224 : decode b_D_mixFive 224 = .ok (.iastore, 1) := by decide +kernel
theorem d_D_mixFive_225 : decode b_D_mixFive 225 = .ok (.aload_n 0, 1) := by decide +kernel
theorem d_D_mixFive_226 : decode b_D_mixFive 226 = .ok (.getfield 7, 3) := by decide +kernel
theorem d_D_mixFive_229 : decode b_D_mixFive 229 = .ok (.iconst 1, 1) := by decide +kernel
theorem d_D_mixFive_230 : decode b_D_mixFive 230 = .ok (.dup2, 1) := by decide +kernel
theorem d_D_mixFive_231 : decode b_D_mixFive 231 = .ok (.iaload, 1) := by decide +kernel
theorem d_D_mixFive_232 : decode b_D_mixFive 232 = .ok (.iload_n 2, 1) := by decide +kernel
theorem d_D_mixFive_233 : decode b_D_mixFive 233 = .ok (.iadd, 1) := by decide +kernel
theorem d_D_mixFive_234 : decode b_D_mixFive 234 = .ok (.iastore, 1) := by decide +kernel
theorem d_D_mixFive_235 : decode b_D_mixFive 235 = .ok (.aload_n 0, 1) := by decide +kernel
theorem d_D_mixFive_236 : decode b_D_mixFive 236 = .ok (.getfield 7, 3) := by decide +kernel
theorem d_D_mixFive_239 : decode b_D_mixFive 239 = .ok (.iconst 2, 1) := by decide +kernel
theorem d_D_mixFive_240 : decode b_D_mixFive 240 = .ok (.dup2, 1) := by decide +kernel
theorem d_D_mixFive_241 : decode b_D_mixFive 241 = .ok (.iaload, 1) := by decide +kernel
theorem d_D_mixFive_242 : decode b_D_mixFive 242 = .ok (.iload_n 3, 1) := by decide +kernel
theorem d_D_mixFive_243 : decode b_D_mixFive 243 = .ok (.iadd, 1) := by decide +kernel
theorem d_D_mixFive_244 : decode b_D_mixFive 244 = .ok (.iastore, 1) := by decide +kernel
theorem d_D_mixFive_245 : decode b_D_mixFive 245 = .ok (.aload_n 0, 1) := by decide +kernel
theorem d_D_mixFive_246 : decode b_D_mixFive 246 = .ok (.getfield 7, 3) := by decide +kernel
theorem d_D_mixFive_249 : decode b_D_mixFive 249 = .ok (.iconst 3, 1) := by decide +kernel
theorem d_D_mixFive_250 : decode b_D_mixFive 250 = .ok (.dup2, 1) := by decide +kernel
theorem d_D_mixFive_251 : decode b_D_mixFive 251 = .ok (.iaload, 1) := by decide +kernel
theorem d_D_mixFive_252 : decode b_D_mixFive 252 = .ok (.iload 4, 2) := by decide +kernel
theorem d_D_mixFive_254 : decode b_D_mixFive 254 = .ok (.iadd, 1) := by decide +kernel
theorem d_D_mixFive_255 : decode b_D_mixFive 255 = .ok (.iastore, 1) := by decide +kernel
theorem d_D_mixFive_256 : decode b_D_mixFive 256 = .ok (.aload_n 0, 1) := by decide +kernel
theorem d_D_mixFive_257 : decode b_D_mixFive 257 = .ok (.getfield 7, 3) := by decide +kernel
theorem d_D_mixFive_260 : decode b_D_mixFive 260 = .ok (.iconst 4, 1) := by decide +kernel
theorem d_D_mixFive_261 : decode b_D_mixFive 261 = .ok (.dup2, 1) := by decide +kernel
theorem d_D_mixFive_262 : decode b_D_mixFive 262 = .ok (.iaload, 1) := by decide +kernel
theorem d_D_mixFive_263 : decode b_D_mixFive 263 = .ok (.iload 5, 2) := by decide +kernel
theorem d_D_mixFive_265 : decode b_D_mixFive 265 = .ok (.iadd, 1) := by decide +kernel
theorem d_D_mixFive_266 : decode b_D_mixFive 266 = .ok (.iastore, 1) := by decide +kernel
theorem d_D_mixFive_267 : decode b_D_mixFive 267 = .ok (.return_, 1) := by decide +kernel
theorem d_D_lengthOf_0 : decode b_D_lengthOf 0 = .ok (.iload_n 0, 1) := by decide +kernel
theorem d_D_lengthOf_1 : decode b_D_lengthOf 1 = .ok (.ifCond .ne (8), 3) := by decide +kernel
theorem d_D_lengthOf_4 : decode b_D_lengthOf 4 = .ok (.bipush 16, 2) := by decide +kernel
theorem d_D_lengthOf_6 : decode b_D_lengthOf 6 = .ok (.goto (5), 3) := by decide +kernel
theorem d_D_lengthOf_9 : decode b_D_lengthOf 9 = .ok (.bipush 20, 2) := by decide +kernel
theorem d_D_lengthOf_11 : decode b_D_lengthOf 11 = .ok (.ireturn, 1) := by decide +kernel
theorem d_D_end_0 : decode b_D_end 0 = .ok (.ldc2_w 84, 3) := by decide +kernel
theorem d_D_end_3 : decode b_D_end 3 = .ok (.aload_n 0, 1) := by decide +kernel
theorem d_D_end_4 : decode b_D_end 4 = .ok (.getfield 45, 3) := by decide +kernel
theorem d_D_end_7 : decode b_D_end 7 = .ok (.lmul, 1) := by decide +kernel
theorem d_D_end_8 : decode b_D_end 8 = .ok (.lstore_n 1, 1) := by decide +kernel
theorem d_D_end_9 : decode b_D_end 9 = .ok (.aload_n 0, 1) := by decide +kernel
theorem d_D_end_10 : decode b_D_end 10 = .ok (.sipush 128, 3) := by decide +kernel
theorem d_D_end_13 : decode b_D_end 13 = .ok (.invokevirtual 86, 3) := by decide +kernel
theorem d_D_end_16 : decode b_D_end 16 = .ok (.aload_n 0, 1) := by decide +kernel
theorem d_D_end_17 : decode b_D_end 17 = .ok (.getfield 45, 3) := by decide +kernel
theorem d_D_end_20 : decode b_D_end 20 = .ok (.ldc2_w 58, 3) := by decide +kernel
theorem d_D_end_23 : decode b_D_end 23 = .ok (.lrem, 1) := by decide +kernel
theorem d_D_end_24 : decode b_D_end 24 = .ok (.ldc2_w 90, 3) := by decide +kernel
theorem d_D_end_27 : decode b_D_end 27 = .ok (.lcmp, 1) := by decide +kernel
theorem d_D_end_28 : decode b_D_end 28 = .ok (.ifCond .eq (11), 3) := by decide +kernel
theorem d_D_end_31 : decode b_D_end 31 = .ok (.aload_n 0, 1) := by decide +kernel
theorem d_D_end_32 : decode b_D_end 32 = .ok (.iconst 0, 1) := by decide +kernel
theorem d_D_end_33 : decode b_D_end 33 = .ok (.invokevirtual 86, 3) := by decide +kernel
theorem d_D_end_36 : decode b_D_end 36 = .ok (.goto (-20), 3) := by decide +kernel
theorem d_D_end_39 : decode b_D_end 39 = .ok (.iconst 0, 1) := by decide +kernel
theorem d_D_end_40 : decode b_D_end 40 = .ok (.istore_n 3, 1) := by decide +kernel
theorem d_D_end_41 : decode b_D_end 41 = .ok (.iload_n 3, 1) := by decide +kernel
theorem d_D_end_42 : decode b_D_end 42 = .ok (.bipush 8, 2) := by decide +kernel
theorem d_D_end_44 : decode b_D_end 44 = .ok (.if_icmp .ge (37), 3) := by decide +kernel
theorem d_D_end_47 : decode b_D_end 47 = .ok (.aload_n 0, 1) := by decide +kernel
theorem d_D_end_48 : decode b_D_end 48 = .ok (.lload_n 1, 1) := by decide +kernel
theorem d_D_end_49 : decode b_D_end 49 = .ok (.aload_n 0, 1) := by decide +kernel
theorem d_D_end_50 : decode b_D_end 50 = .ok (.getfield 42, 3) := by decide +kernel
theorem d_D_end_53 : decode b_D_end 53 = .ok (.ifCond .ne (10), 3) := by decide +kernel
theorem d_D_end_56 : decode b_D_end 56 = .ok (.bipush 8, 2) := by decide +kernel
theorem d_D_end_58 : decode b_D_end 58 = .ok (.iload_n 3, 1) := by decide +kernel
theorem d_D_end_59 : decode b_D_end 59 = .ok (.imul, 1) := by decide +kernel
theorem d_D_end_60 : decode b_D_end 60 = .ok (.goto (10), 3) := by decide +kernel
theorem d_D_end_63 : decode b_D_end 63 = .ok (.bipush 56, 2) := by decide +kernel
theorem d_D_end_65 : decode b_D_end 65 = .ok (.bipush 8, 2) := by decide +kernel
theorem d_D_end_67 : decode b_D_end 67 = .ok (.iload_n 3, 1) := by decide +kernel
theorem d_D_end_68 : decode b_D_end 68 = .ok (.imul, 1) := by decide +kernel
theorem d_D_end_69 : decode b_D_end 69 = .ok (.isub, 1) := by decide +kernel
theorem d_D_end_70 : decode b_D_end 70 = .ok (.lshr, 1) := by decide +kernel
theorem d_D_end_71 : decode b_D_end 71 = .ok (.l2i, 1) := by decide +kernel
theorem d_D_end_72 : decode b_D_end 72 = .ok (.invokevirtual 86, 3) := by decide +kernel
theorem d_D_end_75 : decode b_D_end 75 = .ok (.iinc 3 (1), 3) := by decide +kernel
theorem d_D_end_78 : decode b_D_end 78 = .ok (.goto (-37), 3) := by decide +kernel
theorem d_D_end_81 : decode b_D_end 81 = .ok (.iconst 0, 1) := by decide +kernel
theorem d_D_end_82 : decode b_D_end 82 = .ok (.istore_n 3, 1) := by decide +kernel
theorem d_D_end_83 : decode b_D_end 83 = .ok (.iload_n 3, 1) := by decide +kernel
theorem d_D_end_84 : decode b_D_end 84 = .ok (.aload_n 0, 1) := by decide +kernel
theorem d_D_end_85 : decode b_D_end 85 = .ok (.getfield 42, 3) := by decide +kernel
theorem d_D_end_88 : decode b_D_end 88 = .ok (.invokestatic 92, 3) := by decide +kernel
theorem d_D_end_91 : decode b_D_end 91 = .ok (.if_icmp .ge (54), 3) := by decide +kernel
theorem d_D_end_94 : decode b_D_end 94 = .ok (.aload_n 0, 1) := by decide +kernel
theorem d_D_end_95 : decode b_D_end 95 = .ok (.getfield 42, 3) := by decide +kernel
theorem d_D_end_98 : decode b_D_end 98 = .ok (.ifCond .ne (12), 3) := by decide +kernel
theorem d_D_end_101 : decode b_D_end 101 = .ok (.bipush 8, 2) := by decide +kernel
theorem d_D_end_103 : decode b_D_end 103 = .ok (.iload_n 3, 1) := by decide +kernel
theorem d_D_end_104 : decode b_D_end 104 = .ok (.iconst 4, 1) := by decide +kernel
theorem d_D_end_105 : decode b_D_end 105 = .ok (.irem, 1) := by decide +kernel
theorem d_D_end_106 : decode b_D_end 106 = .ok (.imul, 1) := by decide +kernel
theorem d_D_end_107 : decode b_D_end 107 = .ok (.goto (12), 3) := by decide +kernel
theorem d_D_end_110 : decode b_D_end 110 = .ok (.bipush 24, 2) := by decide +kernel
theorem d_D_end_112 : decode b_D_end 112 = .ok (.bipush 8, 2) := by decide +kernel
theorem d_D_end_114 : decode b_D_end 114 = .ok (.iload_n 3, 1) := by decide +kernel
theorem d_D_end_115 : decode b_D_end 115 = .ok (.iconst 4, 1) := by decide +kernel
theorem d_D_end_116 : decode b_D_end 116 = .ok (.irem, 1) := by decide +kernel
theorem d_D_end_117 : decode b_D_end 117 = .ok (.imul, 1) := by decide +kernel
theorem d_D_end_118 : decode b_D_end 118 = .ok (.isub, 1) := by decide +kernel
theorem d_D_end_119 : decode b_D_end 119 = .ok (.istore 4, 2) := by decide +kernel
theorem d_D_end_121 : decode b_D_end 121 = .ok (.aload_n 0, 1) := by decide +kernel
theorem d_D_end_122 : decode b_D_end 122 = .ok (.getfield 23, 3) := by decide +kernel
theorem d_D_end_125 : decode b_D_end 125 = .ok (.iload_n 3, 1) := by decide +kernel
theorem d_D_end_126 : decode b_D_end 126 = .ok (.aload_n 0, 1) := by decide +kernel
theorem d_D_end_127 : decode b_D_end 127 = .ok (.getfield 7, 3) := by decide +kernel
theorem d_D_end_130 : decode b_D_end 130 = .ok (.iload_n 3, 1) := by decide +kernel
theorem d_D_end_131 : decode b_D_end 131 = .ok (.iconst 4, 1) := by decide +kernel
theorem d_D_end_132 : decode b_D_end 132 = .ok (.idiv, 1) := by decide +kernel
theorem d_D_end_133 : decode b_D_end 133 = .ok (.iaload, 1) := by decide +kernel
theorem d_D_end_134 : decode b_D_end 134 = .ok (.iload 4, 2) := by decide +kernel
theorem d_D_end_136 : decode b_D_end 136 = .ok (.ishr, 1) := by decide +kernel
theorem d_D_end_137 : decode b_D_end 137 = .ok (.i2b, 1) := by decide +kernel
theorem d_D_end_138 : decode b_D_end 138 = .ok (.bastore, 1) := by decide +kernel
theorem d_D_end_139 : decode b_D_end 139 = .ok (.iinc 3 (1), 3) := by decide +kernel
theorem d_D_end_142 : decode b_D_end 142 = .ok (.goto (-59), 3) := by decide +kernel
theorem d_D_end_145 : decode b_D_end 145 = .ok (.return_, 1) := by decide +kernel
theorem d_D_init_0 : decode b_D_init 0 = .ok (.aload_n 0, 1) := by decide +kernel
theorem d_D_init_1 : decode b_D_init 1 = .ok (.iconst 1, 1) := by decide +kernel
theorem d_D_init_2 : decode b_D_init 2 = .ok (.putfield 96, 3) := by decide +kernel
theorem d_D_init_5 : decode b_D_init 5 = .ok (.aload_n 0, 1) := by decide +kernel
theorem d_D_init_6 : decode b_D_init 6 = .ok (.iconst 0, 1) := by decide +kernel
theorem d_D_init_7 : decode b_D_init 7 = .ok (.putfield 100, 3) := by decide +kernel
theorem d_D_init_10 : decode b_D_init 10 = .ok (.aload_n 0, 1) := by decide +kernel
theorem d_D_init_11 : decode b_D_init 11 = .ok (.iconst 0, 1) := by decide +kernel
theorem d_D_init_12 : decode b_D_init 12 = .ok (.putfield 103, 3) := by decide +kernel
theorem d_D_init_15 : decode b_D_init 15 = .ok (.aload_n 0, 1) := by decide +kernel
theorem d_D_init_16 : decode b_D_init 16 = .ok (.iconst 0, 1) := by decide +kernel
theorem d_D_init_17 : decode b_D_init 17 = .ok (.putfield 106, 3) := by decide +kernel
theorem d_D_init_20 : decode b_D_init 20 = .ok (.return_, 1) := by decide +kernel
theorem d_D_mayStart_0 : decode b_D_mayStart 0 = .ok (.aload_n 0, 1) := by decide +kernel
theorem d_D_mayStart_1 : decode b_D_mayStart 1 = .ok (.getfield 96, 3) := by decide +kernel
theorem d_D_mayStart_4 : decode b_D_mayStart 4 = .ok (.ifCond .eq (16), 3) := by decide +kernel
theorem d_D_mayStart_7 : decode b_D_mayStart 7 = .ok (.iload_n 1, 1) := by decide +kernel
theorem d_D_mayStart_8 : decode b_D_mayStart 8 = .ok (.ifCond .eq (8), 3) := by decide +kernel
theorem d_D_mayStart_11 : decode b_D_mayStart 11 = .ok (.iload_n 1, 1) := by decide +kernel
theorem d_D_mayStart_12 : decode b_D_mayStart 12 = .ok (.iconst 1, 1) := by decide +kernel
theorem d_D_mayStart_13 : decode b_D_mayStart 13 = .ok (.if_icmp .ne (7), 3) := by decide +kernel
theorem d_D_mayStart_16 : decode b_D_mayStart 16 = .ok (.iconst 1, 1) := by decide +kernel
theorem d_D_mayStart_17 : decode b_D_mayStart 17 = .ok (.goto (4), 3) := by decide +kernel
theorem d_D_mayStart_20 : decode b_D_mayStart 20 = .ok (.iconst 0, 1) := by decide +kernel
theorem d_D_mayStart_21 : decode b_D_mayStart 21 = .ok (.ireturn, 1) := by decide +kernel
theorem d_D_start_0 : decode b_D_start 0 = .ok (.aload_n 0, 1) := by decide +kernel
theorem d_D_start_1 : decode b_D_start 1 = .ok (.iload_n 1, 1) := by decide +kernel
theorem d_D_start_2 : decode b_D_start 2 = .ok (.invokevirtual 109, 3) := by decide +kernel
theorem d_D_start_5 : decode b_D_start 5 = .ok (.ifCond .ne (5), 3) := by decide +kernel
theorem d_D_start_8 : decode b_D_start 8 = .ok (.iconst 0, 1) := by decide +kernel
theorem d_D_start_9 : decode b_D_start 9 = .ok (.ireturn, 1) := by decide +kernel
theorem d_D_start_10 : decode b_D_start 10 = .ok (.aload_n 0, 1) := by decide +kernel
theorem d_D_start_11 : decode b_D_start 11 = .ok (.iload_n 1, 1) := by decide +kernel
theorem d_D_start_12 : decode b_D_start 12 = .ok (.invokevirtual 113, 3) := by decide +kernel
theorem d_D_start_15 : decode b_D_start 15 = .ok (.aload_n 0, 1) := by decide +kernel
theorem d_D_start_16 : decode b_D_start 16 = .ok (.iconst 1, 1) := by decide +kernel
theorem d_D_start_17 : decode b_D_start 17 = .ok (.putfield 103, 3) := by decide +kernel
theorem d_D_start_20 : decode b_D_start 20 = .ok (.aload_n 0, 1) := by decide +kernel
theorem d_D_start_21 : decode b_D_start 21 = .ok (.iconst 0, 1) := by decide +kernel
theorem d_D_start_22 : decode b_D_start 22 = .ok (.putfield 116, 3) := by decide +kernel
theorem d_D_start_25 : decode b_D_start 25 = .ok (.aload_n 0, 1) := by decide +kernel
theorem d_D_start_26 : decode b_D_start 26 = .ok (.iconst 0, 1) := by decide +kernel
theorem d_D_start_27 : decode b_D_start 27 = .ok (.putfield 106, 3) := by decide +kernel
theorem d_D_start_30 : decode b_D_start 30 = .ok (.iconst 1, 1) := by decide +kernel
theorem d_D_start_31 : decode b_D_start 31 = .ok (.ireturn, 1) := by decide +kernel
theorem d_D_keyByte_0 : decode b_D_keyByte 0 = .ok (.aload_n 0, 1) := by decide +kernel
theorem d_D_keyByte_1 : decode b_D_keyByte 1 = .ok (.getfield 96, 3) := by decide +kernel
theorem d_D_keyByte_4 : decode b_D_keyByte 4 = .ok (.ifCond .eq (32), 3) := by decide +kernel
theorem d_D_keyByte_7 : decode b_D_keyByte 7 = .ok (.aload_n 0, 1) := by decide +kernel
theorem d_D_keyByte_8 : decode b_D_keyByte 8 = .ok (.getfield 103, 3) := by decide +kernel
theorem d_D_keyByte_11 : decode b_D_keyByte 11 = .ok (.ifCond .ne (25), 3) := by decide +kernel
theorem d_D_keyByte_14 : decode b_D_keyByte 14 = .ok (.iload_n 1, 1) := by decide +kernel
theorem d_D_keyByte_15 : decode b_D_keyByte 15 = .ok (.ifCond .lt (21), 3) := by decide +kernel
theorem d_D_keyByte_18 : decode b_D_keyByte 18 = .ok (.iload_n 1, 1) := by decide +kernel
theorem d_D_keyByte_19 : decode b_D_keyByte 19 = .ok (.sipush 255, 3) := by decide +kernel
theorem d_D_keyByte_22 : decode b_D_keyByte 22 = .ok (.if_icmp .gt (14), 3) := by decide +kernel
theorem d_D_keyByte_25 : decode b_D_keyByte 25 = .ok (.aload_n 0, 1) := by decide +kernel
theorem d_D_keyByte_26 : decode b_D_keyByte 26 = .ok (.getfield 100, 3) := by decide +kernel
theorem d_D_keyByte_29 : decode b_D_keyByte 29 = .ok (.aload_n 0, 1) := by decide +kernel
theorem d_D_keyByte_30 : decode b_D_keyByte 30 = .ok (.getfield 35, 3) := by decide +kernel
theorem d_D_keyByte_33 : decode b_D_keyByte 33 = .ok (.if_icmp .ne (5), 3) := by decide +kernel
theorem d_D_keyByte_36 : decode b_D_keyByte 36 = .ok (.iconst 0, 1) := by decide +kernel
theorem d_D_keyByte_37 : decode b_D_keyByte 37 = .ok (.ireturn, 1) := by decide +kernel
theorem d_D_keyByte_38 : decode b_D_keyByte 38 = .ok (.aload_n 0, 1) := by decide +kernel
theorem d_D_keyByte_39 : decode b_D_keyByte 39 = .ok (.getfield 39, 3) := by decide +kernel
theorem d_D_keyByte_42 : decode b_D_keyByte 42 = .ok (.aload_n 0, 1) := by decide +kernel
theorem d_D_keyByte_43 : decode b_D_keyByte 43 = .ok (.dup, 1) := by decide +kernel
theorem d_D_keyByte_44 : decode b_D_keyByte 44 = .ok (.getfield 100, 3) := by decide +kernel
theorem d_D_keyByte_47 : decode b_D_keyByte 47 = .ok (.dup_x1, 1) := by decide +kernel
theorem d_D_keyByte_48 : decode b_D_keyByte 48 = .ok (.iconst 1, 1) := by decide +kernel
theorem d_D_keyByte_49 : decode b_D_keyByte 49 = .ok (.iadd, 1) := by decide +kernel
theorem d_D_keyByte_50 : decode b_D_keyByte 50 = .ok (.putfield 100, 3) := by decide +kernel
theorem d_D_keyByte_53 : decode b_D_keyByte 53 = .ok (.iload_n 1, 1) := by decide +kernel
theorem d_D_keyByte_54 : decode b_D_keyByte 54 = .ok (.i2b, 1) := by decide +kernel
theorem d_D_keyByte_55 : decode b_D_keyByte 55 = .ok (.bastore, 1) := by decide +kernel
theorem d_D_keyByte_56 : decode b_D_keyByte 56 = .ok (.iconst 1, 1) := by decide +kernel
theorem d_D_keyByte_57 : decode b_D_keyByte 57 = .ok (.ireturn, 1) := by decide +kernel
theorem d_D_startMac_0 : decode b_D_startMac 0 = .ok (.aload_n 0, 1) := by decide +kernel
theorem d_D_startMac_1 : decode b_D_startMac 1 = .ok (.iload_n 1, 1) := by decide +kernel
theorem d_D_startMac_2 : decode b_D_startMac 2 = .ok (.invokevirtual 109, 3) := by decide +kernel
theorem d_D_startMac_5 : decode b_D_startMac 5 = .ok (.ifCond .ne (5), 3) := by decide +kernel
theorem d_D_startMac_8 : decode b_D_startMac 8 = .ok (.iconst 0, 1) := by decide +kernel
theorem d_D_startMac_9 : decode b_D_startMac 9 = .ok (.ireturn, 1) := by decide +kernel
theorem d_D_startMac_10 : decode b_D_startMac 10 = .ok (.aload_n 0, 1) := by decide +kernel
theorem d_D_startMac_11 : decode b_D_startMac 11 = .ok (.iload_n 1, 1) := by decide +kernel
theorem d_D_startMac_12 : decode b_D_startMac 12 = .ok (.invokevirtual 119, 3) := by decide +kernel
theorem d_D_startMac_15 : decode b_D_startMac 15 = .ok (.aload_n 0, 1) := by decide +kernel
theorem d_D_startMac_16 : decode b_D_startMac 16 = .ok (.iload_n 1, 1) := by decide +kernel
theorem d_D_startMac_17 : decode b_D_startMac 17 = .ok (.invokevirtual 113, 3) := by decide +kernel
theorem d_D_startMac_20 : decode b_D_startMac 20 = .ok (.aload_n 0, 1) := by decide +kernel
theorem d_D_startMac_21 : decode b_D_startMac 21 = .ok (.getfield 20, 3) := by decide +kernel
theorem d_D_startMac_24 : decode b_D_startMac 24 = .ok (.astore_n 2, 1) := by decide +kernel
theorem d_D_startMac_25 : decode b_D_startMac 25 = .ok (.aload_n 2, 1) := by decide +kernel
theorem d_D_startMac_26 : decode b_D_startMac 26 = .ok (.arraylength, 1) := by decide +kernel
theorem d_D_startMac_27 : decode b_D_startMac 27 = .ok (.istore_n 3, 1) := by decide +kernel
theorem d_D_startMac_28 : decode b_D_startMac 28 = .ok (.iconst 0, 1) := by decide +kernel
theorem d_D_startMac_29 : decode b_D_startMac 29 = .ok (.istore 4, 2) := by decide +kernel
theorem d_D_startMac_31 : decode b_D_startMac 31 = .ok (.iload 4, 2) := by decide +kernel
theorem d_D_startMac_33 : decode b_D_startMac 33 = .ok (.iload_n 3, 1) := by decide +kernel
theorem d_D_startMac_34 : decode b_D_startMac 34 = .ok (.if_icmp .ge (24), 3) := by decide +kernel
theorem d_D_startMac_37 : decode b_D_startMac 37 = .ok (.aload_n 2, 1) := by decide +kernel
theorem d_D_startMac_38 : decode b_D_startMac 38 = .ok (.iload 4, 2) := by decide +kernel
theorem d_D_startMac_40 : decode b_D_startMac 40 = .ok (.baload, 1) := by decide +kernel
theorem d_D_startMac_41 : decode b_D_startMac 41 = .ok (.istore 5, 2) := by decide +kernel
theorem d_D_startMac_43 : decode b_D_startMac 43 = .ok (.aload_n 0, 1) := by decide +kernel
theorem d_D_startMac_44 : decode b_D_startMac 44 = .ok (.iload 5, 2) := by decide +kernel
theorem d_D_startMac_46 : decode b_D_startMac 46 = .ok (.bipush 54, 2) := by decide +kernel
theorem d_D_startMac_48 : decode b_D_startMac 48 = .ok (.ixor, 1) := by decide +kernel
theorem d_D_startMac_49 : decode b_D_startMac 49 = .ok (.invokevirtual 86, 3) := by decide +kernel
theorem d_D_startMac_52 : decode b_D_startMac 52 = .ok (.iinc 4 (1), 3) := by decide +kernel
theorem d_D_startMac_55 : decode b_D_startMac 55 = .ok (.goto (-24), 3) := by decide +kernel
theorem d_D_startMac_58 : decode b_D_startMac 58 = .ok (.aload_n 0, 1) := by decide +kernel
theorem d_D_startMac_59 : decode b_D_startMac 59 = .ok (.iconst 1, 1) := by decide +kernel
theorem d_D_startMac_60 : decode b_D_startMac 60 = .ok (.putfield 103, 3) := by decide +kernel
theorem d_D_startMac_63 : decode b_D_startMac 63 = .ok (.aload_n 0, 1) := by decide +kernel
theorem d_D_startMac_64 : decode b_D_startMac 64 = .ok (.iconst 1, 1) := by decide +kernel
theorem d_D_startMac_65 : decode b_D_startMac 65 = .ok (.putfield 116, 3) := by decide +kernel
theorem d_D_startMac_68 : decode b_D_startMac 68 = .ok (.aload_n 0, 1) := by decide +kernel
theorem d_D_startMac_69 : decode b_D_startMac 69 = .ok (.iconst 0, 1) := by decide +kernel
theorem d_D_startMac_70 : decode b_D_startMac 70 = .ok (.putfield 106, 3) := by decide +kernel
theorem d_D_startMac_73 : decode b_D_startMac 73 = .ok (.iconst 1, 1) := by decide +kernel
theorem d_D_startMac_74 : decode b_D_startMac 74 = .ok (.ireturn, 1) := by decide +kernel
theorem d_D_fill_0 : decode b_D_fill 0 = .ok (.aload_n 0, 1) := by decide +kernel
theorem d_D_fill_1 : decode b_D_fill 1 = .ok (.getfield 100, 3) := by decide +kernel
theorem d_D_fill_4 : decode b_D_fill 4 = .ok (.istore_n 2, 1) := by decide +kernel
theorem d_D_fill_5 : decode b_D_fill 5 = .ok (.iload_n 2, 1) := by decide +kernel
theorem d_D_fill_6 : decode b_D_fill 6 = .ok (.bipush 64, 2) := by decide +kernel
theorem d_D_fill_8 : decode b_D_fill 8 = .ok (.if_icmp .le (57), 3) := by decide +kernel
theorem d_D_fill_11 : decode b_D_fill 11 = .ok (.aload_n 0, 1) := by decide +kernel
theorem d_D_fill_12 : decode b_D_fill 12 = .ok (.iload_n 1, 1) := by decide +kernel
theorem d_D_fill_13 : decode b_D_fill 13 = .ok (.invokevirtual 113, 3) := by decide +kernel
theorem d_D_fill_16 : decode b_D_fill 16 = .ok (.iconst 0, 1) := by decide +kernel
theorem d_D_fill_17 : decode b_D_fill 17 = .ok (.istore_n 3, 1) := by decide +kernel
theorem d_D_fill_18 : decode b_D_fill 18 = .ok (.iload_n 3, 1) := by decide +kernel
theorem d_D_fill_19 : decode b_D_fill 19 = .ok (.iload_n 2, 1) := by decide +kernel
theorem d_D_fill_20 : decode b_D_fill 20 = .ok (.if_icmp .ge (19), 3) := by decide +kernel
theorem d_D_fill_23 : decode b_D_fill 23 = .ok (.aload_n 0, 1) := by decide +kernel
theorem d_D_fill_24 : decode b_D_fill 24 = .ok (.aload_n 0, 1) := by decide +kernel
theorem d_D_fill_25 : decode b_D_fill 25 = .ok (.getfield 39, 3) := by decide +kernel
theorem d_D_fill_28 : decode b_D_fill 28 = .ok (.iload_n 3, 1) := by decide +kernel
theorem d_D_fill_29 : decode b_D_fill 29 = .ok (.baload, 1) := by decide +kernel
theorem d_D_fill_30 : decode b_D_fill 30 = .ok (.invokevirtual 86, 3) := by decide +kernel
theorem d_D_fill_33 : decode b_D_fill 33 = .ok (.iinc 3 (1), 3) := by decide +kernel
theorem d_D_fill_36 : decode b_D_fill 36 = .ok (.goto (-18), 3) := by decide +kernel
theorem d_D_fill_39 : decode b_D_fill 39 = .ok (.aload_n 0, 1) := by decide +kernel
theorem d_D_fill_40 : decode b_D_fill 40 = .ok (.invokevirtual 122, 3) := by decide +kernel
theorem d_D_fill_43 : decode b_D_fill 43 = .ok (.iload_n 1, 1) := by decide +kernel
theorem d_D_fill_44 : decode b_D_fill 44 = .ok (.invokestatic 92, 3) := by decide +kernel
theorem d_D_fill_47 : decode b_D_fill 47 = .ok (.istore_n 2, 1) := by decide +kernel
theorem d_D_fill_48 : decode b_D_fill 48 = .ok (.aload_n 0, 1) := by decide +kernel
theorem d_D_fill_49 : decode b_D_fill 49 = .ok (.getfield 23, 3) := by decide +kernel
theorem d_D_fill_52 : decode b_D_fill 52 = .ok (.iconst 0, 1) := by decide +kernel
theorem d_D_fill_53 : decode b_D_fill 53 = .ok (.aload_n 0, 1) := by decide +kernel
theorem d_D_fill_54 : decode b_D_fill 54 = .ok (.getfield 20, 3) := by decide +kernel
theorem d_D_fill_57 : decode b_D_fill 57 = .ok (.iconst 0, 1) := by decide +kernel
theorem d_D_fill_58 : decode b_D_fill 58 = .ok (.iload_n 2, 1) := by decide +kernel
theorem d_D_fill_59 : decode b_D_fill 59 = .ok (.invokestatic 52, 3) := by decide +kernel
theorem d_D_fill_62 : decode b_D_fill 62 = .ok (.goto (17), 3) := by decide +kernel
theorem d_D_fill_65 : decode b_D_fill 65 = .ok (.aload_n 0, 1) := by decide +kernel
theorem d_D_fill_66 : decode b_D_fill 66 = .ok (.getfield 39, 3) := by decide +kernel
theorem d_D_fill_69 : decode b_D_fill 69 = .ok (.iconst 0, 1) := by decide +kernel
theorem d_D_fill_70 : decode b_D_fill 70 = .ok (.aload_n 0, 1) := by decide +kernel
theorem d_D_fill_71 : decode b_D_fill 71 = .ok (.getfield 20, 3) := by decide +kernel
theorem d_D_fill_74 : decode b_D_fill 74 = .ok (.iconst 0, 1) := by decide +kernel
theorem d_D_fill_75 : decode b_D_fill 75 = .ok (.iload_n 2, 1) := by decide +kernel
theorem d_D_fill_76 : decode b_D_fill 76 = .ok (.invokestatic 52, 3) := by decide +kernel
theorem d_D_fill_79 : decode b_D_fill 79 = .ok (.iload_n 2, 1) := by decide +kernel
theorem d_D_fill_80 : decode b_D_fill 80 = .ok (.istore_n 3, 1) := by decide +kernel
theorem d_D_fill_81 : decode b_D_fill 81 = .ok (.iload_n 3, 1) := by decide +kernel
theorem d_D_fill_82 : decode b_D_fill 82 = .ok (.bipush 64, 2) := by decide +kernel
theorem d_D_fill_84 : decode b_D_fill 84 = .ok (.if_icmp .ge (16), 3) := by decide +kernel
theorem d_D_fill_87 : decode b_D_fill 87 = .ok (.aload_n 0, 1) := by decide +kernel
theorem d_D_fill_88 : decode b_D_fill 88 = .ok (.getfield 20, 3) := by decide +kernel
theorem d_D_fill_91 : decode b_D_fill 91 = .ok (.iload_n 3, 1) := by decide +kernel
theorem d_D_fill_92 : decode b_D_fill 92 = .ok (.iconst 0, 1) := by decide +kernel
theorem d_D_fill_93 : decode b_D_fill 93 = .ok (.bastore, 1) := by decide +kernel
theorem d_D_fill_94 : decode b_D_fill 94 = .ok (.iinc 3 (1), 3) := by decide +kernel
theorem d_D_fill_97 : decode b_D_fill 97 = .ok (.goto (-16), 3) := by decide +kernel
theorem d_D_fill_100 : decode b_D_fill 100 = .ok (.return_, 1) := by decide +kernel
theorem d_D_update_0 : decode b_D_update 0 = .ok (.aload_n 0, 1) := by decide +kernel
theorem d_D_update_1 : decode b_D_update 1 = .ok (.getfield 103, 3) := by decide +kernel
theorem d_D_update_4 : decode b_D_update 4 = .ok (.ifCond .eq (14), 3) := by decide +kernel
theorem d_D_update_7 : decode b_D_update 7 = .ok (.iload_n 1, 1) := by decide +kernel
theorem d_D_update_8 : decode b_D_update 8 = .ok (.ifCond .lt (10), 3) := by decide +kernel
theorem d_D_update_11 : decode b_D_update 11 = .ok (.iload_n 1, 1) := by decide +kernel
theorem d_D_update_12 : decode b_D_update 12 = .ok (.sipush 255, 3) := by decide +kernel
theorem d_D_update_15 : decode b_D_update 15 = .ok (.if_icmp .le (5), 3) := by decide +kernel
theorem d_D_update_18 : decode b_D_update 18 = .ok (.iconst 0, 1) := by decide +kernel
theorem d_D_update_19 : decode b_D_update 19 = .ok (.ireturn, 1) := by decide +kernel
theorem d_D_update_20 : decode b_D_update 20 = .ok (.aload_n 0, 1) := by decide +kernel
theorem d_D_update_21 : decode b_D_update 21 = .ok (.iload_n 1, 1) := by decide +kernel
theorem d_D_update_22 : decode b_D_update 22 = .ok (.invokevirtual 86, 3) := by decide +kernel
theorem d_D_update_25 : decode b_D_update 25 = .ok (.iconst 1, 1) := by decide +kernel
theorem d_D_update_26 : decode b_D_update 26 = .ok (.ireturn, 1) := by decide +kernel
theorem d_D_pour_0 : decode b_D_pour 0 = .ok (.aload_n 0, 1) := by decide +kernel
theorem d_D_pour_1 : decode b_D_pour 1 = .ok (.getfield 103, 3) := by decide +kernel
theorem d_D_pour_4 : decode b_D_pour 4 = .ok (.ifCond .eq (29), 3) := by decide +kernel
theorem d_D_pour_7 : decode b_D_pour 7 = .ok (.iload 4, 2) := by decide +kernel
theorem d_D_pour_9 : decode b_D_pour 9 = .ok (.ifCond .lt (24), 3) := by decide +kernel
theorem d_D_pour_12 : decode b_D_pour 12 = .ok (.iload 4, 2) := by decide +kernel
theorem d_D_pour_14 : decode b_D_pour 14 = .ok (.bipush 12, 2) := by decide +kernel
theorem d_D_pour_16 : decode b_D_pour 16 = .ok (.if_icmp .gt (17), 3) := by decide +kernel
theorem d_D_pour_19 : decode b_D_pour 19 = .ok (.iload 5, 2) := by decide +kernel
theorem d_D_pour_21 : decode b_D_pour 21 = .ok (.iconst 1, 1) := by decide +kernel
theorem d_D_pour_22 : decode b_D_pour 22 = .ok (.if_icmp .lt (11), 3) := by decide +kernel
theorem d_D_pour_25 : decode b_D_pour 25 = .ok (.iload 5, 2) := by decide +kernel
theorem d_D_pour_27 : decode b_D_pour 27 = .ok (.sipush 1000, 3) := by decide +kernel
theorem d_D_pour_30 : decode b_D_pour 30 = .ok (.if_icmp .le (5), 3) := by decide +kernel
theorem d_D_pour_33 : decode b_D_pour 33 = .ok (.iconst 0, 1) := by decide +kernel
theorem d_D_pour_34 : decode b_D_pour 34 = .ok (.ireturn, 1) := by decide +kernel
theorem d_D_pour_35 : decode b_D_pour 35 = .ok (.iconst 0, 1) := by decide +kernel
theorem d_D_pour_36 : decode b_D_pour 36 = .ok (.istore 6, 2) := by decide +kernel
theorem d_D_pour_38 : decode b_D_pour 38 = .ok (.iload 6, 2) := by decide +kernel
theorem d_D_pour_40 : decode b_D_pour 40 = .ok (.iload 5, 2) := by decide +kernel
theorem d_D_pour_42 : decode b_D_pour 42 = .ok (.if_icmp .ge (66), 3) := by decide +kernel
theorem d_D_pour_45 : decode b_D_pour 45 = .ok (.iconst 0, 1) := by decide +kernel
theorem d_D_pour_46 : decode b_D_pour 46 = .ok (.istore 7, 2) := by decide +kernel
theorem d_D_pour_48 : decode b_D_pour 48 = .ok (.iload 7, 2) := by decide +kernel
theorem d_D_pour_50 : decode b_D_pour 50 = .ok (.iload 4, 2) := by decide +kernel
theorem d_D_pour_52 : decode b_D_pour 52 = .ok (.if_icmp .ge (50), 3) := by decide +kernel
theorem d_D_pour_55 : decode b_D_pour 55 = .ok (.iload 7, 2) := by decide +kernel
theorem d_D_pour_57 : decode b_D_pour 57 = .ok (.iconst 4, 1) := by decide +kernel
theorem d_D_pour_58 : decode b_D_pour 58 = .ok (.if_icmp .ge (7), 3) := by decide +kernel
theorem d_D_pour_61 : decode b_D_pour 61 = .ok (.iload_n 1, 1) := by decide +kernel
theorem d_D_pour_62 : decode b_D_pour 62 = .ok (.goto (15), 3) := by decide +kernel
theorem d_D_pour_65 : decode b_D_pour 65 = .ok (.iload 7, 2) := by decide +kernel
theorem d_D_pour_67 : decode b_D_pour 67 = .ok (.bipush 8, 2) := by decide +kernel
theorem d_D_pour_69 : decode b_D_pour 69 = .ok (.if_icmp .ge (7), 3) := by decide +kernel
theorem d_D_pour_72 : decode b_D_pour 72 = .ok (.iload_n 2, 1) := by decide +kernel
theorem d_D_pour_73 : decode b_D_pour 73 = .ok (.goto (4), 3) := by decide +kernel
theorem d_D_pour_76 : decode b_D_pour 76 = .ok (.iload_n 3, 1) := by decide +kernel
theorem d_D_pour_77 : decode b_D_pour 77 = .ok (.istore 8, 2) := by decide +kernel
theorem d_D_pour_79 : decode b_D_pour 79 = .ok (.aload_n 0, 1) := by decide +kernel
theorem d_D_pour_80 : decode b_D_pour 80 = .ok (.iload 8, 2) := by decide +kernel
theorem d_D_pour_82 : decode b_D_pour 82 = .ok (.bipush 24, 2) := by decide +kernel
theorem d_D_pour_84 : decode b_D_pour 84 = .ok (.bipush 8, 2) := by decide +kernel
theorem d_D_pour_86 : decode b_D_pour 86 = .ok (.iload 7, 2) := by decide +kernel
theorem d_D_pour_88 : decode b_D_pour 88 = .ok (.iconst 4, 1) := by decide +kernel
theorem d_D_pour_89 : decode b_D_pour 89 = .ok (.irem, 1) := by decide +kernel
theorem d_D_pour_90 : decode b_D_pour 90 = .ok (.imul, 1) := by decide +kernel
theorem d_D_pour_91 : decode b_D_pour 91 = .ok (.isub, 1) := by decide +kernel
theorem d_D_pour_92 : decode b_D_pour 92 = .ok (.ishr, 1) := by decide +kernel
theorem d_D_pour_93 : decode b_D_pour 93 = .ok (.invokevirtual 86, 3) := by decide +kernel
theorem d_D_pour_96 : decode b_D_pour 96 = .ok (.iinc 7 (1), 3) := by decide +kernel
theorem d_D_pour_99 : decode b_D_pour 99 = .ok (.goto (-51), 3) := by decide +kernel
theorem d_D_pour_102 : decode b_D_pour 102 = .ok (.iinc 6 (1), 3) := by decide +kernel
theorem d_D_pour_105 : decode b_D_pour 105 = .ok (.goto (-67), 3) := by decide +kernel
theorem d_D_pour_108 : decode b_D_pour 108 = .ok (.iconst 1, 1) := by decide +kernel
theorem d_D_pour_109 : decode b_D_pour 109 = .ok (.ireturn, 1) := by decide +kernel
theorem d_D_finish_0 : decode b_D_finish 0 = .ok (.aload_n 0, 1) := by decide +kernel
theorem d_D_finish_1 : decode b_D_finish 1 = .ok (.getfield 103, 3) := by decide +kernel
theorem d_D_finish_4 : decode b_D_finish 4 = .ok (.ifCond .ne (5), 3) := by decide +kernel
theorem d_D_finish_7 : decode b_D_finish 7 = .ok (.iconst 0, 1) := by decide +kernel
theorem d_D_finish_8 : decode b_D_finish 8 = .ok (.ireturn, 1) := by decide +kernel
theorem d_D_finish_9 : decode b_D_finish 9 = .ok (.aload_n 0, 1) := by decide +kernel
theorem d_D_finish_10 : decode b_D_finish 10 = .ok (.invokevirtual 122, 3) := by decide +kernel
theorem d_D_finish_13 : decode b_D_finish 13 = .ok (.aload_n 0, 1) := by decide +kernel
theorem d_D_finish_14 : decode b_D_finish 14 = .ok (.getfield 116, 3) := by decide +kernel
theorem d_D_finish_17 : decode b_D_finish 17 = .ok (.ifCond .eq (84), 3) := by decide +kernel
theorem d_D_finish_20 : decode b_D_finish 20 = .ok (.aload_n 0, 1) := by decide +kernel
theorem d_D_finish_21 : decode b_D_finish 21 = .ok (.aload_n 0, 1) := by decide +kernel
theorem d_D_finish_22 : decode b_D_finish 22 = .ok (.getfield 42, 3) := by decide +kernel
theorem d_D_finish_25 : decode b_D_finish 25 = .ok (.invokevirtual 113, 3) := by decide +kernel
theorem d_D_finish_28 : decode b_D_finish 28 = .ok (.aload_n 0, 1) := by decide +kernel
theorem d_D_finish_29 : decode b_D_finish 29 = .ok (.getfield 20, 3) := by decide +kernel
theorem d_D_finish_32 : decode b_D_finish 32 = .ok (.astore_n 1, 1) := by decide +kernel
theorem d_D_finish_33 : decode b_D_finish 33 = .ok (.aload_n 1, 1) := by decide +kernel
theorem d_D_finish_34 : decode b_D_finish 34 = .ok (.arraylength, 1) := by decide +kernel
theorem d_D_finish_35 : decode b_D_finish 35 = .ok (.istore_n 2, 1) := by decide +kernel
theorem d_D_finish_36 : decode b_D_finish 36 = .ok (.iconst 0, 1) := by decide +kernel
theorem d_D_finish_37 : decode b_D_finish 37 = .ok (.istore_n 3, 1) := by decide +kernel
theorem d_D_finish_38 : decode b_D_finish 38 = .ok (.iload_n 3, 1) := by decide +kernel
theorem d_D_finish_39 : decode b_D_finish 39 = .ok (.iload_n 2, 1) := by decide +kernel
theorem d_D_finish_40 : decode b_D_finish 40 = .ok (.if_icmp .ge (23), 3) := by decide +kernel
theorem d_D_finish_43 : decode b_D_finish 43 = .ok (.aload_n 1, 1) := by decide +kernel
theorem d_D_finish_44 : decode b_D_finish 44 = .ok (.iload_n 3, 1) := by decide +kernel
theorem d_D_finish_45 : decode b_D_finish 45 = .ok (.baload, 1) := by decide +kernel
theorem d_D_finish_46 : decode b_D_finish 46 = .ok (.istore 4, 2) := by decide +kernel
theorem d_D_finish_48 : decode b_D_finish 48 = .ok (.aload_n 0, 1) := by decide +kernel
theorem d_D_finish_49 : decode b_D_finish 49 = .ok (.iload 4, 2) := by decide +kernel
theorem d_D_finish_51 : decode b_D_finish 51 = .ok (.bipush 92, 2) := by decide +kernel
theorem d_D_finish_53 : decode b_D_finish 53 = .ok (.ixor, 1) := by decide +kernel
theorem d_D_finish_54 : decode b_D_finish 54 = .ok (.invokevirtual 86, 3) := by decide +kernel
theorem d_D_finish_57 : decode b_D_finish 57 = .ok (.iinc 3 (1), 3) := by decide +kernel
theorem d_D_finish_60 : decode b_D_finish 60 = .ok (.goto (-22), 3) := by decide +kernel
theorem d_D_finish_63 : decode b_D_finish 63 = .ok (.iconst 0, 1) := by decide +kernel
theorem d_D_finish_64 : decode b_D_finish 64 = .ok (.istore_n 1, 1) := by decide +kernel
theorem d_D_finish_65 : decode b_D_finish 65 = .ok (.iload_n 1, 1) := by decide +kernel
theorem d_D_finish_66 : decode b_D_finish 66 = .ok (.aload_n 0, 1) := by decide +kernel
theorem d_D_finish_67 : decode b_D_finish 67 = .ok (.getfield 42, 3) := by decide +kernel
theorem d_D_finish_70 : decode b_D_finish 70 = .ok (.invokestatic 92, 3) := by decide +kernel
theorem d_D_finish_73 : decode b_D_finish 73 = .ok (.if_icmp .ge (19), 3) := by decide +kernel
theorem d_D_finish_76 : decode b_D_finish 76 = .ok (.aload_n 0, 1) := by decide +kernel
theorem d_D_finish_77 : decode b_D_finish 77 = .ok (.aload_n 0, 1) := by decide +kernel
theorem d_D_finish_78 : decode b_D_finish 78 = .ok (.getfield 23, 3) := by decide +kernel
theorem d_D_finish_81 : decode b_D_finish 81 = .ok (.iload_n 1, 1) := by decide +kernel
theorem d_D_finish_82 : decode b_D_finish 82 = .ok (.baload, 1) := by decide +kernel
theorem d_D_finish_83 : decode b_D_finish 83 = .ok (.invokevirtual 86, 3) := by decide +kernel
theorem d_D_finish_86 : decode b_D_finish 86 = .ok (.iinc 1 (1), 3) := by decide +kernel
theorem d_D_finish_89 : decode b_D_finish 89 = .ok (.goto (-24), 3) := by decide +kernel
theorem d_D_finish_92 : decode b_D_finish 92 = .ok (.aload_n 0, 1) := by decide +kernel
theorem d_D_finish_93 : decode b_D_finish 93 = .ok (.invokevirtual 122, 3) := by decide +kernel
theorem d_D_finish_96 : decode b_D_finish 96 = .ok (.aload_n 0, 1) := by decide +kernel
theorem d_D_finish_97 : decode b_D_finish 97 = .ok (.iconst 0, 1) := by decide +kernel
theorem d_D_finish_98 : decode b_D_finish 98 = .ok (.putfield 100, 3) := by decide +kernel
theorem d_D_finish_101 : decode b_D_finish 101 = .ok (.aload_n 0, 1) := by decide +kernel
theorem d_D_finish_102 : decode b_D_finish 102 = .ok (.iconst 0, 1) := by decide +kernel
theorem d_D_finish_103 : decode b_D_finish 103 = .ok (.putfield 103, 3) := by decide +kernel
theorem d_D_finish_106 : decode b_D_finish 106 = .ok (.aload_n 0, 1) := by decide +kernel
theorem d_D_finish_107 : decode b_D_finish 107 = .ok (.aload_n 0, 1) := by decide +kernel
theorem d_D_finish_108 : decode b_D_finish 108 = .ok (.getfield 42, 3) := by decide +kernel
theorem d_D_finish_111 : decode b_D_finish 111 = .ok (.invokestatic 92, 3) := by decide +kernel
theorem d_D_finish_114 : decode b_D_finish 114 = .ok (.putfield 106, 3) := by decide +kernel
theorem d_D_finish_117 : decode b_D_finish 117 = .ok (.iconst 1, 1) := by decide +kernel
theorem d_D_finish_118 : decode b_D_finish 118 = .ok (.ireturn, 1) := by decide +kernel
theorem d_D_out_0 : decode b_D_out 0 = .ok (.iload_n 1, 1) := by decide +kernel
theorem d_D_out_1 : decode b_D_out 1 = .ok (.ifCond .lt (11), 3) := by decide +kernel
theorem d_D_out_4 : decode b_D_out 4 = .ok (.iload_n 1, 1) := by decide +kernel
theorem d_D_out_5 : decode b_D_out 5 = .ok (.aload_n 0, 1) := by decide +kernel
theorem d_D_out_6 : decode b_D_out 6 = .ok (.getfield 106, 3) := by decide +kernel
theorem d_D_out_9 : decode b_D_out 9 = .ok (.if_icmp .lt (7), 3) := by decide +kernel
theorem d_D_out_12 : decode b_D_out 12 = .ok (.iconst (-1), 1) := by decide +kernel
theorem d_D_out_13 : decode b_D_out 13 = .ok (.goto (13), 3) := by decide +kernel
theorem d_D_out_16 : decode b_D_out 16 = .ok (.aload_n 0, 1) := by decide +kernel
theorem d_D_out_17 : decode b_D_out 17 = .ok (.getfield 23, 3) := by decide +kernel
theorem d_D_out_20 : decode b_D_out 20 = .ok (.iload_n 1, 1) := by decide +kernel
theorem d_D_out_21 : decode b_D_out 21 = .ok (.baload, 1) := by decide +kernel
theorem d_D_out_22 : decode b_D_out 22 = .ok (.sipush 255, 3) := by decide +kernel
theorem d_D_out_25 : decode b_D_out 25 = .ok (.iand, 1) := by decide +kernel
theorem d_D_out_26 : decode b_D_out 26 = .ok (.ireturn, 1) := by decide +kernel
theorem d_D_outLen_0 : decode b_D_outLen 0 = .ok (.aload_n 0, 1) := by decide +kernel
theorem d_D_outLen_1 : decode b_D_outLen 1 = .ok (.getfield 106, 3) := by decide +kernel
theorem d_D_outLen_4 : decode b_D_outLen 4 = .ok (.ireturn, 1) := by decide +kernel
theorem d_D_keyLen_0 : decode b_D_keyLen 0 = .ok (.aload_n 0, 1) := by decide +kernel
theorem d_D_keyLen_1 : decode b_D_keyLen 1 = .ok (.getfield 100, 3) := by decide +kernel
theorem d_D_keyLen_4 : decode b_D_keyLen 4 = .ok (.ireturn, 1) := by decide +kernel
theorem d_D_length_0 : decode b_D_length 0 = .ok (.aload_n 0, 1) := by decide +kernel
theorem d_D_length_1 : decode b_D_length 1 = .ok (.getfield 103, 3) := by decide +kernel
theorem d_D_length_4 : decode b_D_length 4 = .ok (.ifCond .ne (9), 3) := by decide +kernel
theorem d_D_length_7 : decode b_D_length 7 = .ok (.ldc2_w 125, 3) := by decide +kernel
theorem d_D_length_10 : decode b_D_length 10 = .ok (.goto (25), 3) := by decide +kernel
theorem d_D_length_13 : decode b_D_length 13 = .ok (.aload_n 0, 1) := by decide +kernel
theorem d_D_length_14 : decode b_D_length 14 = .ok (.getfield 116, 3) := by decide +kernel
theorem d_D_length_17 : decode b_D_length 17 = .ok (.ifCond .eq (14), 3) := by decide +kernel
theorem d_D_length_20 : decode b_D_length 20 = .ok (.aload_n 0, 1) := by decide +kernel
theorem d_D_length_21 : decode b_D_length 21 = .ok (.getfield 45, 3) := by decide +kernel
theorem d_D_length_24 : decode b_D_length 24 = .ok (.ldc2_w 58, 3) := by decide +kernel
theorem d_D_length_27 : decode b_D_length 27 = .ok (.lsub, 1) := by decide +kernel
theorem d_D_length_28 : decode b_D_length 28 = .ok (.goto (7), 3) := by decide +kernel
theorem d_D_length_31 : decode b_D_length 31 = .ok (.aload_n 0, 1) := by decide +kernel
theorem d_D_length_32 : decode b_D_length 32 = .ok (.getfield 45, 3) := by decide +kernel
theorem d_D_length_35 : decode b_D_length 35 = .ok (.lreturn, 1) := by decide +kernel
theorem d_J_rotateLeft_0 : decode b_J_rotateLeft 0 = .ok (.iload_n 0, 1) := by decide +kernel
theorem d_J_rotateLeft_1 : decode b_J_rotateLeft 1 = .ok (.iload_n 1, 1) := by decide +kernel
theorem d_J_rotateLeft_2 : decode b_J_rotateLeft 2 = .ok (.ishl, 1) := by decide +kernel
theorem d_J_rotateLeft_3 : decode b_J_rotateLeft 3 = .ok (.iload_n 0, 1) := by decide +kernel
theorem d_J_rotateLeft_4 : decode b_J_rotateLeft 4 = .ok (.iload_n 1, 1) := by decide +kernel
theorem d_J_rotateLeft_5 : decode b_J_rotateLeft 5 = .ok (.ineg, 1) := by decide +kernel
theorem d_J_rotateLeft_6 : decode b_J_rotateLeft 6 = .ok (.iushr, 1) := by decide +kernel
theorem d_J_rotateLeft_7 : decode b_J_rotateLeft 7 = .ok (.ior, 1) := by decide +kernel
theorem d_J_rotateLeft_8 : decode b_J_rotateLeft 8 = .ok (.ireturn, 1) := by decide +kernel
end
section
theorem d_M_size_0 : decode b_M_size 0 = .ok (.dload_n 0, 1) := by decide +kernel
theorem d_M_size_1 : decode b_M_size 1 = .ok (.dconst 0, 1) := by decide +kernel
theorem d_M_size_2 : decode b_M_size 2 = .ok (.dcmp .g, 1) := by decide +kernel
theorem d_M_size_3 : decode b_M_size 3 = .ok (.ifCond .ge (9), 3) := by decide +kernel
theorem d_M_size_6 : decode b_M_size 6 = .ok (.dconst 0, 1) := by decide +kernel
theorem d_M_size_7 : decode b_M_size 7 = .ok (.dload_n 0, 1) := by decide +kernel
theorem d_M_size_8 : decode b_M_size 8 = .ok (.dsub, 1) := by decide +kernel
theorem d_M_size_9 : decode b_M_size 9 = .ok (.goto (4), 3) := by decide +kernel
theorem d_M_size_12 : decode b_M_size 12 = .ok (.dload_n 0, 1) := by decide +kernel
theorem d_M_size_13 : decode b_M_size 13 = .ok (.dreturn, 1) := by decide +kernel
theorem d_M_sine_0 : decode b_M_sine 0 = .ok (.iload_n 0, 1) := by decide +kernel
theorem d_M_sine_1 : decode b_M_sine 1 = .ok (.i2d, 1) := by decide +kernel
theorem d_M_sine_2 : decode b_M_sine 2 = .ok (.ldc2_w 66, 3) := by decide +kernel
theorem d_M_sine_5 : decode b_M_sine 5 = .ok (.ddiv, 1) := by decide +kernel
theorem d_M_sine_6 : decode b_M_sine 6 = .ok (.ldc2_w 68, 3) := by decide +kernel
theorem d_M_sine_9 : decode b_M_sine 9 = .ok (.dadd, 1) := by decide +kernel
theorem d_M_sine_10 : decode b_M_sine 10 = .ok (.d2i, 1) := by decide +kernel
theorem d_M_sine_11 : decode b_M_sine 11 = .ok (.istore_n 1, 1) := by decide +kernel
theorem d_M_sine_12 : decode b_M_sine 12 = .ok (.iload_n 0, 1) := by decide +kernel
theorem d_M_sine_13 : decode b_M_sine 13 = .ok (.i2d, 1) := by decide +kernel
theorem d_M_sine_14 : decode b_M_sine 14 = .ok (.iload_n 1, 1) := by decide +kernel
theorem d_M_sine_15 : decode b_M_sine 15 = .ok (.i2d, 1) := by decide +kernel
theorem d_M_sine_16 : decode b_M_sine 16 = .ok (.ldc2_w 66, 3) := by decide +kernel
theorem d_M_sine_19 : decode b_M_sine 19 = .ok (.dmul, 1) := by decide +kernel
theorem d_M_sine_20 : decode b_M_sine 20 = .ok (.dsub, 1) := by decide +kernel
theorem d_M_sine_21 : decode b_M_sine 21 = .ok (.iload_n 1, 1) := by decide +kernel
theorem d_M_sine_22 : decode b_M_sine 22 = .ok (.i2d, 1) := by decide +kernel
theorem d_M_sine_23 : decode b_M_sine 23 = .ok (.ldc2_w 70, 3) := by decide +kernel
theorem d_M_sine_26 : decode b_M_sine 26 = .ok (.dmul, 1) := by decide +kernel
theorem d_M_sine_27 : decode b_M_sine 27 = .ok (.dsub, 1) := by decide +kernel
theorem d_M_sine_28 : decode b_M_sine 28 = .ok (.dstore_n 2, 1) := by decide +kernel
theorem d_M_sine_29 : decode b_M_sine 29 = .ok (.dconst 0, 1) := by decide +kernel
theorem d_M_sine_30 : decode b_M_sine 30 = .ok (.dstore 4, 2) := by decide +kernel
theorem d_M_sine_32 : decode b_M_sine 32 = .ok (.dload_n 2, 1) := by decide +kernel
theorem d_M_sine_33 : decode b_M_sine 33 = .ok (.dstore 6, 2) := by decide +kernel
theorem d_M_sine_35 : decode b_M_sine 35 = .ok (.iconst 1, 1) := by decide +kernel
theorem d_M_sine_36 : decode b_M_sine 36 = .ok (.istore 8, 2) := by decide +kernel
theorem d_M_sine_38 : decode b_M_sine 38 = .ok (.iload 8, 2) := by decide +kernel
theorem d_M_sine_40 : decode b_M_sine 40 = .ok (.bipush 40, 2) := by decide +kernel
theorem d_M_sine_42 : decode b_M_sine 42 = .ok (.if_icmp .ge (37), 3) := by decide +kernel
theorem d_M_sine_45 : decode b_M_sine 45 = .ok (.dload 4, 2) := by decide +kernel
theorem d_M_sine_47 : decode b_M_sine 47 = .ok (.dload 6, 2) := by decide +kernel
theorem d_M_sine_49 : decode b_M_sine 49 = .ok (.dadd, 1) := by decide +kernel
theorem d_M_sine_50 : decode b_M_sine 50 = .ok (.dstore 4, 2) := by decide +kernel
theorem d_M_sine_52 : decode b_M_sine 52 = .ok (.dconst 0, 1) := by decide +kernel
theorem d_M_sine_53 : decode b_M_sine 53 = .ok (.dload 6, 2) := by decide +kernel
theorem d_M_sine_55 : decode b_M_sine 55 = .ok (.dload_n 2, 1) := by decide +kernel
theorem d_M_sine_56 : decode b_M_sine 56 = .ok (.dmul, 1) := by decide +kernel
theorem d_M_sine_57 : decode b_M_sine 57 = .ok (.dload_n 2, 1) := by decide +kernel
theorem d_M_sine_58 : decode b_M_sine 58 = .ok (.dmul, 1) := by decide +kernel
theorem d_M_sine_59 : decode b_M_sine 59 = .ok (.iload 8, 2) := by decide +kernel
theorem d_M_sine_61 : decode b_M_sine 61 = .ok (.iconst 1, 1) := by decide +kernel
theorem d_M_sine_62 : decode b_M_sine 62 = .ok (.iadd, 1) := by decide +kernel
theorem d_M_sine_63 : decode b_M_sine 63 = .ok (.iload 8, 2) := by decide +kernel
theorem d_M_sine_65 : decode b_M_sine 65 = .ok (.iconst 2, 1) := by decide +kernel
theorem d_M_sine_66 : decode b_M_sine 66 = .ok (.iadd, 1) := by decide +kernel
theorem d_M_sine_67 : decode b_M_sine 67 = .ok (.imul, 1) := by decide +kernel
theorem d_M_sine_68 : decode b_M_sine 68 = .ok (.i2d, 1) := by decide +kernel
theorem d_M_sine_69 : decode b_M_sine 69 = .ok (.ddiv, 1) := by decide +kernel
theorem d_M_sine_70 : decode b_M_sine 70 = .ok (.dsub, 1) := by decide +kernel
theorem d_M_sine_71 : decode b_M_sine 71 = .ok (.dstore 6, 2) := by decide +kernel
theorem d_M_sine_73 : decode b_M_sine 73 = .ok (.iinc 8 (2), 3) := by decide +kernel
theorem d_M_sine_76 : decode b_M_sine 76 = .ok (.goto (-38), 3) := by decide +kernel
theorem d_M_sine_79 : decode b_M_sine 79 = .ok (.dload 4, 2) := by decide +kernel
theorem d_M_sine_81 : decode b_M_sine 81 = .ok (.dreturn, 1) := by decide +kernel
theorem d_M_root_0 : decode b_M_root 0 = .ok (.lload_n 0, 1) := by decide +kernel
theorem d_M_root_1 : decode b_M_root 1 = .ok (.bipush 60, 2) := by decide +kernel
theorem d_M_root_3 : decode b_M_root 3 = .ok (.lshl, 1) := by decide +kernel
theorem d_M_root_4 : decode b_M_root 4 = .ok (.ldc2_w 72, 3) := by decide +kernel
theorem d_M_root_7 : decode b_M_root 7 = .ok (.ladd, 1) := by decide +kernel
theorem d_M_root_8 : decode b_M_root 8 = .ok (.lstore_n 2, 1) := by decide +kernel
theorem d_M_root_9 : decode b_M_root 9 = .ok (.lconst 0, 1) := by decide +kernel
theorem d_M_root_10 : decode b_M_root 10 = .ok (.lstore 4, 2) := by decide +kernel
theorem d_M_root_12 : decode b_M_root 12 = .ok (.bipush 31, 2) := by decide +kernel
theorem d_M_root_14 : decode b_M_root 14 = .ok (.istore 6, 2) := by decide +kernel
theorem d_M_root_16 : decode b_M_root 16 = .ok (.iload 6, 2) := by decide +kernel
theorem d_M_root_18 : decode b_M_root 18 = .ok (.ifCond .lt (41), 3) := by decide +kernel
theorem d_M_root_21 : decode b_M_root 21 = .ok (.lload 4, 2) := by decide +kernel
theorem d_M_root_23 : decode b_M_root 23 = .ok (.lconst 1, 1) := by decide +kernel
theorem d_M_root_24 : decode b_M_root 24 = .ok (.iload 6, 2) := by decide +kernel
theorem d_M_root_26 : decode b_M_root 26 = .ok (.lshl, 1) := by decide +kernel
theorem d_M_root_27 : decode b_M_root 27 = .ok (.lor, 1) := by decide +kernel
theorem d_M_root_28 : decode b_M_root 28 = .ok (.lstore 7, 2) := by decide +kernel
theorem d_M_root_30 : decode b_M_root 30 = .ok (.lload 7, 2) := by decide +kernel
theorem d_M_root_32 : decode b_M_root 32 = .ok (.lload 7, 2) := by decide +kernel
theorem d_M_root_34 : decode b_M_root 34 = .ok (.lmul, 1) := by decide +kernel
theorem d_M_root_35 : decode b_M_root 35 = .ok (.ldc2_w 72, 3) := by decide +kernel
theorem d_M_root_38 : decode b_M_root 38 = .ok (.ladd, 1) := by decide +kernel
theorem d_M_root_39 : decode b_M_root 39 = .ok (.lload_n 2, 1) := by decide +kernel
theorem d_M_root_40 : decode b_M_root 40 = .ok (.lcmp, 1) := by decide +kernel
theorem d_M_root_41 : decode b_M_root 41 = .ok (.ifCond .gt (8), 3) := by decide +kernel
theorem d_M_root_44 : decode b_M_root 44 = .ok (.lload 7, 2) := by decide +kernel
theorem d_M_root_46 : decode b_M_root 46 = .ok (.goto (5), 3) := by decide +kernel
theorem d_M_root_49 : decode b_M_root 49 = .ok (.lload 4, 2) := by decide +kernel
theorem d_M_root_51 : decode b_M_root 51 = .ok (.lstore 4, 2) := by decide +kernel
theorem d_M_root_53 : decode b_M_root 53 = .ok (.iinc 6 (-1), 3) := by decide +kernel
theorem d_M_root_56 : decode b_M_root 56 = .ok (.goto (-40), 3) := by decide +kernel
theorem d_M_root_59 : decode b_M_root 59 = .ok (.lload 4, 2) := by decide +kernel
theorem d_M_root_61 : decode b_M_root 61 = .ok (.l2i, 1) := by decide +kernel
theorem d_M_root_62 : decode b_M_root 62 = .ok (.ireturn, 1) := by decide +kernel
theorem d_M_left_0 : decode b_M_left 0 = .ok (.iload_n 0, 1) := by decide +kernel
theorem d_M_left_1 : decode b_M_left 1 = .ok (.iload_n 1, 1) := by decide +kernel
theorem d_M_left_2 : decode b_M_left 2 = .ok (.ishl, 1) := by decide +kernel
theorem d_M_left_3 : decode b_M_left 3 = .ok (.iload_n 0, 1) := by decide +kernel
theorem d_M_left_4 : decode b_M_left 4 = .ok (.bipush 32, 2) := by decide +kernel
theorem d_M_left_6 : decode b_M_left 6 = .ok (.iload_n 1, 1) := by decide +kernel
theorem d_M_left_7 : decode b_M_left 7 = .ok (.isub, 1) := by decide +kernel
theorem d_M_left_8 : decode b_M_left 8 = .ok (.iushr, 1) := by decide +kernel
theorem d_M_left_9 : decode b_M_left 9 = .ok (.ior, 1) := by decide +kernel
theorem d_M_left_10 : decode b_M_left 10 = .ok (.ireturn, 1) := by decide +kernel
theorem d_M_begin_0 : decode b_M_begin 0 = .ok (.aload_n 0, 1) := by decide +kernel
theorem d_M_begin_1 : decode b_M_begin 1 = .ok (.iload_n 1, 1) := by decide +kernel
theorem d_M_begin_2 : decode b_M_begin 2 = .ok (.putfield 74, 3) := by decide +kernel
theorem d_M_begin_5 : decode b_M_begin 5 = .ok (.aload_n 0, 1) := by decide +kernel
theorem d_M_begin_6 : decode b_M_begin 6 = .ok (.getfield 20, 3) := by decide +kernel
theorem d_M_begin_9 : decode b_M_begin 9 = .ok (.iconst 0, 1) := by decide +kernel
theorem d_M_begin_10 : decode b_M_begin 10 = .ok (.ldc 77, 2) := by decide +kernel
theorem d_M_begin_12 : decode b_M_begin 12 = .ok (.iastore, 1) := by decide +kernel
theorem d_M_begin_13 : decode b_M_begin 13 = .ok (.aload_n 0, 1) := by decide +kernel
theorem d_M_begin_14 : decode b_M_begin 14 = .ok (.getfield 20, 3) := by decide +kernel
theorem d_M_begin_17 : decode b_M_begin 17 = .ok (.iconst 1, 1) := by decide +kernel
theorem d_M_begin_18 : decode b_M_begin 18 = .ok (.ldc 78, 2) := by decide +kernel
theorem d_M_begin_20 : decode b_M_begin 20 = .ok (.iastore, 1) := by decide +kernel
theorem d_M_begin_21 : decode b_M_begin 21 = .ok (.aload_n 0, 1) := by decide +kernel
theorem d_M_begin_22 : decode b_M_begin 22 = .ok (.getfield 20, 3) := by decide +kernel
theorem d_M_begin_25 : decode b_M_begin 25 = .ok (.iconst 2, 1) := by decide +kernel
theorem d_M_begin_26 : decode b_M_begin 26 = .ok (.ldc 79, 2) := by decide +kernel
theorem d_M_begin_28 : decode b_M_begin 28 = .ok (.iastore, 1) := by decide +kernel
theorem d_M_begin_29 : decode b_M_begin 29 = .ok (.aload_n 0, 1) := by decide +kernel
theorem d_M_begin_30 : decode b_M_begin 30 = .ok (.getfield 20, 3) := by decide +kernel
theorem d_M_begin_33 : decode b_M_begin 33 = .ok (.iconst 3, 1) := by decide +kernel
theorem d_M_begin_34 : decode b_M_begin 34 = .ok (.ldc 80, 2) := by decide +kernel
theorem d_M_begin_36 : decode b_M_begin 36 = .ok (.iastore, 1) := by decide +kernel
theorem d_M_begin_37 : decode b_M_begin 37 = .ok (.aload_n 0, 1) := by decide +kernel
theorem d_M_begin_38 : decode b_M_begin 38 = .ok (.getfield 20, 3) := by decide +kernel
theorem d_M_begin_41 : decode b_M_begin 41 = .ok (.iconst 4, 1) := by decide +kernel
theorem d_M_begin_42 : decode b_M_begin 42 = .ok (.ldc 81, 2) := by decide +kernel
theorem d_M_begin_44 : decode b_M_begin 44 = .ok (.iastore, 1) := by decide +kernel
theorem d_M_begin_45 : decode b_M_begin 45 = .ok (.aload_n 0, 1) := by decide +kernel
theorem d_M_begin_46 : decode b_M_begin 46 = .ok (.lconst 0, 1) := by decide +kernel
theorem d_M_begin_47 : decode b_M_begin 47 = .ok (.putfield 82, 3) := by decide +kernel
theorem d_M_begin_50 : decode b_M_begin 50 = .ok (.return_, 1) := by decide +kernel
theorem d_M_add_0 : decode b_M_add 0 = .ok (.aload_n 0, 1) := by decide +kernel
theorem d_M_add_1 : decode b_M_add 1 = .ok (.getfield 82, 3) := by decide +kernel
theorem d_M_add_4 : decode b_M_add 4 = .ok (.ldc2_w 86, 3) := by decide +kernel
theorem d_M_add_7 : decode b_M_add 7 = .ok (.lrem, 1) := by decide +kernel
theorem d_M_add_8 : decode b_M_add 8 = .ok (.l2i, 1) := by decide +kernel
theorem d_M_add_9 : decode b_M_add 9 = .ok (.istore_n 2, 1) := by decide +kernel
theorem d_M_add_10 : decode b_M_add 10 = .ok (.aload_n 0, 1) := by decide +kernel
theorem d_M_add_11 : decode b_M_add 11 = .ok (.getfield 23, 3) := by decide +kernel
theorem d_M_add_14 : decode b_M_add 14 = .ok (.iload_n 2, 1) := by decide +kernel
theorem d_M_add_15 : decode b_M_add 15 = .ok (.iload_n 1, 1) := by decide +kernel
theorem d_M_add_16 : decode b_M_add 16 = .ok (.iastore, 1) := by decide +kernel
theorem d_M_add_17 : decode b_M_add 17 = .ok (.aload_n 0, 1) := by decide +kernel
theorem d_M_add_18 : decode b_M_add 18 = .ok (.dup, 1) := by decide +kernel
theorem d_M_add_19 : decode b_M_add 19 = .ok (.getfield 82, 3) := by decide +kernel
theorem d_M_add_22 : decode b_M_add 22 = .ok (.lconst 1, 1) := by decide +kernel
theorem d_M_add_23 : decode b_M_add 23 = .ok (.ladd, 1) := by decide +kernel
theorem d_M_add_24 : decode b_M_add 24 = .ok (.putfield 82, 3) := by decide +kernel
theorem d_M_add_27 : decode b_M_add 27 = .ok (.iload_n 2, 1) := by decide +kernel
theorem d_M_add_28 : decode b_M_add 28 = .ok (.bipush 63, 2) := by decide +kernel
theorem d_M_add_30 : decode b_M_add 30 = .ok (.if_icmp .ne (21), 3) := by decide +kernel
theorem d_M_add_33 : decode b_M_add 33 = .ok (.aload_n 0, 1) := by decide +kernel
theorem d_M_add_34 : decode b_M_add 34 = .ok (.getfield 74, 3) := by decide +kernel
theorem d_M_add_37 : decode b_M_add 37 = .ok (.ifCond .ne (10), 3) := by decide +kernel
theorem d_M_add_40 : decode b_M_add 40 = .ok (.aload_n 0, 1) := by decide +kernel
theorem d_M_add_41 : decode b_M_add 41 = .ok (.invokevirtual 88, 3) := by decide +kernel
theorem d_M_add_44 : decode b_M_add 44 = .ok (.goto (7), 3) := by decide +kernel
theorem d_M_add_47 : decode b_M_add 47 = .ok (.aload_n 0, 1) := by decide +kernel
theorem d_M_add_48 : decode b_M_add 48 = .ok (.invokevirtual 91, 3) := by decide +kernel
theorem d_M_add_51 : decode b_M_add 51 = .ok (.return_, 1) := by decide +kernel
theorem d_M_turned_0 : decode b_M_turned 0 = .ok (.iload_n 0, 1) := by decide +kernel
theorem d_M_turned_1 : decode b_M_turned 1 = .ok (.bipush 16, 2) := by decide +kernel
theorem d_M_turned_3 : decode b_M_turned 3 = .ok (.idiv, 1) := by decide +kernel
theorem d_M_turned_4 : decode b_M_turned 4 = .ok (.istore_n 1, 1) := by decide +kernel
theorem d_M_turned_5 : decode b_M_turned 5 = .ok (.iload_n 0, 1) := by decide +kernel
theorem d_M_turned_6 : decode b_M_turned 6 = .ok (.iconst 4, 1) := by decide +kernel
theorem d_M_turned_7 : decode b_M_turned 7 = .ok (.irem, 1) := by decide +kernel
theorem d_M_turned_8 : decode b_M_turned 8 = .ok (.istore_n 2, 1) := by decide +kernel
theorem d_M_turned_9 : decode b_M_turned 9 = .ok (.iload_n 1, 1) := by decide +kernel
theorem d_M_turned_10 : decode b_M_turned 10 = .ok (.ifCond .ne (12), 3) := by decide +kernel
theorem d_M_turned_13 : decode b_M_turned 13 = .ok (.bipush 7, 2) := by decide +kernel
theorem d_M_turned_15 : decode b_M_turned 15 = .ok (.iconst 5, 1) := by decide +kernel
theorem d_M_turned_16 : decode b_M_turned 16 = .ok (.iload_n 2, 1) := by decide +kernel
theorem d_M_turned_17 : decode b_M_turned 17 = .ok (.imul, 1) := by decide +kernel
theorem d_M_turned_18 : decode b_M_turned 18 = .ok (.iadd, 1) := by decide +kernel
theorem d_M_turned_19 : decode b_M_turned 19 = .ok (.goto (110), 3) := by decide +kernel
theorem d_M_turned_22 : decode b_M_turned 22 = .ok (.iload_n 1, 1) := by decide +kernel
theorem d_M_turned_23 : decode b_M_turned 23 = .ok (.iconst 1, 1) := by decide +kernel
theorem d_M_turned_24 : decode b_M_turned 24 = .ok (.if_icmp .ne (36), 3) := by decide +kernel
theorem d_M_turned_27 : decode b_M_turned 27 = .ok (.iload_n 2, 1) := by decide +kernel
theorem d_M_turned_28 : decode b_M_turned 28 = .ok (.ifCond .ne (7), 3) := by decide +kernel
theorem d_M_turned_31 : decode b_M_turned 31 = .ok (.iconst 5, 1) := by decide +kernel
theorem d_M_turned_32 : decode b_M_turned 32 = .ok (.goto (97), 3) := by decide +kernel
theorem d_M_turned_35 : decode b_M_turned 35 = .ok (.iload_n 2, 1) := by decide +kernel
theorem d_M_turned_36 : decode b_M_turned 36 = .ok (.iconst 1, 1) := by decide +kernel
theorem d_M_turned_37 : decode b_M_turned 37 = .ok (.if_icmp .ne (8), 3) := by decide +kernel
theorem d_M_turned_40 : decode b_M_turned 40 = .ok (.bipush 9, 2) := by decide +kernel
theorem d_M_turned_42 : decode b_M_turned 42 = .ok (.goto (87), 3) := by decide +kernel
theorem d_M_turned_45 : decode b_M_turned 45 = .ok (.iload_n 2, 1) := by decide +kernel
theorem d_M_turned_46 : decode b_M_turned 46 = .ok (.iconst 2, 1) := by decide +kernel
theorem d_M_turned_47 : decode b_M_turned 47 = .ok (.if_icmp .ne (8), 3) := by decide +kernel
theorem d_M_turned_50 : decode b_M_turned 50 = .ok (.bipush 14, 2) := by decide +kernel
theorem d_M_turned_52 : decode b_M_turned 52 = .ok (.goto (77), 3) := by decide +kernel
theorem d_M_turned_55 : decode b_M_turned 55 = .ok (.bipush 20, 2) := by decide +kernel
theorem d_M_turned_57 : decode b_M_turned 57 = .ok (.goto (72), 3) := by decide +kernel
theorem d_M_turned_60 : decode b_M_turned 60 = .ok (.iload_n 1, 1) := by decide +kernel
theorem d_M_turned_61 : decode b_M_turned 61 = .ok (.iconst 2, 1) := by decide +kernel
theorem d_M_turned_62 : decode b_M_turned 62 = .ok (.if_icmp .ne (36), 3) := by decide +kernel
theorem d_M_turned_65 : decode b_M_turned 65 = .ok (.iload_n 2, 1) := by decide +kernel
theorem d_M_turned_66 : decode b_M_turned 66 = .ok (.ifCond .ne (7), 3) := by decide +kernel
theorem d_M_turned_69 : decode b_M_turned 69 = .ok (.iconst 4, 1) := by decide +kernel
theorem d_M_turned_70 : decode b_M_turned 70 = .ok (.goto (59), 3) := by decide +kernel
theorem d_M_turned_73 : decode b_M_turned 73 = .ok (.iload_n 2, 1) := by decide +kernel
theorem d_M_turned_74 : decode b_M_turned 74 = .ok (.iconst 1, 1) := by decide +kernel
theorem d_M_turned_75 : decode b_M_turned 75 = .ok (.if_icmp .ne (8), 3) := by decide +kernel
theorem d_M_turned_78 : decode b_M_turned 78 = .ok (.bipush 11, 2) := by decide +kernel
theorem d_M_turned_80 : decode b_M_turned 80 = .ok (.goto (49), 3) := by decide +kernel
theorem d_M_turned_83 : decode b_M_turned 83 = .ok (.iload_n 2, 1) := by decide +kernel
theorem d_M_turned_84 : decode b_M_turned 84 = .ok (.iconst 2, 1) := by decide +kernel
theorem d_M_turned_85 : decode b_M_turned 85 = .ok (.if_icmp .ne (8), 3) := by decide +kernel
theorem d_M_turned_88 : decode b_M_turned 88 = .ok (.bipush 16, 2) := by decide +kernel
theorem d_M_turned_90 : decode b_M_turned 90 = .ok (.goto (39), 3) := by decide +kernel
theorem d_M_turned_93 : decode b_M_turned 93 = .ok (.bipush 23, 2) := by decide +kernel
theorem d_M_turned_95 : decode b_M_turned 95 = .ok (.goto (34), 3) := by decide +kernel
theorem d_M_turned_98 : decode b_M_turned 98 = .ok (.iload_n 2, 1) := by decide +kernel
theorem d_M_turned_99 : decode b_M_turned 99 = .ok (.ifCond .ne (8), 3) := by decide +kernel
theorem d_M_turned_102 : decode b_M_turned 102 = .ok (.bipush 6, 2) := by decide +kernel
theorem d_M_turned_104 : decode b_M_turned 104 = .ok (.goto (25), 3) := by decide +kernel
theorem d_M_turned_107 : decode b_M_turned 107 = .ok (.iload_n 2, 1) := by decide +kernel
theorem d_M_turned_108 : decode b_M_turned 108 = .ok (.iconst 1, 1) := by decide +kernel
theorem d_M_turned_109 : decode b_M_turned 109 = .ok (.if_icmp .ne (8), 3) := by decide +kernel
theorem d_M_turned_112 : decode b_M_turned 112 = .ok (.bipush 10, 2) := by decide +kernel
theorem d_M_turned_114 : decode b_M_turned 114 = .ok (.goto (15), 3) := by decide +kernel
theorem d_M_turned_117 : decode b_M_turned 117 = .ok (.iload_n 2, 1) := by decide +kernel
theorem d_M_turned_118 : decode b_M_turned 118 = .ok (.iconst 2, 1) := by decide +kernel
theorem d_M_turned_119 : decode b_M_turned 119 = .ok (.if_icmp .ne (8), 3) := by decide +kernel
theorem d_M_turned_122 : decode b_M_turned 122 = .ok (.bipush 15, 2) := by decide +kernel
theorem d_M_turned_124 : decode b_M_turned 124 = .ok (.goto (5), 3) := by decide +kernel
theorem d_M_turned_127 : decode b_M_turned 127 = .ok (.bipush 21, 2) := by decide +kernel
theorem d_M_turned_129 : decode b_M_turned 129 = .ok (.ireturn, 1) := by decide +kernel
theorem d_M_five_0 : decode b_M_five 0 = .ok (.iconst 0, 1) := by decide +kernel
theorem d_M_five_1 : decode b_M_five 1 = .ok (.istore_n 1, 1) := by decide +kernel
theorem d_M_five_2 : decode b_M_five 2 = .ok (.iload_n 1, 1) := by decide +kernel
theorem d_M_five_3 : decode b_M_five 3 = .ok (.bipush 16, 2) := by decide +kernel
theorem d_M_five_5 : decode b_M_five 5 = .ok (.if_icmp .ge (65), 3) := by decide +kernel
theorem d_M_five_8 : decode b_M_five 8 = .ok (.aload_n 0, 1) := by decide +kernel
theorem d_M_five_9 : decode b_M_five 9 = .ok (.getfield 26, 3) := by decide +kernel
theorem d_M_five_12 : decode b_M_five 12 = .ok (.iload_n 1, 1) := by decide +kernel
theorem d_M_five_13 : decode b_M_five 13 = .ok (.aload_n 0, 1) := by decide +kernel
theorem d_M_five_14 : decode b_M_five 14 = .ok (.getfield 23, 3) := by decide +kernel
theorem d_M_five_17 : decode b_M_five 17 = .ok (.iconst 4, 1) := by decide +kernel
theorem d_M_five_18 : decode b_M_five 18 = .ok (.iload_n 1, 1) := by decide +kernel
theorem d_M_five_19 : decode b_M_five 19 = .ok (.imul, 1) := by decide +kernel
theorem d_M_five_20 : decode b_M_five 20 = .ok (.iaload, 1) := by decide +kernel
theorem d_M_five_21 : decode b_M_five 21 = .ok (.aload_n 0, 1) := by decide +kernel
theorem d_M_five_22 : decode b_M_five 22 = .ok (.getfield 23, 3) := by decide +kernel
theorem d_M_five_25 : decode b_M_five 25 = .ok (.iconst 4, 1) := by decide +kernel
theorem d_M_five_26 : decode b_M_five 26 = .ok (.iload_n 1, 1) := by decide +kernel
theorem d_M_five_27 : decode b_M_five 27 = .ok (.imul, 1) := by decide +kernel
theorem d_M_five_28 : decode b_M_five 28 = .ok (.iconst 1, 1) := by decide +kernel
theorem d_M_five_29 : decode b_M_five 29 = .ok (.iadd, 1) := by decide +kernel
theorem d_M_five_30 : decode b_M_five 30 = .ok (.iaload, 1) := by decide +kernel
theorem d_M_five_31 : decode b_M_five 31 = .ok (.bipush 8, 2) := by decide +kernel
theorem d_M_five_33 : decode b_M_five 33 = .ok (.ishl, 1) := by decide +kernel
theorem d_M_five_34 : decode b_M_five 34 = .ok (.ior, 1) := by decide +kernel
theorem d_M_five_35 : decode b_M_five 35 = .ok (.aload_n 0, 1) := by decide +kernel
theorem d_M_five_36 : decode b_M_five 36 = .ok (.getfield 23, 3) := by decide +kernel
theorem d_M_five_39 : decode b_M_five 39 = .ok (.iconst 4, 1) := by decide +kernel
theorem d_M_five_40 : decode b_M_five 40 = .ok (.iload_n 1, 1) := by decide +kernel
theorem d_M_five_41 : decode b_M_five 41 = .ok (.imul, 1) := by decide +kernel
theorem d_M_five_42 : decode b_M_five 42 = .ok (.iconst 2, 1) := by decide +kernel
theorem d_M_five_43 : decode b_M_five 43 = .ok (.iadd, 1) := by decide +kernel
theorem d_M_five_44 : decode b_M_five 44 = .ok (.iaload, 1) := by decide +kernel
theorem d_M_five_45 : decode b_M_five 45 = .ok (.bipush 16, 2) := by decide +kernel
theorem d_M_five_47 : decode b_M_five 47 = .ok (.ishl, 1) := by decide +kernel
theorem d_M_five_48 : decode b_M_five 48 = .ok (.ior, 1) := by decide +kernel
theorem d_M_five_49 : decode b_M_five 49 = .ok (.aload_n 0, 1) := by decide +kernel
theorem d_M_five_50 : decode b_M_five 50 = .ok (.getfield 23, 3) := by decide +kernel
theorem d_M_five_53 : decode b_M_five 53 = .ok (.iconst 4, 1) := by decide +kernel
theorem d_M_five_54 : decode b_M_five 54 = .ok (.iload_n 1, 1) := by decide +kernel
theorem d_M_five_55 : decode b_M_five 55 = .ok (.imul, 1) := by decide +kernel
theorem d_M_five_56 : decode b_M_five 56 = .ok (.iconst 3, 1) := by decide +kernel
theorem d_M_five_57 : decode b_M_five 57 = .ok (.iadd, 1) := by decide +kernel
theorem d_M_five_58 : decode b_M_five 58 = .ok (.iaload, 1) := by decide +kernel
theorem d_M_five_59 : decode b_M_five 59 = .ok (.bipush 24, 2) := by decide +kernel
theorem d_M_five_61 : decode b_M_five 61 = .ok (.ishl, 1) := by decide +kernel
theorem d_M_five_62 : decode b_M_five 62 = .ok (.ior, 1) := by decide +kernel
theorem d_M_five_63 : decode b_M_five 63 = .ok (.iastore, 1) := by decide +kernel
theorem d_M_five_64 : decode b_M_five 64 = .ok (.iinc 1 (1), 3) := by decide +kernel
theorem d_M_five_67 : decode b_M_five 67 = .ok (.goto (-65), 3) := by decide +kernel
theorem d_M_five_70 : decode b_M_five 70 = .ok (.aload_n 0, 1) := by decide +kernel
theorem d_M_five_71 : decode b_M_five 71 = .ok (.getfield 20, 3) := by decide +kernel
theorem d_M_five_74 : decode b_M_five 74 = .ok (.iconst 0, 1) := by decide +kernel
theorem d_M_five_75 : decode b_M_five 75 = .ok (.iaload, 1) := by decide +kernel
theorem d_M_five_76 : decode b_M_five 76 = .ok (.istore_n 1, 1) := by decide +kernel
theorem d_M_five_77 : decode b_M_five 77 = .ok (.aload_n 0, 1) := by decide +kernel
theorem d_M_five_78 : decode b_M_five 78 = .ok (.getfield 20, 3) := by decide +kernel
theorem d_M_five_81 : decode b_M_five 81 = .ok (.iconst 1, 1) := by decide +kernel
theorem d_M_five_82 : decode b_M_five 82 = .ok (.iaload, 1) := by decide +kernel
theorem d_M_five_83 : decode b_M_five 83 = .ok (.istore_n 2, 1) := by decide +kernel
theorem d_M_five_84 : decode b_M_five 84 = .ok (.aload_n 0, 1) := by decide +kernel
theorem d_M_five_85 : decode b_M_five 85 = .ok (.getfield 20, 3) := by decide +kernel
theorem d_M_five_88 : decode b_M_five 88 = .ok (.iconst 2, 1) := by decide +kernel
theorem d_M_five_89 : decode b_M_five 89 = .ok (.iaload, 1) := by decide +kernel
theorem d_M_five_90 : decode b_M_five 90 = .ok (.istore_n 3, 1) := by decide +kernel
theorem d_M_five_91 : decode b_M_five 91 = .ok (.aload_n 0, 1) := by decide +kernel
theorem d_M_five_92 : decode b_M_five 92 = .ok (.getfield 20, 3) := by decide +kernel
theorem d_M_five_95 : decode b_M_five 95 = .ok (.iconst 3, 1) := by decide +kernel
theorem d_M_five_96 : decode b_M_five 96 = .ok (.iaload, 1) := by decide +kernel
theorem d_M_five_97 : decode b_M_five 97 = .ok (.istore 4, 2) := by decide +kernel
theorem d_M_five_99 : decode b_M_five 99 = .ok (.iconst 0, 1) := by decide +kernel
theorem d_M_five_100 : decode b_M_five 100 = .ok (.istore 5, 2) := by decide +kernel
theorem d_M_five_102 : decode b_M_five 102 = .ok (.iload 5, 2) := by decide +kernel
theorem d_M_five_104 : decode b_M_five 104 = .ok (.bipush 64, 2) := by decide +kernel
theorem d_M_five_106 : decode b_M_five 106 = .ok (.if_icmp .ge (172), 3) := by decide +kernel
theorem d_M_five_109 : decode b_M_five 109 = .ok (.iload 5, 2) := by decide +kernel
theorem d_M_five_111 : decode b_M_five 111 = .ok (.bipush 16, 2) := by decide +kernel
theorem d_M_five_113 : decode b_M_five 113 = .ok (.idiv, 1) := by decide +kernel
theorem d_M_five_114 : decode b_M_five 114 = .ok (.istore 6, 2) := by decide +kernel
theorem d_M_five_116 : decode b_M_five 116 = .ok (.iload 6, 2) := by decide +kernel
theorem d_M_five_118 : decode b_M_five 118 = .ok (.ifCond .ne (16), 3) := by decide +kernel
theorem d_M_five_121 : decode b_M_five 121 = .ok (.iload_n 2, 1) := by decide +kernel
theorem d_M_five_122 : decode b_M_five 122 = .ok (.iload_n 3, 1) := by decide +kernel
theorem d_M_five_123 : decode b_M_five 123 = .ok (.iand, 1) := by decide +kernel
theorem d_M_five_124 : decode b_M_five 124 = .ok (.iload_n 2, 1) := by decide +kernel
theorem d_M_five_125 : decode b_M_five 125 = .ok (.iconst (-1), 1) := by decide +kernel
theorem d_M_five_126 : decode b_M_five 126 = .ok (.ixor, 1) := by decide +kernel
theorem d_M_five_127 : decode b_M_five 127 = .ok (.iload 4, 2) := by decide +kernel
theorem d_M_five_129 : decode b_M_five 129 = .ok (.iand, 1) := by decide +kernel
theorem d_M_five_130 : decode b_M_five 130 = .ok (.ior, 1) := by decide +kernel
theorem d_M_five_131 : decode b_M_five 131 = .ok (.goto (46), 3) := by decide +kernel
theorem d_M_five_134 : decode b_M_five 134 = .ok (.iload 6, 2) := by decide +kernel
theorem d_M_five_136 : decode b_M_five 136 = .ok (.iconst 1, 1) := by decide +kernel
theorem d_M_five_137 : decode b_M_five 137 = .ok (.if_icmp .ne (17), 3) := by decide +kernel
theorem d_M_five_140 : decode b_M_five 140 = .ok (.iload 4, 2) := by decide +kernel
theorem d_M_five_142 : decode b_M_five 142 = .ok (.iload_n 2, 1) := by decide +kernel
theorem d_M_five_143 : decode b_M_five 143 = .ok (.iand, 1) := by decide +kernel
theorem d_M_five_144 : decode b_M_five 144 = .ok (.iload 4, 2) := by decide +kernel
theorem d_M_five_146 : decode b_M_five 146 = .ok (.iconst (-1), 1) := by decide +kernel
theorem d_M_five_147 : decode b_M_five 147 = .ok (.ixor, 1) := by decide +kernel
theorem d_M_five_148 : decode b_M_five 148 = .ok (.iload_n 3, 1) := by decide +kernel
theorem d_M_five_149 : decode b_M_five 149 = .ok (.iand, 1) := by decide +kernel
theorem d_M_five_150 : decode b_M_five 150 = .ok (.ior, 1) := by decide +kernel
theorem d_M_five_151 : decode b_M_five 151 = .ok (.goto (26), 3) := by decide +kernel
theorem d_M_five_154 : decode b_M_five 154 = .ok (.iload 6, 2) := by decide +kernel
theorem d_M_five_156 : decode b_M_five 156 = .ok (.iconst 2, 1) := by decide +kernel
theorem d_M_five_157 : decode b_M_five 157 = .ok (.if_icmp .ne (12), 3) := by decide +kernel
theorem d_M_five_160 : decode b_M_five 160 = .ok (.iload_n 2, 1) := by decide +kernel
theorem d_M_five_161 : decode b_M_five 161 = .ok (.iload_n 3, 1) := by decide +kernel
theorem d_M_five_162 : decode b_M_five 162 = .ok (.ixor, 1) := by decide +kernel
theorem d_M_five_163 : decode b_M_five 163 = .ok (.iload 4, 2) := by decide +kernel
theorem d_M_five_165 : decode b_M_five 165 = .ok (.ixor, 1) := by decide +kernel
theorem d_M_five_166 : decode b_M_five 166 = .ok (.goto (11), 3) := by decide +kernel
theorem d_M_five_169 : decode b_M_five 169 = .ok (.iload_n 3, 1) := by decide +kernel
theorem d_M_five_170 : decode b_M_five 170 = .ok (.iload_n 2, 1) := by decide +kernel
theorem d_M_five_171 : decode b_M_five 171 = .ok (.iload 4, 2) := by decide +kernel
theorem d_M_five_173 : decode b_M_five 173 = .ok (.iconst (-1), 1) := by decide +kernel
theorem d_M_five_174 : decode b_M_five 174 = .ok (.ixor, 1) := by decide +kernel
theorem d_M_five_175 : decode b_M_five 175 = .ok (.ior, 1) := by decide +kernel
theorem d_M_five_176 : decode b_M_five 176 = .ok (.ixor, 1) := by decide +kernel
theorem d_M_five_177 : decode b_M_five 177 = .ok (.istore 7, 2) := by decide +kernel
theorem d_M_five_179 : decode b_M_five 179 = .ok (.iload 6, 2) := by decide +kernel
theorem d_M_five_181 : decode b_M_five 181 = .ok (.ifCond .ne (8), 3) := by decide +kernel
theorem d_M_five_184 : decode b_M_five 184 = .ok (.iload 5, 2) := by decide +kernel
theorem d_M_five_186 : decode b_M_five 186 = .ok (.goto (38), 3) := by decide +kernel
theorem d_M_five_189 : decode b_M_five 189 = .ok (.iload 6, 2) := by decide +kernel
theorem d_M_five_191 : decode b_M_five 191 = .ok (.iconst 1, 1) := by decide +kernel
theorem d_M_five_192 : decode b_M_five 192 = .ok (.if_icmp .ne (12), 3) := by decide +kernel
theorem d_M_five_195 : decode b_M_five 195 = .ok (.iconst 5, 1) := by decide +kernel
theorem d_M_five_196 : decode b_M_five 196 = .ok (.iload 5, 2) := by decide +kernel
theorem d_M_five_198 : decode b_M_five 198 = .ok (.imul, 1) := by decide +kernel
theorem d_M_five_199 : decode b_M_five 199 = .ok (.iconst 1, 1) := by decide +kernel
theorem d_M_five_200 : decode b_M_five 200 = .ok (.iadd, 1) := by decide +kernel
theorem d_M_five_201 : decode b_M_five 201 = .ok (.goto (23), 3) := by decide +kernel
theorem d_M_five_204 : decode b_M_five 204 = .ok (.iload 6, 2) := by decide +kernel
theorem d_M_five_206 : decode b_M_five 206 = .ok (.iconst 2, 1) := by decide +kernel
theorem d_M_five_207 : decode b_M_five 207 = .ok (.if_icmp .ne (12), 3) := by decide +kernel
theorem d_M_five_210 : decode b_M_five 210 = .ok (.iconst 3, 1) := by decide +kernel
theorem d_M_five_211 : decode b_M_five 211 = .ok (.iload 5, 2) := by decide +kernel
theorem d_M_five_213 : decode b_M_five 213 = .ok (.imul, 1) := by decide +kernel
theorem d_M_five_214 : decode b_M_five 214 = .ok (.iconst 5, 1) := by decide +kernel
theorem d_M_five_215 : decode b_M_five 215 = .ok (.iadd, 1) := by decide +kernel
theorem d_M_five_216 : decode b_M_five 216 = .ok (.goto (8), 3) := by decide +kernel
theorem d_M_five_219 : decode b_M_five 219 = .ok (.bipush 7, 2) := by decide +kernel
theorem d_M_five_221 : decode b_M_five 221 = .ok (.iload 5, 2) := by decide +kernel
theorem d_M_five_223 : decode b_M_five 223 = .ok (.imul, 1) := by decide +kernel
theorem d_M_five_224 : decode b_M_five 224 = .ok (.istore 8, 2) := by decide +kernel
theorem d_M_five_226 : decode b_M_five 226 = .ok (.iload_n 2, 1) := by decide +kernel
theorem d_M_five_227 : decode b_M_five 227 = .ok (.iload_n 1, 1) := by decide +kernel
theorem d_M_five_228 : decode b_M_five 228 = .ok (.iload 7, 2) := by decide +kernel
theorem d_M_five_230 : decode b_M_five 230 = .ok (.iadd, 1) := by decide +kernel
theorem d_M_five_231 : decode b_M_five 231 = .ok (.aload_n 0, 1) := by decide +kernel
theorem d_M_five_232 : decode b_M_five 232 = .ok (.getfield 29, 3) := by decide +kernel
theorem d_M_five_235 : decode b_M_five 235 = .ok (.iload 5, 2) := by decide +kernel
theorem d_M_five_237 : decode b_M_five 237 = .ok (.iaload, 1) := by decide +kernel
theorem d_M_five_238 : decode b_M_five 238 = .ok (.iadd, 1) := by decide +kernel
theorem d_M_five_239 : decode b_M_five 239 = .ok (.aload_n 0, 1) := by decide +kernel
theorem d_M_five_240 : decode b_M_five 240 = .ok (.getfield 26, 3) := by decide +kernel
theorem d_M_five_243 : decode b_M_five 243 = .ok (.iload 8, 2) := by decide +kernel
theorem d_M_five_245 : decode b_M_five 245 = .ok (.bipush 16, 2) := by decide +kernel
theorem d_M_five_247 : decode b_M_five 247 = .ok (.irem, 1) := by decide +kernel
theorem d_M_five_248 : decode b_M_five 248 = .ok (.iaload, 1) := by decide +kernel
theorem d_M_five_249 : decode b_M_five 249 = .ok (.iadd, 1) := by decide +kernel
theorem d_M_five_250 : decode b_M_five 250 = .ok (.iload 5, 2) := by decide +kernel
theorem d_M_five_252 : decode b_M_five 252 = .ok (.invokestatic 94, 3) := by decide +kernel
theorem d_M_five_255 : decode b_M_five 255 = .ok (.invokestatic 98, 3) := by decide +kernel
theorem d_M_five_258 : decode b_M_five 258 = .ok (.iadd, 1) := by decide +kernel
theorem d_M_five_259 : decode b_M_five 259 = .ok (.istore 9, 2) := by decide +kernel
theorem d_M_five_261 : decode b_M_five 261 = .ok (.iload 4, 2) := by decide +kernel
theorem d_M_five_263 : decode b_M_five 263 = .ok (.istore_n 1, 1) := by decide +kernel
theorem d_M_five_264 : decode b_M_five 264 = .ok (.iload_n 3, 1) := by decide +kernel
theorem d_M_five_265 : decode b_M_five 265 = .ok (.istore 4, 2) := by decide +kernel
theorem d_M_five_267 : decode b_M_five 267 = .ok (.iload_n 2, 1) := by decide +kernel
theorem d_M_five_268 : decode b_M_five 268 = .ok (.istore_n 3, 1) := by decide +kernel
theorem d_M_five_269 : decode b_M_five 269 = .ok (.iload 9, 2) := by decide +kernel
theorem d_M_five_271 : decode b_M_five 271 = .ok (.istore_n 2, 1) := by decide +kernel
theorem d_M_five_272 : decode b_M_five 272 = .ok (.iinc 5 (1), 3) := by decide +kernel
theorem d_M_five_275 : decode b_M_five 275 = .ok (.goto (-173), 3) := by decide +kernel
theorem d_M_five_278 : decode b_M_five 278 = .ok (.aload_n 0, 1) := by decide +kernel
theorem d_M_five_279 : decode b_M_five 279 = .ok (.getfield 20, 3) := by decide +kernel
theorem d_M_five_282 : decode b_M_five 282 = .ok (.iconst 0, 1) := by decide +kernel
theorem d_M_five_283 : decode b_M_five 283 = .ok (.dup2, 1) := by decide +kernel
theorem d_M_five_284 : decode b_M_five 284 = .ok (.iaload, 1) := by decide +kernel
theorem d_M_five_285 : decode b_M_five 285 = .ok (.iload_n 1, 1) := by decide +kernel
theorem d_M_five_286 : decode b_M_five 286 = .ok (.iadd, 1) := by decide +kernel
theorem d_M_five_287 : decode b_M_five 287 = .ok (.iastore, 1) := by decide +kernel
theorem d_M_five_288 : decode b_M_five 288 = .ok (.aload_n 0, 1) := by decide +kernel
theorem d_M_five_289 : decode b_M_five 289 = .ok (.getfield 20, 3) := by decide +kernel
theorem d_M_five_292 : decode b_M_five 292 = .ok (.iconst 1, 1) := by decide +kernel
theorem d_M_five_293 : decode b_M_five 293 = .ok (.dup2, 1) := by decide +kernel
theorem d_M_five_294 : decode b_M_five 294 = .ok (.iaload, 1) := by decide +kernel
theorem d_M_five_295 : decode b_M_five 295 = .ok (.iload_n 2, 1) := by decide +kernel
theorem d_M_five_296 : decode b_M_five 296 = .ok (.iadd, 1) := by decide +kernel
theorem d_M_five_297 : decode b_M_five 297 = .ok (.iastore, 1) := by decide +kernel
theorem d_M_five_298 : decode b_M_five 298 = .ok (.aload_n 0, 1) := by decide +kernel
theorem d_M_five_299 : decode b_M_five 299 = .ok (.getfield 20, 3) := by decide +kernel
theorem d_M_five_302 : decode b_M_five 302 = .ok (.iconst 2, 1) := by decide +kernel
theorem d_M_five_303 : decode b_M_five 303 = .ok (.dup2, 1) := by decide +kernel
theorem d_M_five_304 : decode b_M_five 304 = .ok (.iaload, 1) := by decide +kernel
theorem d_M_five_305 : decode b_M_five 305 = .ok (.iload_n 3, 1) := by decide +kernel
theorem d_M_five_306 : decode b_M_five 306 = .ok (.iadd, 1) := by decide +kernel
theorem d_M_five_307 : decode b_M_five 307 = .ok (.iastore, 1) := by decide +kernel
theorem d_M_five_308 : decode b_M_five 308 = .ok (.aload_n 0, 1) := by decide +kernel
theorem d_M_five_309 : decode b_M_five 309 = .ok (.getfield 20, 3) := by decide +kernel
theorem d_M_five_312 : decode b_M_five 312 = .ok (.iconst 3, 1) := by decide +kernel
theorem d_M_five_313 : decode b_M_five 313 = .ok (.dup2, 1) := by decide +kernel
theorem d_M_five_314 : decode b_M_five 314 = .ok (.iaload, 1) := by decide +kernel
theorem d_M_five_315 : decode b_M_five 315 = .ok (.iload 4, 2) := by decide +kernel
theorem d_M_five_317 : decode b_M_five 317 = .ok (.iadd, 1) := by decide +kernel
theorem d_M_five_318 : decode b_M_five 318 = .ok (.iastore, 1) := by decide +kernel
theorem d_M_five_319 : decode b_M_five 319 = .ok (.return_, 1) := by decide +kernel
theorem d_M_width_0 : decode b_M_width 0 = .ok (.aload_n 0, 1) := by decide +kernel
theorem d_M_width_1 : decode b_M_width 1 = .ok (.getfield 74, 3) := by decide +kernel
theorem d_M_width_4 : decode b_M_width 4 = .ok (.ifCond .ne (8), 3) := by decide +kernel
theorem d_M_width_7 : decode b_M_width 7 = .ok (.bipush 16, 2) := by decide +kernel
theorem d_M_width_9 : decode b_M_width 9 = .ok (.goto (5), 3) := by decide +kernel
theorem d_M_width_12 : decode b_M_width 12 = .ok (.bipush 20, 2) := by decide +kernel
theorem d_M_width_14 : decode b_M_width 14 = .ok (.ireturn, 1) := by decide +kernel
theorem d_M_init_0 : decode b_M_init 0 = .ok (.aload_n 0, 1) := by decide +kernel
theorem d_M_init_1 : decode b_M_init 1 = .ok (.iconst 1, 1) := by decide +kernel
theorem d_M_init_2 : decode b_M_init 2 = .ok (.putfield 116, 3) := by decide +kernel
theorem d_M_init_5 : decode b_M_init 5 = .ok (.aload_n 0, 1) := by decide +kernel
theorem d_M_init_6 : decode b_M_init 6 = .ok (.iconst 0, 1) := by decide +kernel
theorem d_M_init_7 : decode b_M_init 7 = .ok (.putfield 120, 3) := by decide +kernel
theorem d_M_init_10 : decode b_M_init 10 = .ok (.aload_n 0, 1) := by decide +kernel
theorem d_M_init_11 : decode b_M_init 11 = .ok (.iconst (-1), 1) := by decide +kernel
theorem d_M_init_12 : decode b_M_init 12 = .ok (.putfield 13, 3) := by decide +kernel
theorem d_M_init_15 : decode b_M_init 15 = .ok (.aload_n 0, 1) := by decide +kernel
theorem d_M_init_16 : decode b_M_init 16 = .ok (.iconst 0, 1) := by decide +kernel
theorem d_M_init_17 : decode b_M_init 17 = .ok (.putfield 123, 3) := by decide +kernel
theorem d_M_init_20 : decode b_M_init 20 = .ok (.return_, 1) := by decide +kernel
theorem d_M_start_0 : decode b_M_start 0 = .ok (.aload_n 0, 1) := by decide +kernel
theorem d_M_start_1 : decode b_M_start 1 = .ok (.getfield 116, 3) := by decide +kernel
theorem d_M_start_4 : decode b_M_start 4 = .ok (.ifCond .eq (12), 3) := by decide +kernel
theorem d_M_start_7 : decode b_M_start 7 = .ok (.iload_n 1, 1) := by decide +kernel
theorem d_M_start_8 : decode b_M_start 8 = .ok (.ifCond .lt (8), 3) := by decide +kernel
theorem d_M_start_11 : decode b_M_start 11 = .ok (.iload_n 1, 1) := by decide +kernel
theorem d_M_start_12 : decode b_M_start 12 = .ok (.iconst 1, 1) := by decide +kernel
theorem d_M_start_13 : decode b_M_start 13 = .ok (.if_icmp .le (5), 3) := by decide +kernel
theorem d_M_start_16 : decode b_M_start 16 = .ok (.iconst 0, 1) := by decide +kernel
theorem d_M_start_17 : decode b_M_start 17 = .ok (.ireturn, 1) := by decide +kernel
theorem d_M_start_18 : decode b_M_start 18 = .ok (.aload_n 0, 1) := by decide +kernel
theorem d_M_start_19 : decode b_M_start 19 = .ok (.iload_n 1, 1) := by decide +kernel
theorem d_M_start_20 : decode b_M_start 20 = .ok (.putfield 13, 3) := by decide +kernel
theorem d_M_start_23 : decode b_M_start 23 = .ok (.aload_n 0, 1) := by decide +kernel
theorem d_M_start_24 : decode b_M_start 24 = .ok (.iconst 0, 1) := by decide +kernel
theorem d_M_start_25 : decode b_M_start 25 = .ok (.putfield 126, 3) := by decide +kernel
theorem d_M_start_28 : decode b_M_start 28 = .ok (.aload_n 0, 1) := by decide +kernel
theorem d_M_start_29 : decode b_M_start 29 = .ok (.lconst 0, 1) := by decide +kernel
theorem d_M_start_30 : decode b_M_start 30 = .ok (.putfield 129, 3) := by decide +kernel
theorem d_M_start_33 : decode b_M_start 33 = .ok (.aload_n 0, 1) := by decide +kernel
theorem d_M_start_34 : decode b_M_start 34 = .ok (.iconst 0, 1) := by decide +kernel
theorem d_M_start_35 : decode b_M_start 35 = .ok (.putfield 123, 3) := by decide +kernel
theorem d_M_start_38 : decode b_M_start 38 = .ok (.aload_n 0, 1) := by decide +kernel
theorem d_M_start_39 : decode b_M_start 39 = .ok (.iload_n 1, 1) := by decide +kernel
theorem d_M_start_40 : decode b_M_start 40 = .ok (.invokevirtual 132, 3) := by decide +kernel
theorem d_M_start_43 : decode b_M_start 43 = .ok (.iconst 1, 1) := by decide +kernel
theorem d_M_start_44 : decode b_M_start 44 = .ok (.ireturn, 1) := by decide +kernel
theorem d_M_keyByte_0 : decode b_M_keyByte 0 = .ok (.aload_n 0, 1) := by decide +kernel
theorem d_M_keyByte_1 : decode b_M_keyByte 1 = .ok (.getfield 116, 3) := by decide +kernel
theorem d_M_keyByte_4 : decode b_M_keyByte 4 = .ok (.ifCond .eq (33), 3) := by decide +kernel
theorem d_M_keyByte_7 : decode b_M_keyByte 7 = .ok (.aload_n 0, 1) := by decide +kernel
theorem d_M_keyByte_8 : decode b_M_keyByte 8 = .ok (.getfield 13, 3) := by decide +kernel
theorem d_M_keyByte_11 : decode b_M_keyByte 11 = .ok (.iconst (-1), 1) := by decide +kernel
theorem d_M_keyByte_12 : decode b_M_keyByte 12 = .ok (.if_icmp .ne (25), 3) := by decide +kernel
theorem d_M_keyByte_15 : decode b_M_keyByte 15 = .ok (.iload_n 1, 1) := by decide +kernel
theorem d_M_keyByte_16 : decode b_M_keyByte 16 = .ok (.ifCond .lt (21), 3) := by decide +kernel
theorem d_M_keyByte_19 : decode b_M_keyByte 19 = .ok (.iload_n 1, 1) := by decide +kernel
theorem d_M_keyByte_20 : decode b_M_keyByte 20 = .ok (.sipush 255, 3) := by decide +kernel
theorem d_M_keyByte_23 : decode b_M_keyByte 23 = .ok (.if_icmp .gt (14), 3) := by decide +kernel
theorem d_M_keyByte_26 : decode b_M_keyByte 26 = .ok (.aload_n 0, 1) := by decide +kernel
theorem d_M_keyByte_27 : decode b_M_keyByte 27 = .ok (.getfield 120, 3) := by decide +kernel
theorem d_M_keyByte_30 : decode b_M_keyByte 30 = .ok (.aload_n 0, 1) := by decide +kernel
theorem d_M_keyByte_31 : decode b_M_keyByte 31 = .ok (.getfield 41, 3) := by decide +kernel
theorem d_M_keyByte_34 : decode b_M_keyByte 34 = .ok (.if_icmp .ne (5), 3) := by decide +kernel
theorem d_M_keyByte_37 : decode b_M_keyByte 37 = .ok (.iconst 0, 1) := by decide +kernel
theorem d_M_keyByte_38 : decode b_M_keyByte 38 = .ok (.ireturn, 1) := by decide +kernel
theorem d_M_keyByte_39 : decode b_M_keyByte 39 = .ok (.aload_n 0, 1) := by decide +kernel
theorem d_M_keyByte_40 : decode b_M_keyByte 40 = .ok (.getfield 7, 3) := by decide +kernel
theorem d_M_keyByte_43 : decode b_M_keyByte 43 = .ok (.aload_n 0, 1) := by decide +kernel
theorem d_M_keyByte_44 : decode b_M_keyByte 44 = .ok (.getfield 120, 3) := by decide +kernel
theorem d_M_keyByte_47 : decode b_M_keyByte 47 = .ok (.iload_n 1, 1) := by decide +kernel
theorem d_M_keyByte_48 : decode b_M_keyByte 48 = .ok (.iastore, 1) := by decide +kernel
theorem d_M_keyByte_49 : decode b_M_keyByte 49 = .ok (.aload_n 0, 1) := by decide +kernel
theorem d_M_keyByte_50 : decode b_M_keyByte 50 = .ok (.dup, 1) := by decide +kernel
theorem d_M_keyByte_51 : decode b_M_keyByte 51 = .ok (.getfield 120, 3) := by decide +kernel
theorem d_M_keyByte_54 : decode b_M_keyByte 54 = .ok (.iconst 1, 1) := by decide +kernel
theorem d_M_keyByte_55 : decode b_M_keyByte 55 = .ok (.iadd, 1) := by decide +kernel
theorem d_M_keyByte_56 : decode b_M_keyByte 56 = .ok (.putfield 120, 3) := by decide +kernel
theorem d_M_keyByte_59 : decode b_M_keyByte 59 = .ok (.iconst 1, 1) := by decide +kernel
theorem d_M_keyByte_60 : decode b_M_keyByte 60 = .ok (.ireturn, 1) := by decide +kernel
theorem d_M_update_0 : decode b_M_update 0 = .ok (.aload_n 0, 1) := by decide +kernel
theorem d_M_update_1 : decode b_M_update 1 = .ok (.getfield 13, 3) := by decide +kernel
theorem d_M_update_4 : decode b_M_update 4 = .ok (.iconst (-1), 1) := by decide +kernel
theorem d_M_update_5 : decode b_M_update 5 = .ok (.if_icmp .eq (14), 3) := by decide +kernel
theorem d_M_update_8 : decode b_M_update 8 = .ok (.iload_n 1, 1) := by decide +kernel
theorem d_M_update_9 : decode b_M_update 9 = .ok (.ifCond .lt (10), 3) := by decide +kernel
theorem d_M_update_12 : decode b_M_update 12 = .ok (.iload_n 1, 1) := by decide +kernel
theorem d_M_update_13 : decode b_M_update 13 = .ok (.sipush 255, 3) := by decide +kernel
theorem d_M_update_16 : decode b_M_update 16 = .ok (.if_icmp .le (5), 3) := by decide +kernel
theorem d_M_update_19 : decode b_M_update 19 = .ok (.iconst 0, 1) := by decide +kernel
theorem d_M_update_20 : decode b_M_update 20 = .ok (.ireturn, 1) := by decide +kernel
theorem d_M_update_21 : decode b_M_update 21 = .ok (.aload_n 0, 1) := by decide +kernel
theorem d_M_update_22 : decode b_M_update 22 = .ok (.iload_n 1, 1) := by decide +kernel
theorem d_M_update_23 : decode b_M_update 23 = .ok (.invokevirtual 104, 3) := by decide +kernel
theorem d_M_update_26 : decode b_M_update 26 = .ok (.aload_n 0, 1) := by decide +kernel
theorem d_M_update_27 : decode b_M_update 27 = .ok (.dup, 1) := by decide +kernel
theorem d_M_update_28 : decode b_M_update 28 = .ok (.getfield 129, 3) := by decide +kernel
theorem d_M_update_31 : decode b_M_update 31 = .ok (.lconst 1, 1) := by decide +kernel
theorem d_M_update_32 : decode b_M_update 32 = .ok (.ladd, 1) := by decide +kernel
theorem d_M_update_33 : decode b_M_update 33 = .ok (.putfield 129, 3) := by decide +kernel
theorem d_M_update_36 : decode b_M_update 36 = .ok (.iconst 1, 1) := by decide +kernel
theorem d_M_update_37 : decode b_M_update 37 = .ok (.ireturn, 1) := by decide +kernel
theorem d_M_out_0 : decode b_M_out 0 = .ok (.iload_n 1, 1) := by decide +kernel
theorem d_M_out_1 : decode b_M_out 1 = .ok (.ifCond .lt (11), 3) := by decide +kernel
theorem d_M_out_4 : decode b_M_out 4 = .ok (.iload_n 1, 1) := by decide +kernel
theorem d_M_out_5 : decode b_M_out 5 = .ok (.aload_n 0, 1) := by decide +kernel
theorem d_M_out_6 : decode b_M_out 6 = .ok (.getfield 123, 3) := by decide +kernel
theorem d_M_out_9 : decode b_M_out 9 = .ok (.if_icmp .lt (7), 3) := by decide +kernel
theorem d_M_out_12 : decode b_M_out 12 = .ok (.iconst (-1), 1) := by decide +kernel
theorem d_M_out_13 : decode b_M_out 13 = .ok (.goto (9), 3) := by decide +kernel
theorem d_M_out_16 : decode b_M_out 16 = .ok (.aload_n 0, 1) := by decide +kernel
theorem d_M_out_17 : decode b_M_out 17 = .ok (.getfield 38, 3) := by decide +kernel
theorem d_M_out_20 : decode b_M_out 20 = .ok (.iload_n 1, 1) := by decide +kernel
theorem d_M_out_21 : decode b_M_out 21 = .ok (.iaload, 1) := by decide +kernel
theorem d_M_out_22 : decode b_M_out 22 = .ok (.ireturn, 1) := by decide +kernel
theorem d_M_outLen_0 : decode b_M_outLen 0 = .ok (.aload_n 0, 1) := by decide +kernel
theorem d_M_outLen_1 : decode b_M_outLen 1 = .ok (.getfield 123, 3) := by decide +kernel
theorem d_M_outLen_4 : decode b_M_outLen 4 = .ok (.ireturn, 1) := by decide +kernel
theorem d_M_keyLen_0 : decode b_M_keyLen 0 = .ok (.aload_n 0, 1) := by decide +kernel
theorem d_M_keyLen_1 : decode b_M_keyLen 1 = .ok (.getfield 120, 3) := by decide +kernel
theorem d_M_keyLen_4 : decode b_M_keyLen 4 = .ok (.ireturn, 1) := by decide +kernel
theorem d_M_length_0 : decode b_M_length 0 = .ok (.aload_n 0, 1) := by decide +kernel
theorem d_M_length_1 : decode b_M_length 1 = .ok (.getfield 13, 3) := by decide +kernel
theorem d_M_length_4 : decode b_M_length 4 = .ok (.iconst (-1), 1) := by decide +kernel
theorem d_M_length_5 : decode b_M_length 5 = .ok (.if_icmp .ne (9), 3) := by decide +kernel
theorem d_M_length_8 : decode b_M_length 8 = .ok (.ldc2_w 142, 3) := by decide +kernel
theorem d_M_length_11 : decode b_M_length 11 = .ok (.goto (7), 3) := by decide +kernel
theorem d_M_length_14 : decode b_M_length 14 = .ok (.aload_n 0, 1) := by decide +kernel
theorem d_M_length_15 : decode b_M_length 15 = .ok (.getfield 129, 3) := by decide +kernel
theorem d_M_length_18 : decode b_M_length 18 = .ok (.lreturn, 1) := by decide +kernel
end
section
theorem d_M_new_0 : decode b_M_new 0 = .ok (.aload_n 0, 1) := by decide +kernel
theorem d_M_new_1 : decode b_M_new 1 = .ok (.invokespecial 1, 3) := by decide +kernel
theorem d_M_new_4 : decode b_M_new 4 = .ok (.aload_n 0, 1) := by decide +kernel
theorem d_M_new_5 : decode b_M_new 5 = .ok (.sipush 300, 3) := by decide +kernel
theorem d_M_new_8 : decode b_M_new 8 = .ok (.newarray .int, 2) := by decide +kernel
theorem d_M_new_10 : decode b_M_new 10 = .ok (.putfield 7, 3) := by decide +kernel
theorem d_M_new_13 : decode b_M_new 13 = .ok (.aload_n 0, 1) := by decide +kernel
theorem d_M_new_14 : decode b_M_new 14 = .ok (.iconst (-1), 1) := by decide +kernel
theorem d_M_new_15 : decode b_M_new 15 = .ok (.putfield 13, 3) := by decide +kernel
theorem d_M_new_18 : decode b_M_new 18 = .ok (.aload_n 0, 1) := by decide +kernel
theorem d_M_new_19 : decode b_M_new 19 = .ok (.bipush 64, 2) := by decide +kernel
theorem d_M_new_21 : decode b_M_new 21 = .ok (.newarray .int, 2) := by decide +kernel
theorem d_M_new_23 : decode b_M_new 23 = .ok (.putfield 17, 3) := by decide +kernel
theorem d_M_new_26 : decode b_M_new 26 = .ok (.aload_n 0, 1) := by decide +kernel
theorem d_M_new_27 : decode b_M_new 27 = .ok (.iconst 5, 1) := by decide +kernel
theorem d_M_new_28 : decode b_M_new 28 = .ok (.newarray .int, 2) := by decide +kernel
theorem d_M_new_30 : decode b_M_new 30 = .ok (.putfield 20, 3) := by decide +kernel
theorem d_M_new_33 : decode b_M_new 33 = .ok (.aload_n 0, 1) := by decide +kernel
theorem d_M_new_34 : decode b_M_new 34 = .ok (.bipush 64, 2) := by decide +kernel
theorem d_M_new_36 : decode b_M_new 36 = .ok (.newarray .int, 2) := by decide +kernel
theorem d_M_new_38 : decode b_M_new 38 = .ok (.putfield 23, 3) := by decide +kernel
theorem d_M_new_41 : decode b_M_new 41 = .ok (.aload_n 0, 1) := by decide +kernel
theorem d_M_new_42 : decode b_M_new 42 = .ok (.bipush 80, 2) := by decide +kernel
theorem d_M_new_44 : decode b_M_new 44 = .ok (.newarray .int, 2) := by decide +kernel
theorem d_M_new_46 : decode b_M_new 46 = .ok (.putfield 26, 3) := by decide +kernel
theorem d_M_new_49 : decode b_M_new 49 = .ok (.aload_n 0, 1) := by decide +kernel
theorem d_M_new_50 : decode b_M_new 50 = .ok (.bipush 64, 2) := by decide +kernel
theorem d_M_new_52 : decode b_M_new 52 = .ok (.newarray .int, 2) := by decide +kernel
theorem d_M_new_54 : decode b_M_new 54 = .ok (.putfield 29, 3) := by decide +kernel
theorem d_M_new_57 : decode b_M_new 57 = .ok (.aload_n 0, 1) := by decide +kernel
theorem d_M_new_58 : decode b_M_new 58 = .ok (.iconst 4, 1) := by decide +kernel
theorem d_M_new_59 : decode b_M_new 59 = .ok (.newarray .int, 2) := by decide +kernel
theorem d_M_new_61 : decode b_M_new 61 = .ok (.putfield 32, 3) := by decide +kernel
theorem d_M_new_64 : decode b_M_new 64 = .ok (.aload_n 0, 1) := by decide +kernel
theorem d_M_new_65 : decode b_M_new 65 = .ok (.bipush 20, 2) := by decide +kernel
theorem d_M_new_67 : decode b_M_new 67 = .ok (.newarray .int, 2) := by decide +kernel
theorem d_M_new_69 : decode b_M_new 69 = .ok (.putfield 35, 3) := by decide +kernel
theorem d_M_new_72 : decode b_M_new 72 = .ok (.aload_n 0, 1) := by decide +kernel
theorem d_M_new_73 : decode b_M_new 73 = .ok (.bipush 20, 2) := by decide +kernel
theorem d_M_new_75 : decode b_M_new 75 = .ok (.newarray .int, 2) := by decide +kernel
theorem d_M_new_77 : decode b_M_new 77 = .ok (.putfield 38, 3) := by decide +kernel
theorem d_M_new_80 : decode b_M_new 80 = .ok (.aload_n 0, 1) := by decide +kernel
theorem d_M_new_81 : decode b_M_new 81 = .ok (.iload_n 1, 1) := by decide +kernel
theorem d_M_new_82 : decode b_M_new 82 = .ok (.ifCond .ge (7), 3) := by decide +kernel
theorem d_M_new_85 : decode b_M_new 85 = .ok (.iconst 0, 1) := by decide +kernel
theorem d_M_new_86 : decode b_M_new 86 = .ok (.goto (17), 3) := by decide +kernel
theorem d_M_new_89 : decode b_M_new 89 = .ok (.iload_n 1, 1) := by decide +kernel
theorem d_M_new_90 : decode b_M_new 90 = .ok (.sipush 300, 3) := by decide +kernel
theorem d_M_new_93 : decode b_M_new 93 = .ok (.if_icmp .le (9), 3) := by decide +kernel
theorem d_M_new_96 : decode b_M_new 96 = .ok (.sipush 300, 3) := by decide +kernel
theorem d_M_new_99 : decode b_M_new 99 = .ok (.goto (4), 3) := by decide +kernel
theorem d_M_new_102 : decode b_M_new 102 = .ok (.iload_n 1, 1) := by decide +kernel
theorem d_M_new_103 : decode b_M_new 103 = .ok (.putfield 41, 3) := by decide +kernel
theorem d_M_new_106 : decode b_M_new 106 = .ok (.iconst 0, 1) := by decide +kernel
theorem d_M_new_107 : decode b_M_new 107 = .ok (.istore_n 2, 1) := by decide +kernel
theorem d_M_new_108 : decode b_M_new 108 = .ok (.iload_n 2, 1) := by decide +kernel
theorem d_M_new_109 : decode b_M_new 109 = .ok (.bipush 64, 2) := by decide +kernel
theorem d_M_new_111 : decode b_M_new 111 = .ok (.if_icmp .ge (30), 3) := by decide +kernel
theorem d_M_new_114 : decode b_M_new 114 = .ok (.aload_n 0, 1) := by decide +kernel
theorem d_M_new_115 : decode b_M_new 115 = .ok (.getfield 29, 3) := by decide +kernel
theorem d_M_new_118 : decode b_M_new 118 = .ok (.iload_n 2, 1) := by decide +kernel
theorem d_M_new_119 : decode b_M_new 119 = .ok (.iload_n 2, 1) := by decide +kernel
theorem d_M_new_120 : decode b_M_new 120 = .ok (.iconst 1, 1) := by decide +kernel
theorem d_M_new_121 : decode b_M_new 121 = .ok (.iadd, 1) := by decide +kernel
theorem d_M_new_122 : decode b_M_new 122 = .ok (.invokestatic 44, 3) := by decide +kernel
theorem d_M_new_125 : decode b_M_new 125 = .ok (.invokestatic 48, 3) := by decide +kernel
theorem d_M_new_128 : decode b_M_new 128 = .ok (.ldc2_w 52, 3) := by decide +kernel
theorem d_M_new_131 : decode b_M_new 131 = .ok (.dmul, 1) := by decide +kernel
theorem d_M_new_132 : decode b_M_new 132 = .ok (.d2l, 1) := by decide +kernel
theorem d_M_new_133 : decode b_M_new 133 = .ok (.l2i, 1) := by decide +kernel
theorem d_M_new_134 : decode b_M_new 134 = .ok (.iastore, 1) := by decide +kernel
theorem d_M_new_135 : decode b_M_new 135 = .ok (.iinc 2 (1), 3) := by decide +kernel
theorem d_M_new_138 : decode b_M_new 138 = .ok (.goto (-30), 3) := by decide +kernel
theorem d_M_new_141 : decode b_M_new 141 = .ok (.aload_n 0, 1) := by decide +kernel
theorem d_M_new_142 : decode b_M_new 142 = .ok (.getfield 32, 3) := by decide +kernel
theorem d_M_new_145 : decode b_M_new 145 = .ok (.iconst 0, 1) := by decide +kernel
theorem d_M_new_146 : decode b_M_new 146 = .ok (.ldc2_w 54, 3) := by decide +kernel
theorem d_M_new_149 : decode b_M_new 149 = .ok (.invokestatic 56, 3) := by decide +kernel
theorem d_M_new_152 : decode b_M_new 152 = .ok (.iastore, 1) := by decide +kernel
theorem d_M_new_153 : decode b_M_new 153 = .ok (.aload_n 0, 1) := by decide +kernel
theorem d_M_new_154 : decode b_M_new 154 = .ok (.getfield 32, 3) := by decide +kernel
theorem d_M_new_157 : decode b_M_new 157 = .ok (.iconst 1, 1) := by decide +kernel
theorem d_M_new_158 : decode b_M_new 158 = .ok (.ldc2_w 60, 3) := by decide +kernel
theorem d_M_new_161 : decode b_M_new 161 = .ok (.invokestatic 56, 3) := by decide +kernel
theorem d_M_new_164 : decode b_M_new 164 = .ok (.iastore, 1) := by decide +kernel
theorem d_M_new_165 : decode b_M_new 165 = .ok (.aload_n 0, 1) := by decide +kernel
theorem d_M_new_166 : decode b_M_new 166 = .ok (.getfield 32, 3) := by decide +kernel
theorem d_M_new_169 : decode b_M_new 169 = .ok (.iconst 2, 1) := by decide +kernel
theorem d_M_new_170 : decode b_M_new 170 = .ok (.ldc2_w 62, 3) := by decide +kernel
theorem d_M_new_173 : decode b_M_new 173 = .ok (.invokestatic 56, 3) := by decide +kernel
theorem d_M_new_176 : decode b_M_new 176 = .ok (.iastore, 1) := by decide +kernel
theorem d_M_new_177 : decode b_M_new 177 = .ok (.aload_n 0, 1) := by decide +kernel
theorem d_M_new_178 : decode b_M_new 178 = .ok (.getfield 32, 3) := by decide +kernel
theorem d_M_new_181 : decode b_M_new 181 = .ok (.iconst 3, 1) := by decide +kernel
theorem d_M_new_182 : decode b_M_new 182 = .ok (.ldc2_w 64, 3) := by decide +kernel
theorem d_M_new_185 : decode b_M_new 185 = .ok (.invokestatic 56, 3) := by decide +kernel
theorem d_M_new_188 : decode b_M_new 188 = .ok (.iastore, 1) := by decide +kernel
theorem d_M_new_189 : decode b_M_new 189 = .ok (.return_, 1) := by decide +kernel
theorem d_M_one_0 : decode b_M_one 0 = .ok (.iconst 0, 1) := by decide +kernel
theorem d_M_one_1 : decode b_M_one 1 = .ok (.istore_n 1, 1) := by decide +kernel
theorem d_M_one_2 : decode b_M_one 2 = .ok (.iload_n 1, 1) := by decide +kernel
theorem d_M_one_3 : decode b_M_one 3 = .ok (.bipush 80, 2) := by decide +kernel
theorem d_M_one_5 : decode b_M_one 5 = .ok (.if_icmp .ge (116), 3) := by decide +kernel
theorem d_M_one_8 : decode b_M_one 8 = .ok (.aload_n 0, 1) := by decide +kernel
theorem d_M_one_9 : decode b_M_one 9 = .ok (.getfield 26, 3) := by decide +kernel
theorem d_M_one_12 : decode b_M_one 12 = .ok (.iload_n 1, 1) := by decide +kernel
theorem d_M_one_13 : decode b_M_one 13 = .ok (.iload_n 1, 1) := by decide +kernel
theorem d_M_one_14 : decode b_M_one 14 = .ok (.bipush 16, 2) := by decide +kernel
theorem d_M_one_16 : decode b_M_one 16 = .ok (.if_icmp .ge (56), 3) := by decide +kernel
theorem d_M_one_19 : decode b_M_one 19 = .ok (.aload_n 0, 1) := by decide +kernel
theorem d_M_one_20 : decode b_M_one 20 = .ok (.getfield 23, 3) := by decide +kernel
theorem d_M_one_23 : decode b_M_one 23 = .ok (.iconst 4, 1) := by decide +kernel
theorem d_M_one_24 : decode b_M_one 24 = .ok (.iload_n 1, 1) := by decide +kernel
theorem d_M_one_25 : decode b_M_one 25 = .ok (.imul, 1) := by decide +kernel
theorem d_M_one_26 : decode b_M_one 26 = .ok (.iaload, 1) := by decide +kernel
theorem d_M_one_27 : decode b_M_one 27 = .ok (.bipush 24, 2) := by decide +kernel
theorem d_M_one_29 : decode b_M_one 29 = .ok (.ishl, 1) := by decide +kernel
theorem d_M_one_30 : decode b_M_one 30 = .ok (.aload_n 0, 1) := by decide +kernel
theorem d_M_one_31 : decode b_M_one 31 = .ok (.getfield 23, 3) := by decide +kernel
theorem d_M_one_34 : decode b_M_one 34 = .ok (.iconst 4, 1) := by decide +kernel
theorem d_M_one_35 : decode b_M_one 35 = .ok (.iload_n 1, 1) := by decide +kernel
theorem d_M_one_36 : decode b_M_one 36 = .ok (.imul, 1) := by decide +kernel
theorem d_M_one_37 : decode b_M_one 37 = .ok (.iconst 1, 1) := by decide +kernel
theorem d_M_one_38 : decode b_M_one 38 = .ok (.iadd, 1) := by decide +kernel
theorem d_M_one_39 : decode b_M_one 39 = .ok (.iaload, 1) := by decide +kernel
theorem d_M_one_40 : decode b_M_one 40 = .ok (.bipush 16, 2) := by decide +kernel
theorem d_M_one_42 : decode b_M_one 42 = .ok (.ishl, 1) := by decide +kernel
theorem d_M_one_43 : decode b_M_one 43 = .ok (.ior, 1) := by decide +kernel
theorem d_M_one_44 : decode b_M_one 44 = .ok (.aload_n 0, 1) := by decide +kernel
theorem d_M_one_45 : decode b_M_one 45 = .ok (.getfield 23, 3) := by decide +kernel
theorem d_M_one_48 : decode b_M_one 48 = .ok (.iconst 4, 1) := by decide +kernel
theorem d_M_one_49 : decode b_M_one 49 = .ok (.iload_n 1, 1) := by decide +kernel
theorem d_M_one_50 : decode b_M_one 50 = .ok (.imul, 1) := by decide +kernel
theorem d_M_one_51 : decode b_M_one 51 = .ok (.iconst 2, 1) := by decide +kernel
theorem d_M_one_52 : decode b_M_one 52 = .ok (.iadd, 1) := by decide +kernel
theorem d_M_one_53 : decode b_M_one 53 = .ok (.iaload, 1) := by decide +kernel
theorem d_M_one_54 : decode b_M_one 54 = .ok (.bipush 8, 2) := by decide +kernel
theorem d_M_one_56 : decode b_M_one 56 = .ok (.ishl, 1) := by decide +kernel
theorem d_M_one_57 : decode b_M_one 57 = .ok (.ior, 1) := by decide +kernel
theorem d_M_one_58 : decode b_M_one 58 = .ok (.aload_n 0, 1) := by decide +kernel
theorem d_M_one_59 : decode b_M_one 59 = .ok (.getfield 23, 3) := by decide +kernel
theorem d_M_one_62 : decode b_M_one 62 = .ok (.iconst 4, 1) := by decide +kernel
theorem d_M_one_63 : decode b_M_one 63 = .ok (.iload_n 1, 1) := by decide +kernel
theorem d_M_one_64 : decode b_M_one 64 = .ok (.imul, 1) := by decide +kernel
theorem d_M_one_65 : decode b_M_one 65 = .ok (.iconst 3, 1) := by decide +kernel
theorem d_M_one_66 : decode b_M_one 66 = .ok (.iadd, 1) := by decide +kernel
theorem d_M_one_67 : decode b_M_one 67 = .ok (.iaload, 1) := by decide +kernel
theorem d_M_one_68 : decode b_M_one 68 = .ok (.ior, 1) := by decide +kernel
theorem d_M_one_69 : decode b_M_one 69 = .ok (.goto (45), 3) := by decide +kernel
theorem d_M_one_72 : decode b_M_one 72 = .ok (.aload_n 0, 1) := by decide +kernel
theorem d_M_one_73 : decode b_M_one 73 = .ok (.getfield 26, 3) := by decide +kernel
theorem d_M_one_76 : decode b_M_one 76 = .ok (.iload_n 1, 1) := by decide +kernel
theorem d_M_one_77 : decode b_M_one 77 = .ok (.iconst 3, 1) := by decide +kernel
theorem d_M_one_78 : decode b_M_one 78 = .ok (.isub, 1) := by decide +kernel
theorem d_M_one_79 : decode b_M_one 79 = .ok (.iaload, 1) := by decide +kernel
theorem d_M_one_80 : decode b_M_one 80 = .ok (.aload_n 0, 1) := by decide +kernel
theorem d_M_one_81 : decode b_M_one 81 = .ok (.getfield 26, 3) := by decide +kernel
theorem d_M_one_84 : decode b_M_one 84 = .ok (.iload_n 1, 1) := by decide +kernel
theorem d_M_one_85 : decode b_M_one 85 = .ok (.bipush 8, 2) := by decide +kernel
theorem d_M_one_87 : decode b_M_one 87 = .ok (.isub, 1) := by decide +kernel
theorem d_M_one_88 : decode b_M_one 88 = .ok (.iaload, 1) := by decide +kernel
theorem d_M_one_89 : decode b_M_one 89 = .ok (.ixor, 1) := by decide +kernel
theorem d_M_one_90 : decode b_M_one 90 = .ok (.aload_n 0, 1) := by decide +kernel
theorem d_M_one_91 : decode b_M_one 91 = .ok (.getfield 26, 3) := by decide +kernel
theorem d_M_one_94 : decode b_M_one 94 = .ok (.iload_n 1, 1) := by decide +kernel
theorem d_M_one_95 : decode b_M_one 95 = .ok (.bipush 14, 2) := by decide +kernel
theorem d_M_one_97 : decode b_M_one 97 = .ok (.isub, 1) := by decide +kernel
theorem d_M_one_98 : decode b_M_one 98 = .ok (.iaload, 1) := by decide +kernel
theorem d_M_one_99 : decode b_M_one 99 = .ok (.ixor, 1) := by decide +kernel
theorem d_M_one_100 : decode b_M_one 100 = .ok (.aload_n 0, 1) := by decide +kernel
theorem d_M_one_101 : decode b_M_one 101 = .ok (.getfield 26, 3) := by decide +kernel
theorem d_M_one_104 : decode b_M_one 104 = .ok (.iload_n 1, 1) := by decide +kernel
theorem d_M_one_105 : decode b_M_one 105 = .ok (.bipush 16, 2) := by decide +kernel
theorem d_M_one_107 : decode b_M_one 107 = .ok (.isub, 1) := by decide +kernel
theorem d_M_one_108 : decode b_M_one 108 = .ok (.iaload, 1) := by decide +kernel
theorem d_M_one_109 : decode b_M_one 109 = .ok (.ixor, 1) := by decide +kernel
theorem d_M_one_110 : decode b_M_one 110 = .ok (.iconst 1, 1) := by decide +kernel
theorem d_M_one_111 : decode b_M_one 111 = .ok (.invokestatic 98, 3) := by decide +kernel
theorem d_M_one_114 : decode b_M_one 114 = .ok (.iastore, 1) := by decide +kernel
theorem d_M_one_115 : decode b_M_one 115 = .ok (.iinc 1 (1), 3) := by decide +kernel
theorem d_M_one_118 : decode b_M_one 118 = .ok (.goto (-116), 3) := by decide +kernel
theorem d_M_one_121 : decode b_M_one 121 = .ok (.aload_n 0, 1) := by decide +kernel
theorem d_M_one_122 : decode b_M_one 122 = .ok (.getfield 20, 3) := by decide +kernel
theorem d_M_one_125 : decode b_M_one 125 = .ok (.iconst 0, 1) := by decide +kernel
theorem d_M_one_126 : decode b_M_one 126 = .ok (.iaload, 1) := by decide +kernel
theorem d_M_one_127 : decode b_M_one 127 = .ok (.istore_n 1, 1) := by decide +kernel
theorem d_M_one_128 : decode b_M_one 128 = .ok (.aload_n 0, 1) := by decide +kernel
theorem d_M_one_129 : decode b_M_one 129 = .ok (.getfield 20, 3) := by decide +kernel
theorem d_M_one_132 : decode b_M_one 132 = .ok (.iconst 1, 1) := by decide +kernel
theorem d_M_one_133 : decode b_M_one 133 = .ok (.iaload, 1) := by decide +kernel
theorem d_M_one_134 : decode b_M_one 134 = .ok (.istore_n 2, 1) := by decide +kernel
theorem d_M_one_135 : decode b_M_one 135 = .ok (.aload_n 0, 1) := by decide +kernel
theorem d_M_one_136 : decode b_M_one 136 = .ok (.getfield 20, 3) := by decide +kernel
theorem d_M_one_139 : decode b_M_one 139 = .ok (.iconst 2, 1) := by decide +kernel
theorem d_M_one_140 : decode b_M_one 140 = .ok (.iaload, 1) := by decide +kernel
theorem d_M_one_141 : decode b_M_one 141 = .ok (.istore_n 3, 1) := by decide +kernel
theorem d_M_one_142 : decode b_M_one 142 = .ok (.aload_n 0, 1) := by decide +kernel
theorem d_M_one_143 : decode b_M_one 143 = .ok (.getfield 20, 3) := by decide +kernel
theorem d_M_one_146 : decode b_M_one 146 = .ok (.iconst 3, 1) := by decide +kernel
theorem d_M_one_147 : decode b_M_one 147 = .ok (.iaload, 1) := by decide +kernel
theorem d_M_one_148 : decode b_M_one 148 = .ok (.istore 4, 2) := by decide +kernel
theorem d_M_one_150 : decode b_M_one 150 = .ok (.aload_n 0, 1) := by decide +kernel
theorem d_M_one_151 : decode b_M_one 151 = .ok (.getfield 20, 3) := by decide +kernel
theorem d_M_one_154 : decode b_M_one 154 = .ok (.iconst 4, 1) := by decide +kernel
theorem d_M_one_155 : decode b_M_one 155 = .ok (.iaload, 1) := by decide +kernel
theorem d_M_one_156 : decode b_M_one 156 = .ok (.istore 5, 2) := by decide +kernel
theorem d_M_one_158 : decode b_M_one 158 = .ok (.iconst 0, 1) := by decide +kernel
theorem d_M_one_159 : decode b_M_one 159 = .ok (.istore 6, 2) := by decide +kernel
theorem d_M_one_161 : decode b_M_one 161 = .ok (.iload 6, 2) := by decide +kernel
theorem d_M_one_163 : decode b_M_one 163 = .ok (.bipush 80, 2) := by decide +kernel
theorem d_M_one_165 : decode b_M_one 165 = .ok (.if_icmp .ge (112), 3) := by decide +kernel
theorem d_M_one_168 : decode b_M_one 168 = .ok (.iload 6, 2) := by decide +kernel
theorem d_M_one_170 : decode b_M_one 170 = .ok (.bipush 20, 2) := by decide +kernel
theorem d_M_one_172 : decode b_M_one 172 = .ok (.idiv, 1) := by decide +kernel
theorem d_M_one_173 : decode b_M_one 173 = .ok (.istore 7, 2) := by decide +kernel
theorem d_M_one_175 : decode b_M_one 175 = .ok (.iload 7, 2) := by decide +kernel
theorem d_M_one_177 : decode b_M_one 177 = .ok (.ifCond .ne (16), 3) := by decide +kernel
theorem d_M_one_180 : decode b_M_one 180 = .ok (.iload_n 2, 1) := by decide +kernel
theorem d_M_one_181 : decode b_M_one 181 = .ok (.iload_n 3, 1) := by decide +kernel
theorem d_M_one_182 : decode b_M_one 182 = .ok (.iand, 1) := by decide +kernel
theorem d_M_one_183 : decode b_M_one 183 = .ok (.iload_n 2, 1) := by decide +kernel
theorem d_M_one_184 : decode b_M_one 184 = .ok (.iconst (-1), 1) := by decide +kernel
theorem d_M_one_185 : decode b_M_one 185 = .ok (.ixor, 1) := by decide +kernel
theorem d_M_one_186 : decode b_M_one 186 = .ok (.iload 4, 2) := by decide +kernel
theorem d_M_one_188 : decode b_M_one 188 = .ok (.iand, 1) := by decide +kernel
theorem d_M_one_189 : decode b_M_one 189 = .ok (.ior, 1) := by decide +kernel
theorem d_M_one_190 : decode b_M_one 190 = .ok (.goto (31), 3) := by decide +kernel
theorem d_M_one_193 : decode b_M_one 193 = .ok (.iload 7, 2) := by decide +kernel
theorem d_M_one_195 : decode b_M_one 195 = .ok (.iconst 2, 1) := by decide +kernel
theorem d_M_one_196 : decode b_M_one 196 = .ok (.if_icmp .ne (19), 3) := by decide +kernel
theorem d_M_one_199 : decode b_M_one 199 = .ok (.iload_n 2, 1) := by decide +kernel
theorem d_M_one_200 : decode b_M_one 200 = .ok (.iload_n 3, 1) := by decide +kernel
theorem d_M_one_201 : decode b_M_one 201 = .ok (.iand, 1) := by decide +kernel
theorem d_M_one_202 : decode b_M_one 202 = .ok (.iload_n 2, 1) := by decide +kernel
theorem d_M_one_203 : decode b_M_one 203 = .ok (.iload 4, 2) := by decide +kernel
theorem d_M_one_205 : decode b_M_one 205 = .ok (.iand, 1) := by decide +kernel
theorem d_M_one_206 : decode b_M_one 206 = .ok (.ior, 1) := by decide +kernel
theorem d_M_one_207 : decode b_M_one 207 = .ok (.iload_n 3, 1) := by decide +kernel
theorem d_M_one_208 : decode b_M_one 208 = .ok (.iload 4, 2) := by decide +kernel
theorem d_M_one_210 : decode b_M_one 210 = .ok (.iand, 1) := by decide +kernel
theorem d_M_one_211 : decode b_M_one 211 = .ok (.ior, 1) := by decide +kernel
theorem d_M_one_212 : decode b_M_one 212 = .ok (.goto (9), 3) := by decide +kernel
theorem d_M_one_215 : decode b_M_one 215 = .ok (.iload_n 2, 1) := by decide +kernel
theorem d_M_one_216 : decode b_M_one 216 = .ok (.iload_n 3, 1) := by decide +kernel
theorem d_M_one_217 : decode b_M_one 217 = .ok (.ixor, 1) := by decide +kernel
theorem d_M_one_218 : decode b_M_one 218 = .ok (.iload 4, 2) := by decide +kernel
theorem d_M_one_220 : decode b_M_one 220 = .ok (.ixor, 1) := by decide +kernel
theorem d_M_one_221 : decode b_M_one 221 = .ok (.istore 8, 2) := by decide +kernel
theorem d_M_one_223 : decode b_M_one 223 = .ok (.iload_n 1, 1) := by decide +kernel
theorem d_M_one_224 : decode b_M_one 224 = .ok (.iconst 5, 1) := by decide +kernel
theorem d_M_one_225 : decode b_M_one 225 = .ok (.invokestatic 98, 3) := by decide +kernel
theorem d_M_one_228 : decode b_M_one 228 = .ok (.iload 8, 2) := by decide +kernel
theorem d_M_one_230 : decode b_M_one 230 = .ok (.iadd, 1) := by decide +kernel
theorem d_M_one_231 : decode b_M_one 231 = .ok (.iload 5, 2) := by decide +kernel
theorem d_M_one_233 : decode b_M_one 233 = .ok (.iadd, 1) := by decide +kernel
theorem d_M_one_234 : decode b_M_one 234 = .ok (.aload_n 0, 1) := by decide +kernel
theorem d_M_one_235 : decode b_M_one 235 = .ok (.getfield 32, 3) := by decide +kernel
theorem d_M_one_238 : decode b_M_one 238 = .ok (.iload 7, 2) := by decide +kernel
theorem d_M_one_240 : decode b_M_one 240 = .ok (.iaload, 1) := by decide +kernel
theorem d_M_one_241 : decode b_M_one 241 = .ok (.iadd, 1) := by decide +kernel
theorem d_M_one_242 : decode b_M_one 242 = .ok (.aload_n 0, 1) := by decide +kernel
theorem d_M_one_243 : decode b_M_one 243 = .ok (.getfield 26, 3) := by decide +kernel
theorem d_M_one_246 : decode b_M_one 246 = .ok (.iload 6, 2) := by decide +kernel
theorem d_M_one_248 : decode b_M_one 248 = .ok (.iaload, 1) := by decide +kernel
theorem d_M_one_249 : decode b_M_one 249 = .ok (.iadd, 1) := by decide +kernel
theorem d_M_one_250 : decode b_M_one 250 = .ok (.istore 9, 2) := by decide +kernel
theorem d_M_one_252 : decode b_M_one 252 = .ok (.iload 4, 2) := by decide +kernel
theorem d_M_one_254 : decode b_M_one 254 = .ok (.istore 5, 2) := by decide +kernel
theorem d_M_one_256 : decode b_M_one 256 = .ok (.iload_n 3, 1) := by decide +kernel
theorem d_M_one_257 : decode b_M_one 257 = .ok (.istore 4, 2) := by decide +kernel
theorem d_M_one_259 : decode b_M_one 259 = .ok (.iload_n 2, 1) := by decide +kernel
theorem d_M_one_260 : decode b_M_one 260 = .ok (.bipush 30, 2) := by decide +kernel
theorem d_M_one_262 : decode b_M_one 262 = .ok (.invokestatic 98, 3) := by decide +kernel
theorem d_M_one_265 : decode b_M_one 265 = .ok (.istore_n 3, 1) := by decide +kernel
theorem d_M_one_266 : decode b_M_one 266 = .ok (.iload_n 1, 1) := by decide +kernel
theorem d_M_one_267 : decode b_M_one 267 = .ok (.istore_n 2, 1) := by decide +kernel
theorem d_M_one_268 : decode b_M_one 268 = .ok (.iload 9, 2) := by decide +kernel
theorem d_M_one_270 : decode b_M_one 270 = .ok (.istore_n 1, 1) := by decide +kernel
theorem d_M_one_271 : decode b_M_one 271 = .ok (.iinc 6 (1), 3) := by decide +kernel
theorem d_M_one_274 : decode b_M_one 274 = .ok (.goto (-113), 3) := by decide +kernel
theorem d_M_one_277 : decode b_M_one 277 = .ok (.aload_n 0, 1) := by decide +kernel
theorem d_M_one_278 : decode b_M_one 278 = .ok (.getfield 20, 3) := by decide +kernel
theorem d_M_one_281 : decode b_M_one 281 = .ok (.iconst 0, 1) := by decide +kernel
theorem d_M_one_282 : decode b_M_one 282 = .ok (.dup2, 1) := by decide +kernel
theorem d_M_one_283 : decode b_M_one 283 = .ok (.iaload, 1) := by decide +kernel
theorem d_M_one_284 : decode b_M_one 284 = .ok (.iload_n 1, 1) := by decide +kernel
theorem d_M_one_285 : decode b_M_one 285 = .ok (.iadd, 1) := by decide +kernel
theorem d_M_one_286 : decode b_M_one 286 = .ok (.iastore, 1) := by decide +kernel
theorem d_M_one_287 : decode b_M_one 287 = .ok (.aload_n 0, 1) := by decide +kernel
theorem d_M_one_288 : decode b_M_one 288 = .ok (.getfield 20, 3) := by decide +kernel
theorem d_M_one_291 : decode b_M_one 291 = .ok (.iconst 1, 1) := by decide +kernel
theorem d_M_one_292 : decode b_M_one 292 = .ok (.dup2, 1) := by decide +kernel
theorem d_M_one_293 : decode b_M_one 293 = .ok (.iaload, 1) := by decide +kernel
theorem d_M_one_294 : decode b_M_one 294 = .ok (.iload_n 2, 1) := by decide +kernel
theorem d_M_one_295 : decode b_M_one 295 = .ok (.iadd, 1) := by decide +kernel
theorem d_M_one_296 : decode b_M_one 296 = .ok (.iastore, 1) := by decide +kernel
theorem d_M_one_297 : decode b_M_one 297 = .ok (.aload_n 0, 1) := by decide +kernel
theorem d_M_one_298 : decode b_M_one 298 = .ok (.getfield 20, 3) := by decide +kernel
theorem d_M_one_301 : decode b_M_one 301 = .ok (.iconst 2, 1) := by decide +kernel
theorem d_M_one_302 : decode b_M_one 302 = .ok (.dup2, 1) := by decide +kernel
theorem d_M_one_303 : decode b_M_one 303 = .ok (.iaload, 1) := by decide +kernel
theorem d_M_one_304 : decode b_M_one 304 = .ok (.iload_n 3, 1) := by decide +kernel
theorem d_M_one_305 : decode b_M_one 305 = .ok (.iadd, 1) := by decide +kernel
theorem d_M_one_306 : decode b_M_one 306 = .ok (.iastore, 1) := by decide +kernel
theorem d_M_one_307 : decode b_M_one 307 = .ok (.aload_n 0, 1) := by decide +kernel
theorem d_M_one_308 : decode b_M_one 308 = .ok (.getfield 20, 3) := by decide +kernel
theorem d_M_one_311 : decode b_M_one 311 = .ok (.iconst 3, 1) := by decide +kernel
theorem d_M_one_312 : decode b_M_one 312 = .ok (.dup2, 1) := by decide +kernel
theorem d_M_one_313 : decode b_M_one 313 = .ok (.iaload, 1) := by decide +kernel
theorem d_M_one_314 : decode b_M_one 314 = .ok (.iload 4, 2) := by decide +kernel
theorem d_M_one_316 : decode b_M_one 316 = .ok (.iadd, 1) := by decide +kernel
theorem d_M_one_317 : decode b_M_one 317 = .ok (.iastore, 1) := by decide +kernel
theorem d_M_one_318 : decode b_M_one 318 = .ok (.aload_n 0, 1) := by decide +kernel
theorem d_M_one_319 : decode b_M_one 319 = .ok (.getfield 20, 3) := by decide +kernel
theorem d_M_one_322 : decode b_M_one 322 = .ok (.iconst 4, 1) := by decide +kernel
theorem d_M_one_323 : decode b_M_one 323 = .ok (.dup2, 1) := by decide +kernel
theorem d_M_one_324 : decode b_M_one 324 = .ok (.iaload, 1) := by decide +kernel
theorem d_M_one_325 : decode b_M_one 325 = .ok (.iload 5, 2) := by decide +kernel
theorem d_M_one_327 : decode b_M_one 327 = .ok (.iadd, 1) := by decide +kernel
theorem d_M_one_328 : decode b_M_one 328 = .ok (.iastore, 1) := by decide +kernel
theorem d_M_one_329 : decode b_M_one 329 = .ok (.return_, 1) := by decide +kernel
theorem d_M_end_0 : decode b_M_end 0 = .ok (.ldc2_w 102, 3) := by decide +kernel
theorem d_M_end_3 : decode b_M_end 3 = .ok (.aload_n 0, 1) := by decide +kernel
theorem d_M_end_4 : decode b_M_end 4 = .ok (.getfield 82, 3) := by decide +kernel
theorem d_M_end_7 : decode b_M_end 7 = .ok (.lmul, 1) := by decide +kernel
theorem d_M_end_8 : decode b_M_end 8 = .ok (.lstore_n 1, 1) := by decide +kernel
theorem d_M_end_9 : decode b_M_end 9 = .ok (.aload_n 0, 1) := by decide +kernel
theorem d_M_end_10 : decode b_M_end 10 = .ok (.sipush 128, 3) := by decide +kernel
theorem d_M_end_13 : decode b_M_end 13 = .ok (.invokevirtual 104, 3) := by decide +kernel
theorem d_M_end_16 : decode b_M_end 16 = .ok (.aload_n 0, 1) := by decide +kernel
theorem d_M_end_17 : decode b_M_end 17 = .ok (.getfield 82, 3) := by decide +kernel
theorem d_M_end_20 : decode b_M_end 20 = .ok (.ldc2_w 86, 3) := by decide +kernel
theorem d_M_end_23 : decode b_M_end 23 = .ok (.lrem, 1) := by decide +kernel
theorem d_M_end_24 : decode b_M_end 24 = .ok (.ldc2_w 108, 3) := by decide +kernel
theorem d_M_end_27 : decode b_M_end 27 = .ok (.lcmp, 1) := by decide +kernel
theorem d_M_end_28 : decode b_M_end 28 = .ok (.ifCond .eq (11), 3) := by decide +kernel
theorem d_M_end_31 : decode b_M_end 31 = .ok (.aload_n 0, 1) := by decide +kernel
theorem d_M_end_32 : decode b_M_end 32 = .ok (.iconst 0, 1) := by decide +kernel
theorem d_M_end_33 : decode b_M_end 33 = .ok (.invokevirtual 104, 3) := by decide +kernel
theorem d_M_end_36 : decode b_M_end 36 = .ok (.goto (-20), 3) := by decide +kernel
theorem d_M_end_39 : decode b_M_end 39 = .ok (.iconst 0, 1) := by decide +kernel
theorem d_M_end_40 : decode b_M_end 40 = .ok (.istore_n 3, 1) := by decide +kernel
theorem d_M_end_41 : decode b_M_end 41 = .ok (.iload_n 3, 1) := by decide +kernel
theorem d_M_end_42 : decode b_M_end 42 = .ok (.bipush 8, 2) := by decide +kernel
theorem d_M_end_44 : decode b_M_end 44 = .ok (.if_icmp .ge (41), 3) := by decide +kernel
theorem d_M_end_47 : decode b_M_end 47 = .ok (.aload_n 0, 1) := by decide +kernel
theorem d_M_end_48 : decode b_M_end 48 = .ok (.lload_n 1, 1) := by decide +kernel
theorem d_M_end_49 : decode b_M_end 49 = .ok (.aload_n 0, 1) := by decide +kernel
theorem d_M_end_50 : decode b_M_end 50 = .ok (.getfield 74, 3) := by decide +kernel
theorem d_M_end_53 : decode b_M_end 53 = .ok (.ifCond .ne (10), 3) := by decide +kernel
theorem d_M_end_56 : decode b_M_end 56 = .ok (.bipush 8, 2) := by decide +kernel
theorem d_M_end_58 : decode b_M_end 58 = .ok (.iload_n 3, 1) := by decide +kernel
theorem d_M_end_59 : decode b_M_end 59 = .ok (.imul, 1) := by decide +kernel
theorem d_M_end_60 : decode b_M_end 60 = .ok (.goto (10), 3) := by decide +kernel
theorem d_M_end_63 : decode b_M_end 63 = .ok (.bipush 56, 2) := by decide +kernel
theorem d_M_end_65 : decode b_M_end 65 = .ok (.bipush 8, 2) := by decide +kernel
theorem d_M_end_67 : decode b_M_end 67 = .ok (.iload_n 3, 1) := by decide +kernel
theorem d_M_end_68 : decode b_M_end 68 = .ok (.imul, 1) := by decide +kernel
theorem d_M_end_69 : decode b_M_end 69 = .ok (.isub, 1) := by decide +kernel
theorem d_M_end_70 : decode b_M_end 70 = .ok (.lshr, 1) := by decide +kernel
theorem d_M_end_71 : decode b_M_end 71 = .ok (.ldc2_w 110, 3) := by decide +kernel
theorem d_M_end_74 : decode b_M_end 74 = .ok (.land, 1) := by decide +kernel
theorem d_M_end_75 : decode b_M_end 75 = .ok (.l2i, 1) := by decide +kernel
theorem d_M_end_76 : decode b_M_end 76 = .ok (.invokevirtual 104, 3) := by decide +kernel
theorem d_M_end_79 : decode b_M_end 79 = .ok (.iinc 3 (1), 3) := by decide +kernel
theorem d_M_end_82 : decode b_M_end 82 = .ok (.goto (-41), 3) := by decide +kernel
theorem d_M_end_85 : decode b_M_end 85 = .ok (.iconst 0, 1) := by decide +kernel
theorem d_M_end_86 : decode b_M_end 86 = .ok (.istore_n 3, 1) := by decide +kernel
theorem d_M_end_87 : decode b_M_end 87 = .ok (.iload_n 3, 1) := by decide +kernel
theorem d_M_end_88 : decode b_M_end 88 = .ok (.aload_n 0, 1) := by decide +kernel
theorem d_M_end_89 : decode b_M_end 89 = .ok (.invokevirtual 112, 3) := by decide +kernel
theorem d_M_end_92 : decode b_M_end 92 = .ok (.if_icmp .ge (53), 3) := by decide +kernel
theorem d_M_end_95 : decode b_M_end 95 = .ok (.aload_n 0, 1) := by decide +kernel
theorem d_M_end_96 : decode b_M_end 96 = .ok (.getfield 35, 3) := by decide +kernel
theorem d_M_end_99 : decode b_M_end 99 = .ok (.iload_n 3, 1) := by decide +kernel
theorem d_M_end_100 : decode b_M_end 100 = .ok (.aload_n 0, 1) := by decide +kernel
theorem d_M_end_101 : decode b_M_end 101 = .ok (.getfield 20, 3) := by decide +kernel
theorem d_M_end_104 : decode b_M_end 104 = .ok (.iload_n 3, 1) := by decide +kernel
theorem d_M_end_105 : decode b_M_end 105 = .ok (.iconst 4, 1) := by decide +kernel
theorem d_M_end_106 : decode b_M_end 106 = .ok (.idiv, 1) := by decide +kernel
theorem d_M_end_107 : decode b_M_end 107 = .ok (.iaload, 1) := by decide +kernel
theorem d_M_end_108 : decode b_M_end 108 = .ok (.aload_n 0, 1) := by decide +kernel
theorem d_M_end_109 : decode b_M_end 109 = .ok (.getfield 74, 3) := by decide +kernel
theorem d_M_end_112 : decode b_M_end 112 = .ok (.ifCond .ne (12), 3) := by decide +kernel
theorem d_M_end_115 : decode b_M_end 115 = .ok (.iload_n 3, 1) := by decide +kernel
theorem d_M_end_116 : decode b_M_end 116 = .ok (.iconst 4, 1) := by decide +kernel
theorem d_M_end_117 : decode b_M_end 117 = .ok (.irem, 1) := by decide +kernel
theorem d_M_end_118 : decode b_M_end 118 = .ok (.bipush 8, 2) := by decide +kernel
theorem d_M_end_120 : decode b_M_end 120 = .ok (.imul, 1) := by decide +kernel
theorem d_M_end_121 : decode b_M_end 121 = .ok (.goto (12), 3) := by decide +kernel
theorem d_M_end_124 : decode b_M_end 124 = .ok (.bipush 24, 2) := by decide +kernel
theorem d_M_end_126 : decode b_M_end 126 = .ok (.iload_n 3, 1) := by decide +kernel
theorem d_M_end_127 : decode b_M_end 127 = .ok (.iconst 4, 1) := by decide +kernel
theorem d_M_end_128 : decode b_M_end 128 = .ok (.irem, 1) := by decide +kernel
theorem d_M_end_129 : decode b_M_end 129 = .ok (.bipush 8, 2) := by decide +kernel
theorem d_M_end_131 : decode b_M_end 131 = .ok (.imul, 1) := by decide +kernel
theorem d_M_end_132 : decode b_M_end 132 = .ok (.isub, 1) := by decide +kernel
theorem d_M_end_133 : decode b_M_end 133 = .ok (.iushr, 1) := by decide +kernel
theorem d_M_end_134 : decode b_M_end 134 = .ok (.sipush 255, 3) := by decide +kernel
theorem d_M_end_137 : decode b_M_end 137 = .ok (.iand, 1) := by decide +kernel
theorem d_M_end_138 : decode b_M_end 138 = .ok (.iastore, 1) := by decide +kernel
theorem d_M_end_139 : decode b_M_end 139 = .ok (.iinc 3 (1), 3) := by decide +kernel
theorem d_M_end_142 : decode b_M_end 142 = .ok (.goto (-55), 3) := by decide +kernel
theorem d_M_end_145 : decode b_M_end 145 = .ok (.return_, 1) := by decide +kernel
theorem d_M_startMac_0 : decode b_M_startMac 0 = .ok (.aload_n 0, 1) := by decide +kernel
theorem d_M_startMac_1 : decode b_M_startMac 1 = .ok (.iload_n 1, 1) := by decide +kernel
theorem d_M_startMac_2 : decode b_M_startMac 2 = .ok (.invokevirtual 135, 3) := by decide +kernel
theorem d_M_startMac_5 : decode b_M_startMac 5 = .ok (.ifCond .ne (5), 3) := by decide +kernel
theorem d_M_startMac_8 : decode b_M_startMac 8 = .ok (.iconst 0, 1) := by decide +kernel
theorem d_M_startMac_9 : decode b_M_startMac 9 = .ok (.ireturn, 1) := by decide +kernel
theorem d_M_startMac_10 : decode b_M_startMac 10 = .ok (.aload_n 0, 1) := by decide +kernel
theorem d_M_startMac_11 : decode b_M_startMac 11 = .ok (.iconst 1, 1) := by decide +kernel
theorem d_M_startMac_12 : decode b_M_startMac 12 = .ok (.putfield 126, 3) := by decide +kernel
theorem d_M_startMac_15 : decode b_M_startMac 15 = .ok (.aload_n 0, 1) := by decide +kernel
theorem d_M_startMac_16 : decode b_M_startMac 16 = .ok (.getfield 120, 3) := by decide +kernel
theorem d_M_startMac_19 : decode b_M_startMac 19 = .ok (.istore_n 2, 1) := by decide +kernel
theorem d_M_startMac_20 : decode b_M_startMac 20 = .ok (.aload_n 0, 1) := by decide +kernel
theorem d_M_startMac_21 : decode b_M_startMac 21 = .ok (.getfield 120, 3) := by decide +kernel
theorem d_M_startMac_24 : decode b_M_startMac 24 = .ok (.bipush 64, 2) := by decide +kernel
theorem d_M_startMac_26 : decode b_M_startMac 26 = .ok (.if_icmp .le (38), 3) := by decide +kernel
theorem d_M_startMac_29 : decode b_M_startMac 29 = .ok (.iconst 0, 1) := by decide +kernel
theorem d_M_startMac_30 : decode b_M_startMac 30 = .ok (.istore_n 3, 1) := by decide +kernel
theorem d_M_startMac_31 : decode b_M_startMac 31 = .ok (.iload_n 3, 1) := by decide +kernel
theorem d_M_startMac_32 : decode b_M_startMac 32 = .ok (.aload_n 0, 1) := by decide +kernel
theorem d_M_startMac_33 : decode b_M_startMac 33 = .ok (.getfield 120, 3) := by decide +kernel
theorem d_M_startMac_36 : decode b_M_startMac 36 = .ok (.if_icmp .ge (19), 3) := by decide +kernel
theorem d_M_startMac_39 : decode b_M_startMac 39 = .ok (.aload_n 0, 1) := by decide +kernel
theorem d_M_startMac_40 : decode b_M_startMac 40 = .ok (.aload_n 0, 1) := by decide +kernel
theorem d_M_startMac_41 : decode b_M_startMac 41 = .ok (.getfield 7, 3) := by decide +kernel
theorem d_M_startMac_44 : decode b_M_startMac 44 = .ok (.iload_n 3, 1) := by decide +kernel
theorem d_M_startMac_45 : decode b_M_startMac 45 = .ok (.iaload, 1) := by decide +kernel
theorem d_M_startMac_46 : decode b_M_startMac 46 = .ok (.invokevirtual 104, 3) := by decide +kernel
theorem d_M_startMac_49 : decode b_M_startMac 49 = .ok (.iinc 3 (1), 3) := by decide +kernel
theorem d_M_startMac_52 : decode b_M_startMac 52 = .ok (.goto (-21), 3) := by decide +kernel
theorem d_M_startMac_55 : decode b_M_startMac 55 = .ok (.aload_n 0, 1) := by decide +kernel
theorem d_M_startMac_56 : decode b_M_startMac 56 = .ok (.invokevirtual 139, 3) := by decide +kernel
theorem d_M_startMac_59 : decode b_M_startMac 59 = .ok (.aload_n 0, 1) := by decide +kernel
theorem d_M_startMac_60 : decode b_M_startMac 60 = .ok (.invokevirtual 112, 3) := by decide +kernel
theorem d_M_startMac_63 : decode b_M_startMac 63 = .ok (.istore_n 2, 1) := by decide +kernel
theorem d_M_startMac_64 : decode b_M_startMac 64 = .ok (.iconst 0, 1) := by decide +kernel
theorem d_M_startMac_65 : decode b_M_startMac 65 = .ok (.istore_n 3, 1) := by decide +kernel
theorem d_M_startMac_66 : decode b_M_startMac 66 = .ok (.iload_n 3, 1) := by decide +kernel
theorem d_M_startMac_67 : decode b_M_startMac 67 = .ok (.bipush 64, 2) := by decide +kernel
theorem d_M_startMac_69 : decode b_M_startMac 69 = .ok (.if_icmp .ge (48), 3) := by decide +kernel
theorem d_M_startMac_72 : decode b_M_startMac 72 = .ok (.aload_n 0, 1) := by decide +kernel
theorem d_M_startMac_73 : decode b_M_startMac 73 = .ok (.getfield 17, 3) := by decide +kernel
theorem d_M_startMac_76 : decode b_M_startMac 76 = .ok (.iload_n 3, 1) := by decide +kernel
theorem d_M_startMac_77 : decode b_M_startMac 77 = .ok (.iload_n 3, 1) := by decide +kernel
theorem d_M_startMac_78 : decode b_M_startMac 78 = .ok (.iload_n 2, 1) := by decide +kernel
theorem d_M_startMac_79 : decode b_M_startMac 79 = .ok (.if_icmp .lt (7), 3) := by decide +kernel
theorem d_M_startMac_82 : decode b_M_startMac 82 = .ok (.iconst 0, 1) := by decide +kernel
theorem d_M_startMac_83 : decode b_M_startMac 83 = .ok (.goto (27), 3) := by decide +kernel
theorem d_M_startMac_86 : decode b_M_startMac 86 = .ok (.aload_n 0, 1) := by decide +kernel
theorem d_M_startMac_87 : decode b_M_startMac 87 = .ok (.getfield 120, 3) := by decide +kernel
theorem d_M_startMac_90 : decode b_M_startMac 90 = .ok (.bipush 64, 2) := by decide +kernel
theorem d_M_startMac_92 : decode b_M_startMac 92 = .ok (.if_icmp .le (12), 3) := by decide +kernel
theorem d_M_startMac_95 : decode b_M_startMac 95 = .ok (.aload_n 0, 1) := by decide +kernel
theorem d_M_startMac_96 : decode b_M_startMac 96 = .ok (.getfield 35, 3) := by decide +kernel
theorem d_M_startMac_99 : decode b_M_startMac 99 = .ok (.iload_n 3, 1) := by decide +kernel
theorem d_M_startMac_100 : decode b_M_startMac 100 = .ok (.iaload, 1) := by decide +kernel
theorem d_M_startMac_101 : decode b_M_startMac 101 = .ok (.goto (9), 3) := by decide +kernel
theorem d_M_startMac_104 : decode b_M_startMac 104 = .ok (.aload_n 0, 1) := by decide +kernel
theorem d_M_startMac_105 : decode b_M_startMac 105 = .ok (.getfield 7, 3) := by decide +kernel
theorem d_M_startMac_108 : decode b_M_startMac 108 = .ok (.iload_n 3, 1) := by decide +kernel
theorem d_M_startMac_109 : decode b_M_startMac 109 = .ok (.iaload, 1) := by decide +kernel
theorem d_M_startMac_110 : decode b_M_startMac 110 = .ok (.iastore, 1) := by decide +kernel
theorem d_M_startMac_111 : decode b_M_startMac 111 = .ok (.iinc 3 (1), 3) := by decide +kernel
theorem d_M_startMac_114 : decode b_M_startMac 114 = .ok (.goto (-48), 3) := by decide +kernel
theorem d_M_startMac_117 : decode b_M_startMac 117 = .ok (.aload_n 0, 1) := by decide +kernel
theorem d_M_startMac_118 : decode b_M_startMac 118 = .ok (.iload_n 1, 1) := by decide +kernel
theorem d_M_startMac_119 : decode b_M_startMac 119 = .ok (.invokevirtual 132, 3) := by decide +kernel
theorem d_M_startMac_122 : decode b_M_startMac 122 = .ok (.iconst 0, 1) := by decide +kernel
theorem d_M_startMac_123 : decode b_M_startMac 123 = .ok (.istore_n 3, 1) := by decide +kernel
theorem d_M_startMac_124 : decode b_M_startMac 124 = .ok (.iload_n 3, 1) := by decide +kernel
theorem d_M_startMac_125 : decode b_M_startMac 125 = .ok (.bipush 64, 2) := by decide +kernel
theorem d_M_startMac_127 : decode b_M_startMac 127 = .ok (.if_icmp .ge (22), 3) := by decide +kernel
theorem d_M_startMac_130 : decode b_M_startMac 130 = .ok (.aload_n 0, 1) := by decide +kernel
theorem d_M_startMac_131 : decode b_M_startMac 131 = .ok (.aload_n 0, 1) := by decide +kernel
theorem d_M_startMac_132 : decode b_M_startMac 132 = .ok (.getfield 17, 3) := by decide +kernel
theorem d_M_startMac_135 : decode b_M_startMac 135 = .ok (.iload_n 3, 1) := by decide +kernel
theorem d_M_startMac_136 : decode b_M_startMac 136 = .ok (.iaload, 1) := by decide +kernel
theorem d_M_startMac_137 : decode b_M_startMac 137 = .ok (.bipush 54, 2) := by decide +kernel
theorem d_M_startMac_139 : decode b_M_startMac 139 = .ok (.ixor, 1) := by decide +kernel
theorem d_M_startMac_140 : decode b_M_startMac 140 = .ok (.invokevirtual 104, 3) := by decide +kernel
theorem d_M_startMac_143 : decode b_M_startMac 143 = .ok (.iinc 3 (1), 3) := by decide +kernel
theorem d_M_startMac_146 : decode b_M_startMac 146 = .ok (.goto (-22), 3) := by decide +kernel
theorem d_M_startMac_149 : decode b_M_startMac 149 = .ok (.iconst 1, 1) := by decide +kernel
theorem d_M_startMac_150 : decode b_M_startMac 150 = .ok (.ireturn, 1) := by decide +kernel
theorem d_M_pour_0 : decode b_M_pour 0 = .ok (.aload_n 0, 1) := by decide +kernel
theorem d_M_pour_1 : decode b_M_pour 1 = .ok (.getfield 13, 3) := by decide +kernel
theorem d_M_pour_4 : decode b_M_pour 4 = .ok (.iconst (-1), 1) := by decide +kernel
theorem d_M_pour_5 : decode b_M_pour 5 = .ok (.if_icmp .eq (29), 3) := by decide +kernel
theorem d_M_pour_8 : decode b_M_pour 8 = .ok (.iload 4, 2) := by decide +kernel
theorem d_M_pour_10 : decode b_M_pour 10 = .ok (.ifCond .lt (24), 3) := by decide +kernel
theorem d_M_pour_13 : decode b_M_pour 13 = .ok (.iload 4, 2) := by decide +kernel
theorem d_M_pour_15 : decode b_M_pour 15 = .ok (.bipush 12, 2) := by decide +kernel
theorem d_M_pour_17 : decode b_M_pour 17 = .ok (.if_icmp .gt (17), 3) := by decide +kernel
theorem d_M_pour_20 : decode b_M_pour 20 = .ok (.iload 5, 2) := by decide +kernel
theorem d_M_pour_22 : decode b_M_pour 22 = .ok (.iconst 1, 1) := by decide +kernel
theorem d_M_pour_23 : decode b_M_pour 23 = .ok (.if_icmp .lt (11), 3) := by decide +kernel
theorem d_M_pour_26 : decode b_M_pour 26 = .ok (.iload 5, 2) := by decide +kernel
theorem d_M_pour_28 : decode b_M_pour 28 = .ok (.sipush 1000, 3) := by decide +kernel
theorem d_M_pour_31 : decode b_M_pour 31 = .ok (.if_icmp .le (5), 3) := by decide +kernel
theorem d_M_pour_34 : decode b_M_pour 34 = .ok (.iconst 0, 1) := by decide +kernel
theorem d_M_pour_35 : decode b_M_pour 35 = .ok (.ireturn, 1) := by decide +kernel
theorem d_M_pour_36 : decode b_M_pour 36 = .ok (.iconst 0, 1) := by decide +kernel
theorem d_M_pour_37 : decode b_M_pour 37 = .ok (.istore 6, 2) := by decide +kernel
theorem d_M_pour_39 : decode b_M_pour 39 = .ok (.iload 6, 2) := by decide +kernel
theorem d_M_pour_41 : decode b_M_pour 41 = .ok (.iload 5, 2) := by decide +kernel
theorem d_M_pour_43 : decode b_M_pour 43 = .ok (.if_icmp .ge (70), 3) := by decide +kernel
theorem d_M_pour_46 : decode b_M_pour 46 = .ok (.iconst 0, 1) := by decide +kernel
theorem d_M_pour_47 : decode b_M_pour 47 = .ok (.istore 7, 2) := by decide +kernel
theorem d_M_pour_49 : decode b_M_pour 49 = .ok (.iload 7, 2) := by decide +kernel
theorem d_M_pour_51 : decode b_M_pour 51 = .ok (.iload 4, 2) := by decide +kernel
theorem d_M_pour_53 : decode b_M_pour 53 = .ok (.if_icmp .ge (54), 3) := by decide +kernel
theorem d_M_pour_56 : decode b_M_pour 56 = .ok (.iload 7, 2) := by decide +kernel
theorem d_M_pour_58 : decode b_M_pour 58 = .ok (.iconst 4, 1) := by decide +kernel
theorem d_M_pour_59 : decode b_M_pour 59 = .ok (.if_icmp .ge (7), 3) := by decide +kernel
theorem d_M_pour_62 : decode b_M_pour 62 = .ok (.iload_n 1, 1) := by decide +kernel
theorem d_M_pour_63 : decode b_M_pour 63 = .ok (.goto (15), 3) := by decide +kernel
theorem d_M_pour_66 : decode b_M_pour 66 = .ok (.iload 7, 2) := by decide +kernel
theorem d_M_pour_68 : decode b_M_pour 68 = .ok (.bipush 8, 2) := by decide +kernel
theorem d_M_pour_70 : decode b_M_pour 70 = .ok (.if_icmp .ge (7), 3) := by decide +kernel
theorem d_M_pour_73 : decode b_M_pour 73 = .ok (.iload_n 2, 1) := by decide +kernel
theorem d_M_pour_74 : decode b_M_pour 74 = .ok (.goto (4), 3) := by decide +kernel
theorem d_M_pour_77 : decode b_M_pour 77 = .ok (.iload_n 3, 1) := by decide +kernel
theorem d_M_pour_78 : decode b_M_pour 78 = .ok (.istore 8, 2) := by decide +kernel
theorem d_M_pour_80 : decode b_M_pour 80 = .ok (.aload_n 0, 1) := by decide +kernel
theorem d_M_pour_81 : decode b_M_pour 81 = .ok (.iload 8, 2) := by decide +kernel
theorem d_M_pour_83 : decode b_M_pour 83 = .ok (.bipush 24, 2) := by decide +kernel
theorem d_M_pour_85 : decode b_M_pour 85 = .ok (.bipush 8, 2) := by decide +kernel
theorem d_M_pour_87 : decode b_M_pour 87 = .ok (.iload 7, 2) := by decide +kernel
theorem d_M_pour_89 : decode b_M_pour 89 = .ok (.iconst 4, 1) := by decide +kernel
theorem d_M_pour_90 : decode b_M_pour 90 = .ok (.irem, 1) := by decide +kernel
theorem d_M_pour_91 : decode b_M_pour 91 = .ok (.imul, 1) := by decide +kernel
theorem d_M_pour_92 : decode b_M_pour 92 = .ok (.isub, 1) := by decide +kernel
theorem d_M_pour_93 : decode b_M_pour 93 = .ok (.ishr, 1) := by decide +kernel
theorem d_M_pour_94 : decode b_M_pour 94 = .ok (.sipush 255, 3) := by decide +kernel
theorem d_M_pour_97 : decode b_M_pour 97 = .ok (.iand, 1) := by decide +kernel
theorem d_M_pour_98 : decode b_M_pour 98 = .ok (.invokevirtual 104, 3) := by decide +kernel
theorem d_M_pour_101 : decode b_M_pour 101 = .ok (.iinc 7 (1), 3) := by decide +kernel
theorem d_M_pour_104 : decode b_M_pour 104 = .ok (.goto (-55), 3) := by decide +kernel
theorem d_M_pour_107 : decode b_M_pour 107 = .ok (.iinc 6 (1), 3) := by decide +kernel
theorem d_M_pour_110 : decode b_M_pour 110 = .ok (.goto (-71), 3) := by decide +kernel
theorem d_M_pour_113 : decode b_M_pour 113 = .ok (.aload_n 0, 1) := by decide +kernel
theorem d_M_pour_114 : decode b_M_pour 114 = .ok (.dup, 1) := by decide +kernel
theorem d_M_pour_115 : decode b_M_pour 115 = .ok (.getfield 129, 3) := by decide +kernel
theorem d_M_pour_118 : decode b_M_pour 118 = .ok (.iload 4, 2) := by decide +kernel
theorem d_M_pour_120 : decode b_M_pour 120 = .ok (.i2l, 1) := by decide +kernel
theorem d_M_pour_121 : decode b_M_pour 121 = .ok (.iload 5, 2) := by decide +kernel
theorem d_M_pour_123 : decode b_M_pour 123 = .ok (.i2l, 1) := by decide +kernel
theorem d_M_pour_124 : decode b_M_pour 124 = .ok (.lmul, 1) := by decide +kernel
theorem d_M_pour_125 : decode b_M_pour 125 = .ok (.ladd, 1) := by decide +kernel
theorem d_M_pour_126 : decode b_M_pour 126 = .ok (.putfield 129, 3) := by decide +kernel
theorem d_M_pour_129 : decode b_M_pour 129 = .ok (.iconst 1, 1) := by decide +kernel
theorem d_M_pour_130 : decode b_M_pour 130 = .ok (.ireturn, 1) := by decide +kernel
theorem d_M_finish_0 : decode b_M_finish 0 = .ok (.aload_n 0, 1) := by decide +kernel
theorem d_M_finish_1 : decode b_M_finish 1 = .ok (.getfield 13, 3) := by decide +kernel
theorem d_M_finish_4 : decode b_M_finish 4 = .ok (.iconst (-1), 1) := by decide +kernel
theorem d_M_finish_5 : decode b_M_finish 5 = .ok (.if_icmp .ne (5), 3) := by decide +kernel
theorem d_M_finish_8 : decode b_M_finish 8 = .ok (.iconst 0, 1) := by decide +kernel
theorem d_M_finish_9 : decode b_M_finish 9 = .ok (.ireturn, 1) := by decide +kernel
theorem d_M_finish_10 : decode b_M_finish 10 = .ok (.aload_n 0, 1) := by decide +kernel
theorem d_M_finish_11 : decode b_M_finish 11 = .ok (.invokevirtual 139, 3) := by decide +kernel
theorem d_M_finish_14 : decode b_M_finish 14 = .ok (.aload_n 0, 1) := by decide +kernel
theorem d_M_finish_15 : decode b_M_finish 15 = .ok (.getfield 126, 3) := by decide +kernel
theorem d_M_finish_18 : decode b_M_finish 18 = .ok (.ifCond .eq (73), 3) := by decide +kernel
theorem d_M_finish_21 : decode b_M_finish 21 = .ok (.aload_n 0, 1) := by decide +kernel
theorem d_M_finish_22 : decode b_M_finish 22 = .ok (.aload_n 0, 1) := by decide +kernel
theorem d_M_finish_23 : decode b_M_finish 23 = .ok (.getfield 13, 3) := by decide +kernel
theorem d_M_finish_26 : decode b_M_finish 26 = .ok (.invokevirtual 132, 3) := by decide +kernel
theorem d_M_finish_29 : decode b_M_finish 29 = .ok (.iconst 0, 1) := by decide +kernel
theorem d_M_finish_30 : decode b_M_finish 30 = .ok (.istore_n 1, 1) := by decide +kernel
theorem d_M_finish_31 : decode b_M_finish 31 = .ok (.iload_n 1, 1) := by decide +kernel
theorem d_M_finish_32 : decode b_M_finish 32 = .ok (.bipush 64, 2) := by decide +kernel
theorem d_M_finish_34 : decode b_M_finish 34 = .ok (.if_icmp .ge (22), 3) := by decide +kernel
theorem d_M_finish_37 : decode b_M_finish 37 = .ok (.aload_n 0, 1) := by decide +kernel
theorem d_M_finish_38 : decode b_M_finish 38 = .ok (.aload_n 0, 1) := by decide +kernel
theorem d_M_finish_39 : decode b_M_finish 39 = .ok (.getfield 17, 3) := by decide +kernel
theorem d_M_finish_42 : decode b_M_finish 42 = .ok (.iload_n 1, 1) := by decide +kernel
theorem d_M_finish_43 : decode b_M_finish 43 = .ok (.iaload, 1) := by decide +kernel
theorem d_M_finish_44 : decode b_M_finish 44 = .ok (.bipush 92, 2) := by decide +kernel
theorem d_M_finish_46 : decode b_M_finish 46 = .ok (.ixor, 1) := by decide +kernel
theorem d_M_finish_47 : decode b_M_finish 47 = .ok (.invokevirtual 104, 3) := by decide +kernel
theorem d_M_finish_50 : decode b_M_finish 50 = .ok (.iinc 1 (1), 3) := by decide +kernel
theorem d_M_finish_53 : decode b_M_finish 53 = .ok (.goto (-22), 3) := by decide +kernel
theorem d_M_finish_56 : decode b_M_finish 56 = .ok (.iconst 0, 1) := by decide +kernel
theorem d_M_finish_57 : decode b_M_finish 57 = .ok (.istore_n 1, 1) := by decide +kernel
theorem d_M_finish_58 : decode b_M_finish 58 = .ok (.iload_n 1, 1) := by decide +kernel
theorem d_M_finish_59 : decode b_M_finish 59 = .ok (.aload_n 0, 1) := by decide +kernel
theorem d_M_finish_60 : decode b_M_finish 60 = .ok (.invokevirtual 112, 3) := by decide +kernel
theorem d_M_finish_63 : decode b_M_finish 63 = .ok (.if_icmp .ge (19), 3) := by decide +kernel
theorem d_M_finish_66 : decode b_M_finish 66 = .ok (.aload_n 0, 1) := by decide +kernel
theorem d_M_finish_67 : decode b_M_finish 67 = .ok (.aload_n 0, 1) := by decide +kernel
theorem d_M_finish_68 : decode b_M_finish 68 = .ok (.getfield 35, 3) := by decide +kernel
theorem d_M_finish_71 : decode b_M_finish 71 = .ok (.iload_n 1, 1) := by decide +kernel
theorem d_M_finish_72 : decode b_M_finish 72 = .ok (.iaload, 1) := by decide +kernel
theorem d_M_finish_73 : decode b_M_finish 73 = .ok (.invokevirtual 104, 3) := by decide +kernel
theorem d_M_finish_76 : decode b_M_finish 76 = .ok (.iinc 1 (1), 3) := by decide +kernel
theorem d_M_finish_79 : decode b_M_finish 79 = .ok (.goto (-21), 3) := by decide +kernel
theorem d_M_finish_82 : decode b_M_finish 82 = .ok (.aload_n 0, 1) := by decide +kernel
theorem d_M_finish_83 : decode b_M_finish 83 = .ok (.invokevirtual 139, 3) := by decide +kernel
theorem d_M_finish_86 : decode b_M_finish 86 = .ok (.aload_n 0, 1) := by decide +kernel
theorem d_M_finish_87 : decode b_M_finish 87 = .ok (.iconst 0, 1) := by decide +kernel
theorem d_M_finish_88 : decode b_M_finish 88 = .ok (.putfield 120, 3) := by decide +kernel
theorem d_M_finish_91 : decode b_M_finish 91 = .ok (.aload_n 0, 1) := by decide +kernel
theorem d_M_finish_92 : decode b_M_finish 92 = .ok (.aload_n 0, 1) := by decide +kernel
theorem d_M_finish_93 : decode b_M_finish 93 = .ok (.invokevirtual 112, 3) := by decide +kernel
theorem d_M_finish_96 : decode b_M_finish 96 = .ok (.putfield 123, 3) := by decide +kernel
theorem d_M_finish_99 : decode b_M_finish 99 = .ok (.iconst 0, 1) := by decide +kernel
theorem d_M_finish_100 : decode b_M_finish 100 = .ok (.istore_n 1, 1) := by decide +kernel
theorem d_M_finish_101 : decode b_M_finish 101 = .ok (.iload_n 1, 1) := by decide +kernel
theorem d_M_finish_102 : decode b_M_finish 102 = .ok (.aload_n 0, 1) := by decide +kernel
theorem d_M_finish_103 : decode b_M_finish 103 = .ok (.getfield 123, 3) := by decide +kernel
theorem d_M_finish_106 : decode b_M_finish 106 = .ok (.if_icmp .ge (21), 3) := by decide +kernel
theorem d_M_finish_109 : decode b_M_finish 109 = .ok (.aload_n 0, 1) := by decide +kernel
theorem d_M_finish_110 : decode b_M_finish 110 = .ok (.getfield 38, 3) := by decide +kernel
theorem d_M_finish_113 : decode b_M_finish 113 = .ok (.iload_n 1, 1) := by decide +kernel
theorem d_M_finish_114 : decode b_M_finish 114 = .ok (.aload_n 0, 1) := by decide +kernel
theorem d_M_finish_115 : decode b_M_finish 115 = .ok (.getfield 35, 3) := by decide +kernel
theorem d_M_finish_118 : decode b_M_finish 118 = .ok (.iload_n 1, 1) := by decide +kernel
theorem d_M_finish_119 : decode b_M_finish 119 = .ok (.iaload, 1) := by decide +kernel
theorem d_M_finish_120 : decode b_M_finish 120 = .ok (.iastore, 1) := by decide +kernel
theorem d_M_finish_121 : decode b_M_finish 121 = .ok (.iinc 1 (1), 3) := by decide +kernel
theorem d_M_finish_124 : decode b_M_finish 124 = .ok (.goto (-23), 3) := by decide +kernel
theorem d_M_finish_127 : decode b_M_finish 127 = .ok (.aload_n 0, 1) := by decide +kernel
theorem d_M_finish_128 : decode b_M_finish 128 = .ok (.iconst (-1), 1) := by decide +kernel
theorem d_M_finish_129 : decode b_M_finish 129 = .ok (.putfield 13, 3) := by decide +kernel
theorem d_M_finish_132 : decode b_M_finish 132 = .ok (.iconst 1, 1) := by decide +kernel
theorem d_M_finish_133 : decode b_M_finish 133 = .ok (.ireturn, 1) := by decide +kernel
theorem d_L_cell_0 : decode b_L_cell 0 = .ok (.iload_n 1, 1) := by decide +kernel
theorem d_L_cell_1 : decode b_L_cell 1 = .ok (.aload_n 0, 1) := by decide +kernel
theorem d_L_cell_2 : decode b_L_cell 2 = .ok (.arraylength, 1) := by decide +kernel
theorem d_L_cell_3 : decode b_L_cell 3 = .ok (.if_icmp .ge (9), 3) := by decide +kernel
theorem d_L_cell_6 : decode b_L_cell 6 = .ok (.aload_n 0, 1) := by decide +kernel
theorem d_L_cell_7 : decode b_L_cell 7 = .ok (.iload_n 1, 1) := by decide +kernel
theorem d_L_cell_8 : decode b_L_cell 8 = .ok (.iaload, 1) := by decide +kernel
theorem d_L_cell_9 : decode b_L_cell 9 = .ok (.goto (4), 3) := by decide +kernel
theorem d_L_cell_12 : decode b_L_cell 12 = .ok (.iconst 0, 1) := by decide +kernel
theorem d_L_cell_13 : decode b_L_cell 13 = .ok (.ireturn, 1) := by decide +kernel
theorem d_L_law_0 : decode code 0 = .ok (.new 7, 3) := by decide +kernel
theorem d_L_law_3 : decode code 3 = .ok (.dup, 1) := by decide +kernel
theorem d_L_law_4 : decode code 4 = .ok (.aload_n 0, 1) := by decide +kernel
theorem d_L_law_5 : decode code 5 = .ok (.iconst 0, 1) := by decide +kernel
theorem d_L_law_6 : decode code 6 = .ok (.invokestatic 9, 3) := by decide +kernel
theorem d_L_law_9 : decode code 9 = .ok (.invokespecial 15, 3) := by decide +kernel
theorem d_L_law_12 : decode code 12 = .ok (.astore_n 1, 1) := by decide +kernel
theorem d_L_law_13 : decode code 13 = .ok (.new 18, 3) := by decide +kernel
theorem d_L_law_16 : decode code 16 = .ok (.dup, 1) := by decide +kernel
theorem d_L_law_17 : decode code 17 = .ok (.aload_n 0, 1) := by decide +kernel
theorem d_L_law_18 : decode code 18 = .ok (.iconst 0, 1) := by decide +kernel
theorem d_L_law_19 : decode code 19 = .ok (.invokestatic 9, 3) := by decide +kernel
theorem d_L_law_22 : decode code 22 = .ok (.invokespecial 20, 3) := by decide +kernel
theorem d_L_law_25 : decode code 25 = .ok (.astore_n 2, 1) := by decide +kernel
theorem d_L_law_26 : decode code 26 = .ok (.iconst 1, 1) := by decide +kernel
theorem d_L_law_27 : decode code 27 = .ok (.istore_n 3, 1) := by decide +kernel
theorem d_L_law_28 : decode code 28 = .ok (.iload_n 3, 1) := by decide +kernel
theorem d_L_law_29 : decode code 29 = .ok (.aload_n 0, 1) := by decide +kernel
theorem d_L_law_30 : decode code 30 = .ok (.arraylength, 1) := by decide +kernel
theorem d_L_law_31 : decode code 31 = .ok (.bipush 6, 2) := by decide +kernel
theorem d_L_law_33 : decode code 33 = .ok (.isub, 1) := by decide +kernel
theorem d_L_law_34 : decode code 34 = .ok (.if_icmp .gt (314), 3) := by decide +kernel
theorem d_L_law_37 : decode code 37 = .ok (.aload_n 0, 1) := by decide +kernel
theorem d_L_law_38 : decode code 38 = .ok (.iload_n 3, 1) := by decide +kernel
theorem d_L_law_39 : decode code 39 = .ok (.iaload, 1) := by decide +kernel
theorem d_L_law_40 : decode code 40 = .ok (.bipush 15, 2) := by decide +kernel
theorem d_L_law_42 : decode code 42 = .ok (.iand, 1) := by decide +kernel
theorem d_L_law_43 : decode code 43 = .ok (.tableswitch 299 0 10 #[57, 68, 91, 114, 137, 160, 223, 236, 259, 272, 285], 57) := by decide +kernel
theorem d_L_law_100 : decode code 100 = .ok (.aload_n 1, 1) := by decide +kernel
theorem d_L_law_101 : decode code 101 = .ok (.invokevirtual 21, 3) := by decide +kernel
theorem d_L_law_104 : decode code 104 = .ok (.aload_n 2, 1) := by decide +kernel
theorem d_L_law_105 : decode code 105 = .ok (.invokevirtual 24, 3) := by decide +kernel
theorem d_L_law_108 : decode code 108 = .ok (.goto (234), 3) := by decide +kernel
theorem d_L_law_111 : decode code 111 = .ok (.aload_n 1, 1) := by decide +kernel
theorem d_L_law_112 : decode code 112 = .ok (.aload_n 0, 1) := by decide +kernel
theorem d_L_law_113 : decode code 113 = .ok (.iload_n 3, 1) := by decide +kernel
theorem d_L_law_114 : decode code 114 = .ok (.iconst 1, 1) := by decide +kernel
theorem d_L_law_115 : decode code 115 = .ok (.iadd, 1) := by decide +kernel
theorem d_L_law_116 : decode code 116 = .ok (.iaload, 1) := by decide +kernel
theorem d_L_law_117 : decode code 117 = .ok (.invokevirtual 25, 3) := by decide +kernel
theorem d_L_law_120 : decode code 120 = .ok (.aload_n 2, 1) := by decide +kernel
theorem d_L_law_121 : decode code 121 = .ok (.aload_n 0, 1) := by decide +kernel
theorem d_L_law_122 : decode code 122 = .ok (.iload_n 3, 1) := by decide +kernel
theorem d_L_law_123 : decode code 123 = .ok (.iconst 1, 1) := by decide +kernel
theorem d_L_law_124 : decode code 124 = .ok (.iadd, 1) := by decide +kernel
theorem d_L_law_125 : decode code 125 = .ok (.iaload, 1) := by decide +kernel
theorem d_L_law_126 : decode code 126 = .ok (.invokevirtual 29, 3) := by decide +kernel
theorem d_L_law_129 : decode code 129 = .ok (.if_icmp .eq (213), 3) := by decide +kernel
theorem d_L_law_132 : decode code 132 = .ok (.iconst 0, 1) := by decide +kernel
theorem d_L_law_133 : decode code 133 = .ok (.ireturn, 1) := by decide +kernel
theorem d_L_law_134 : decode code 134 = .ok (.aload_n 1, 1) := by decide +kernel
theorem d_L_law_135 : decode code 135 = .ok (.aload_n 0, 1) := by decide +kernel
theorem d_L_law_136 : decode code 136 = .ok (.iload_n 3, 1) := by decide +kernel
theorem d_L_law_137 : decode code 137 = .ok (.iconst 1, 1) := by decide +kernel
theorem d_L_law_138 : decode code 138 = .ok (.iadd, 1) := by decide +kernel
theorem d_L_law_139 : decode code 139 = .ok (.iaload, 1) := by decide +kernel
theorem d_L_law_140 : decode code 140 = .ok (.invokevirtual 30, 3) := by decide +kernel
theorem d_L_law_143 : decode code 143 = .ok (.aload_n 2, 1) := by decide +kernel
theorem d_L_law_144 : decode code 144 = .ok (.aload_n 0, 1) := by decide +kernel
theorem d_L_law_145 : decode code 145 = .ok (.iload_n 3, 1) := by decide +kernel
theorem d_L_law_146 : decode code 146 = .ok (.iconst 1, 1) := by decide +kernel
theorem d_L_law_147 : decode code 147 = .ok (.iadd, 1) := by decide +kernel
theorem d_L_law_148 : decode code 148 = .ok (.iaload, 1) := by decide +kernel
theorem d_L_law_149 : decode code 149 = .ok (.invokevirtual 33, 3) := by decide +kernel
theorem d_L_law_152 : decode code 152 = .ok (.if_icmp .eq (190), 3) := by decide +kernel
theorem d_L_law_155 : decode code 155 = .ok (.iconst 0, 1) := by decide +kernel
theorem d_L_law_156 : decode code 156 = .ok (.ireturn, 1) := by decide +kernel
theorem d_L_law_157 : decode code 157 = .ok (.aload_n 1, 1) := by decide +kernel
theorem d_L_law_158 : decode code 158 = .ok (.aload_n 0, 1) := by decide +kernel
theorem d_L_law_159 : decode code 159 = .ok (.iload_n 3, 1) := by decide +kernel
theorem d_L_law_160 : decode code 160 = .ok (.iconst 1, 1) := by decide +kernel
theorem d_L_law_161 : decode code 161 = .ok (.iadd, 1) := by decide +kernel
theorem d_L_law_162 : decode code 162 = .ok (.iaload, 1) := by decide +kernel
theorem d_L_law_163 : decode code 163 = .ok (.invokevirtual 34, 3) := by decide +kernel
theorem d_L_law_166 : decode code 166 = .ok (.aload_n 2, 1) := by decide +kernel
theorem d_L_law_167 : decode code 167 = .ok (.aload_n 0, 1) := by decide +kernel
theorem d_L_law_168 : decode code 168 = .ok (.iload_n 3, 1) := by decide +kernel
theorem d_L_law_169 : decode code 169 = .ok (.iconst 1, 1) := by decide +kernel
theorem d_L_law_170 : decode code 170 = .ok (.iadd, 1) := by decide +kernel
theorem d_L_law_171 : decode code 171 = .ok (.iaload, 1) := by decide +kernel
theorem d_L_law_172 : decode code 172 = .ok (.invokevirtual 37, 3) := by decide +kernel
theorem d_L_law_175 : decode code 175 = .ok (.if_icmp .eq (167), 3) := by decide +kernel
theorem d_L_law_178 : decode code 178 = .ok (.iconst 0, 1) := by decide +kernel
theorem d_L_law_179 : decode code 179 = .ok (.ireturn, 1) := by decide +kernel
theorem d_L_law_180 : decode code 180 = .ok (.aload_n 1, 1) := by decide +kernel
theorem d_L_law_181 : decode code 181 = .ok (.aload_n 0, 1) := by decide +kernel
theorem d_L_law_182 : decode code 182 = .ok (.iload_n 3, 1) := by decide +kernel
theorem d_L_law_183 : decode code 183 = .ok (.iconst 1, 1) := by decide +kernel
theorem d_L_law_184 : decode code 184 = .ok (.iadd, 1) := by decide +kernel
theorem d_L_law_185 : decode code 185 = .ok (.iaload, 1) := by decide +kernel
theorem d_L_law_186 : decode code 186 = .ok (.invokevirtual 38, 3) := by decide +kernel
theorem d_L_law_189 : decode code 189 = .ok (.aload_n 2, 1) := by decide +kernel
theorem d_L_law_190 : decode code 190 = .ok (.aload_n 0, 1) := by decide +kernel
theorem d_L_law_191 : decode code 191 = .ok (.iload_n 3, 1) := by decide +kernel
theorem d_L_law_192 : decode code 192 = .ok (.iconst 1, 1) := by decide +kernel
theorem d_L_law_193 : decode code 193 = .ok (.iadd, 1) := by decide +kernel
theorem d_L_law_194 : decode code 194 = .ok (.iaload, 1) := by decide +kernel
theorem d_L_law_195 : decode code 195 = .ok (.invokevirtual 41, 3) := by decide +kernel
theorem d_L_law_198 : decode code 198 = .ok (.if_icmp .eq (144), 3) := by decide +kernel
theorem d_L_law_201 : decode code 201 = .ok (.iconst 0, 1) := by decide +kernel
theorem d_L_law_202 : decode code 202 = .ok (.ireturn, 1) := by decide +kernel
theorem d_L_law_203 : decode code 203 = .ok (.aload_n 1, 1) := by decide +kernel
theorem d_L_law_204 : decode code 204 = .ok (.aload_n 0, 1) := by decide +kernel
theorem d_L_law_205 : decode code 205 = .ok (.iload_n 3, 1) := by decide +kernel
theorem d_L_law_206 : decode code 206 = .ok (.iconst 1, 1) := by decide +kernel
theorem d_L_law_207 : decode code 207 = .ok (.iadd, 1) := by decide +kernel
theorem d_L_law_208 : decode code 208 = .ok (.iaload, 1) := by decide +kernel
theorem d_L_law_209 : decode code 209 = .ok (.aload_n 0, 1) := by decide +kernel
theorem d_L_law_210 : decode code 210 = .ok (.iload_n 3, 1) := by decide +kernel
theorem d_L_law_211 : decode code 211 = .ok (.iconst 2, 1) := by decide +kernel
theorem d_L_law_212 : decode code 212 = .ok (.iadd, 1) := by decide +kernel
theorem d_L_law_213 : decode code 213 = .ok (.iaload, 1) := by decide +kernel
theorem d_L_law_214 : decode code 214 = .ok (.aload_n 0, 1) := by decide +kernel
theorem d_L_law_215 : decode code 215 = .ok (.iload_n 3, 1) := by decide +kernel
theorem d_L_law_216 : decode code 216 = .ok (.iconst 3, 1) := by decide +kernel
theorem d_L_law_217 : decode code 217 = .ok (.iadd, 1) := by decide +kernel
theorem d_L_law_218 : decode code 218 = .ok (.iaload, 1) := by decide +kernel
theorem d_L_law_219 : decode code 219 = .ok (.aload_n 0, 1) := by decide +kernel
theorem d_L_law_220 : decode code 220 = .ok (.iload_n 3, 1) := by decide +kernel
theorem d_L_law_221 : decode code 221 = .ok (.iconst 4, 1) := by decide +kernel
theorem d_L_law_222 : decode code 222 = .ok (.iadd, 1) := by decide +kernel
theorem d_L_law_223 : decode code 223 = .ok (.iaload, 1) := by decide +kernel
theorem d_L_law_224 : decode code 224 = .ok (.aload_n 0, 1) := by decide +kernel
theorem d_L_law_225 : decode code 225 = .ok (.iload_n 3, 1) := by decide +kernel
theorem d_L_law_226 : decode code 226 = .ok (.iconst 5, 1) := by decide +kernel
theorem d_L_law_227 : decode code 227 = .ok (.iadd, 1) := by decide +kernel
theorem d_L_law_228 : decode code 228 = .ok (.iaload, 1) := by decide +kernel
theorem d_L_law_229 : decode code 229 = .ok (.invokevirtual 42, 3) := by decide +kernel
theorem d_L_law_232 : decode code 232 = .ok (.aload_n 2, 1) := by decide +kernel
theorem d_L_law_233 : decode code 233 = .ok (.aload_n 0, 1) := by decide +kernel
theorem d_L_law_234 : decode code 234 = .ok (.iload_n 3, 1) := by decide +kernel
theorem d_L_law_235 : decode code 235 = .ok (.iconst 1, 1) := by decide +kernel
theorem d_L_law_236 : decode code 236 = .ok (.iadd, 1) := by decide +kernel
theorem d_L_law_237 : decode code 237 = .ok (.iaload, 1) := by decide +kernel
theorem d_L_law_238 : decode code 238 = .ok (.aload_n 0, 1) := by decide +kernel
theorem d_L_law_239 : decode code 239 = .ok (.iload_n 3, 1) := by decide +kernel
theorem d_L_law_240 : decode code 240 = .ok (.iconst 2, 1) := by decide +kernel
theorem d_L_law_241 : decode code 241 = .ok (.iadd, 1) := by decide +kernel
theorem d_L_law_242 : decode code 242 = .ok (.iaload, 1) := by decide +kernel
theorem d_L_law_243 : decode code 243 = .ok (.aload_n 0, 1) := by decide +kernel
theorem d_L_law_244 : decode code 244 = .ok (.iload_n 3, 1) := by decide +kernel
theorem d_L_law_245 : decode code 245 = .ok (.iconst 3, 1) := by decide +kernel
theorem d_L_law_246 : decode code 246 = .ok (.iadd, 1) := by decide +kernel
theorem d_L_law_247 : decode code 247 = .ok (.iaload, 1) := by decide +kernel
theorem d_L_law_248 : decode code 248 = .ok (.aload_n 0, 1) := by decide +kernel
theorem d_L_law_249 : decode code 249 = .ok (.iload_n 3, 1) := by decide +kernel
theorem d_L_law_250 : decode code 250 = .ok (.iconst 4, 1) := by decide +kernel
theorem d_L_law_251 : decode code 251 = .ok (.iadd, 1) := by decide +kernel
theorem d_L_law_252 : decode code 252 = .ok (.iaload, 1) := by decide +kernel
theorem d_L_law_253 : decode code 253 = .ok (.aload_n 0, 1) := by decide +kernel
theorem d_L_law_254 : decode code 254 = .ok (.iload_n 3, 1) := by decide +kernel
theorem d_L_law_255 : decode code 255 = .ok (.iconst 5, 1) := by decide +kernel
theorem d_L_law_256 : decode code 256 = .ok (.iadd, 1) := by decide +kernel
theorem d_L_law_257 : decode code 257 = .ok (.iaload, 1) := by decide +kernel
theorem d_L_law_258 : decode code 258 = .ok (.invokevirtual 46, 3) := by decide +kernel
theorem d_L_law_261 : decode code 261 = .ok (.if_icmp .eq (81), 3) := by decide +kernel
theorem d_L_law_264 : decode code 264 = .ok (.iconst 0, 1) := by decide +kernel
theorem d_L_law_265 : decode code 265 = .ok (.ireturn, 1) := by decide +kernel
theorem d_L_law_266 : decode code 266 = .ok (.aload_n 1, 1) := by decide +kernel
theorem d_L_law_267 : decode code 267 = .ok (.invokevirtual 47, 3) := by decide +kernel
theorem d_L_law_270 : decode code 270 = .ok (.aload_n 2, 1) := by decide +kernel
theorem d_L_law_271 : decode code 271 = .ok (.invokevirtual 51, 3) := by decide +kernel
theorem d_L_law_274 : decode code 274 = .ok (.if_icmp .eq (68), 3) := by decide +kernel
theorem d_L_law_277 : decode code 277 = .ok (.iconst 0, 1) := by decide +kernel
theorem d_L_law_278 : decode code 278 = .ok (.ireturn, 1) := by decide +kernel
theorem d_L_law_279 : decode code 279 = .ok (.aload_n 1, 1) := by decide +kernel
theorem d_L_law_280 : decode code 280 = .ok (.aload_n 0, 1) := by decide +kernel
theorem d_L_law_281 : decode code 281 = .ok (.iload_n 3, 1) := by decide +kernel
theorem d_L_law_282 : decode code 282 = .ok (.iconst 1, 1) := by decide +kernel
theorem d_L_law_283 : decode code 283 = .ok (.iadd, 1) := by decide +kernel
theorem d_L_law_284 : decode code 284 = .ok (.iaload, 1) := by decide +kernel
theorem d_L_law_285 : decode code 285 = .ok (.invokevirtual 52, 3) := by decide +kernel
theorem d_L_law_288 : decode code 288 = .ok (.aload_n 2, 1) := by decide +kernel
theorem d_L_law_289 : decode code 289 = .ok (.aload_n 0, 1) := by decide +kernel
theorem d_L_law_290 : decode code 290 = .ok (.iload_n 3, 1) := by decide +kernel
theorem d_L_law_291 : decode code 291 = .ok (.iconst 1, 1) := by decide +kernel
theorem d_L_law_292 : decode code 292 = .ok (.iadd, 1) := by decide +kernel
theorem d_L_law_293 : decode code 293 = .ok (.iaload, 1) := by decide +kernel
theorem d_L_law_294 : decode code 294 = .ok (.invokevirtual 56, 3) := by decide +kernel
theorem d_L_law_297 : decode code 297 = .ok (.if_icmp .eq (45), 3) := by decide +kernel
theorem d_L_law_300 : decode code 300 = .ok (.iconst 0, 1) := by decide +kernel
theorem d_L_law_301 : decode code 301 = .ok (.ireturn, 1) := by decide +kernel
theorem d_L_law_302 : decode code 302 = .ok (.aload_n 1, 1) := by decide +kernel
theorem d_L_law_303 : decode code 303 = .ok (.invokevirtual 57, 3) := by decide +kernel
theorem d_L_law_306 : decode code 306 = .ok (.aload_n 2, 1) := by decide +kernel
theorem d_L_law_307 : decode code 307 = .ok (.invokevirtual 61, 3) := by decide +kernel
theorem d_L_law_310 : decode code 310 = .ok (.if_icmp .eq (32), 3) := by decide +kernel
theorem d_L_law_313 : decode code 313 = .ok (.iconst 0, 1) := by decide +kernel
theorem d_L_law_314 : decode code 314 = .ok (.ireturn, 1) := by decide +kernel
theorem d_L_law_315 : decode code 315 = .ok (.aload_n 1, 1) := by decide +kernel
theorem d_L_law_316 : decode code 316 = .ok (.invokevirtual 62, 3) := by decide +kernel
theorem d_L_law_319 : decode code 319 = .ok (.aload_n 2, 1) := by decide +kernel
theorem d_L_law_320 : decode code 320 = .ok (.invokevirtual 65, 3) := by decide +kernel
theorem d_L_law_323 : decode code 323 = .ok (.if_icmp .eq (19), 3) := by decide +kernel
theorem d_L_law_326 : decode code 326 = .ok (.iconst 0, 1) := by decide +kernel
theorem d_L_law_327 : decode code 327 = .ok (.ireturn, 1) := by decide +kernel
theorem d_L_law_328 : decode code 328 = .ok (.aload_n 1, 1) := by decide +kernel
theorem d_L_law_329 : decode code 329 = .ok (.invokevirtual 66, 3) := by decide +kernel
theorem d_L_law_332 : decode code 332 = .ok (.aload_n 2, 1) := by decide +kernel
theorem d_L_law_333 : decode code 333 = .ok (.invokevirtual 70, 3) := by decide +kernel
theorem d_L_law_336 : decode code 336 = .ok (.lcmp, 1) := by decide +kernel
theorem d_L_law_337 : decode code 337 = .ok (.ifCond .eq (5), 3) := by decide +kernel
theorem d_L_law_340 : decode code 340 = .ok (.iconst 0, 1) := by decide +kernel
theorem d_L_law_341 : decode code 341 = .ok (.ireturn, 1) := by decide +kernel
theorem d_L_law_342 : decode code 342 = .ok (.iinc 3 (6), 3) := by decide +kernel
theorem d_L_law_345 : decode code 345 = .ok (.goto (-317), 3) := by decide +kernel
theorem d_L_law_348 : decode code 348 = .ok (.iconst 1, 1) := by decide +kernel
theorem d_L_law_349 : decode code 349 = .ok (.ireturn, 1) := by decide +kernel
end
section
section XH
variable {p : Program} {l : Launch} {e : Env} {R : Room} {s : State} {m : MethodId} {args : Array Value} {below : List Frame} {meth : Method} {c : Code} {H : Heap} {locs : List Loc} {cells slots : Nat} {Q : State → Prop}
variable {cc : ByteArray} {pc : Nat} {ls : Array Slot} {rest : List Value}
/-- the top of the stack by another name -/
theorem xs_i {x y : Int32} (h : x = y) (k : W p l e R s m args below meth c H locs cells slots Q (F0 m pc ls (.int y :: rest))) : W p l e R s m args below meth c H locs cells slots Q (F0 m pc ls (.int x :: rest)) := h ▸ k
theorem xs_l {x y : Int64} (h : x = y) (k : W p l e R s m args below meth c H locs cells slots Q (F0 m pc ls (.long y :: rest))) : W p l e R s m args below meth c H locs cells slots Q (F0 m pc ls (.long x :: rest)) := h ▸ k
theorem xs_d {x y : UInt64} (h : x = y) (k : W p l e R s m args below meth c H locs cells slots Q (F0 m pc ls (.double y :: rest))) : W p l e R s m args below meth c H locs cells slots Q (F0 m pc ls (.double x :: rest)) := h ▸ k
theorem xi_add {a b : Nat} (hexec : p.tables.exec = Jvm.exec) (hb : c.code = cc) (hdg : decode cc pc = .ok (.iadd, 1)) (k : W p l e R s m args below meth c H locs cells slots Q (F0 m (pc + 1) ls (.int (nI (a + b)) :: rest))) : W p l e R s m args below meth c H locs cells slots Q (F0 m pc ls (.int (nI b) :: .int (nI a) :: rest)) :=
  lv_iadd hexec hb hdg (xs_i (nI_add a b) k)
theorem xi_sub {a b : Nat} (hexec : p.tables.exec = Jvm.exec) (hb : c.code = cc) (hdg : decode cc pc = .ok (.isub, 1)) (h : b ≤ a) (k : W p l e R s m args below meth c H locs cells slots Q (F0 m (pc + 1) ls (.int (nI (a - b)) :: rest))) : W p l e R s m args below meth c H locs cells slots Q (F0 m pc ls (.int (nI b) :: .int (nI a) :: rest)) :=
  lv_isub hexec hb hdg (xs_i (pk_sub h) k)
theorem xi_mul {a b : Nat} (hexec : p.tables.exec = Jvm.exec) (hb : c.code = cc) (hdg : decode cc pc = .ok (.imul, 1)) (k : W p l e R s m args below meth c H locs cells slots Q (F0 m (pc + 1) ls (.int (nI (a * b)) :: rest))) : W p l e R s m args below meth c H locs cells slots Q (F0 m pc ls (.int (nI b) :: .int (nI a) :: rest)) :=
  lv_imul hexec hb hdg (xs_i (pk_mul a b) k)
theorem xi_div {a b : Nat} (hexec : p.tables.exec = Jvm.exec) (hb : c.code = cc) (hdg : decode cc pc = .ok (.idiv, 1)) (h : a < 2 ^ 31) (h0 : 0 < b) (hd : b < 2 ^ 31) (k : W p l e R s m args below meth c H locs cells slots Q (F0 m (pc + 1) ls (.int (nI (a / b)) :: rest))) : W p l e R s m args below meth c H locs cells slots Q (F0 m pc ls (.int (nI b) :: .int (nI a) :: rest)) :=
  lv_idiv hexec hb hdg (nI_ne0 h0 hd) (xs_i (pk_div h h0 hd) k)
theorem xi_rem {a b : Nat} (hexec : p.tables.exec = Jvm.exec) (hb : c.code = cc) (hdg : decode cc pc = .ok (.irem, 1)) (h : a < 2 ^ 31) (h0 : 0 < b) (hd : b < 2 ^ 31) (k : W p l e R s m args below meth c H locs cells slots Q (F0 m (pc + 1) ls (.int (nI (a % b)) :: rest))) : W p l e R s m args below meth c H locs cells slots Q (F0 m pc ls (.int (nI b) :: .int (nI a) :: rest)) :=
  lv_irem hexec hb hdg (nI_ne0 h0 hd) (xs_i (pk_rem h h0 hd) k)
theorem lN_ne0 {b : Nat} (h0 : 0 < b) (hd : b < 2 ^ 63) : ¬ lN b = 0 := fun h => by
  have h1 := (pk_lEQ hd (show 0 < 2 ^ 63 by decide)).mp (h.trans (show (0 : Int64) = lN 0 from rfl))
  omega
theorem xl_add {a b : Nat} (hexec : p.tables.exec = Jvm.exec) (hb : c.code = cc) (hdg : decode cc pc = .ok (.ladd, 1)) (k : W p l e R s m args below meth c H locs cells slots Q (F0 m (pc + 1) ls (.long (lN (a + b)) :: rest))) : W p l e R s m args below meth c H locs cells slots Q (F0 m pc ls (.long (lN b) :: .long (lN a) :: rest)) :=
  lv_ladd hexec hb hdg (xs_l (lN_add a b) k)
theorem xl_mul {a b : Nat} (hexec : p.tables.exec = Jvm.exec) (hb : c.code = cc) (hdg : decode cc pc = .ok (.lmul, 1)) (k : W p l e R s m args below meth c H locs cells slots Q (F0 m (pc + 1) ls (.long (lN (a * b)) :: rest))) : W p l e R s m args below meth c H locs cells slots Q (F0 m pc ls (.long (lN b) :: .long (lN a) :: rest)) :=
  lv_lmul hexec hb hdg (xs_l (lN_mul a b) k)
theorem xl_sub {a b : Nat} (hexec : p.tables.exec = Jvm.exec) (hb : c.code = cc) (hdg : decode cc pc = .ok (.lsub, 1)) (h : b ≤ a) (k : W p l e R s m args below meth c H locs cells slots Q (F0 m (pc + 1) ls (.long (lN (a - b)) :: rest))) : W p l e R s m args below meth c H locs cells slots Q (F0 m pc ls (.long (lN b) :: .long (lN a) :: rest)) :=
  lv_lsub hexec hb hdg (xs_l (lN_sub h) k)
theorem xl_rem {a b : Nat} (hexec : p.tables.exec = Jvm.exec) (hb : c.code = cc) (hdg : decode cc pc = .ok (.lrem, 1)) (h : a < 2 ^ 63) (h0 : 0 < b) (hd : b < 2 ^ 63) (k : W p l e R s m args below meth c H locs cells slots Q (F0 m (pc + 1) ls (.long (lN (a % b)) :: rest))) : W p l e R s m args below meth c H locs cells slots Q (F0 m pc ls (.long (lN b) :: .long (lN a) :: rest)) :=
  lv_lrem hexec hb hdg (lN_ne0 h0 hd) (xs_l (pk_lRem h h0 hd) k)
/-- compares of small numbers -/
theorem xi_ge {a b : Nat} {off : Int} {tgt : Nat} (hexec : p.tables.exec = Jvm.exec) (hb : c.code = cc) (hdg : decode cc pc = .ok (.if_icmp .ge off, 3)) (ht : (pc : Int) + off = (tgt : Int)) (ha : a < 2 ^ 31) (hb2 : b < 2 ^ 31)
    (kt : b ≤ a → W p l e R s m args below meth c H locs cells slots Q (F0 m tgt ls rest)) (kf : a < b → W p l e R s m args below meth c H locs cells slots Q (F0 m (pc + 3) ls rest)) : W p l e R s m args below meth c H locs cells slots Q (F0 m pc ls (.int (nI b) :: .int (nI a) :: rest)) :=
  lv_icmp_ge hexec hb hdg ht (fun h => kt ((nI_leI hb2 ha).mp h)) (fun h => kf (Nat.not_le.mp (fun z => h ((nI_leI hb2 ha).mpr z))))
theorem xi_lt {a b : Nat} {off : Int} {tgt : Nat} (hexec : p.tables.exec = Jvm.exec) (hb : c.code = cc) (hdg : decode cc pc = .ok (.if_icmp .lt off, 3)) (ht : (pc : Int) + off = (tgt : Int)) (ha : a < 2 ^ 31) (hb2 : b < 2 ^ 31)
    (kt : a < b → W p l e R s m args below meth c H locs cells slots Q (F0 m tgt ls rest)) (kf : b ≤ a → W p l e R s m args below meth c H locs cells slots Q (F0 m (pc + 3) ls rest)) : W p l e R s m args below meth c H locs cells slots Q (F0 m pc ls (.int (nI b) :: .int (nI a) :: rest)) :=
  lv_icmp_lt hexec hb hdg ht (fun h => kt ((nI_ltI ha hb2).mp h)) (fun h => kf (Nat.not_lt.mp (fun z => h ((nI_ltI ha hb2).mpr z))))
theorem xi_le {a b : Nat} {off : Int} {tgt : Nat} (hexec : p.tables.exec = Jvm.exec) (hb : c.code = cc) (hdg : decode cc pc = .ok (.if_icmp .le off, 3)) (ht : (pc : Int) + off = (tgt : Int)) (ha : a < 2 ^ 31) (hb2 : b < 2 ^ 31)
    (kt : a ≤ b → W p l e R s m args below meth c H locs cells slots Q (F0 m tgt ls rest)) (kf : b < a → W p l e R s m args below meth c H locs cells slots Q (F0 m (pc + 3) ls rest)) : W p l e R s m args below meth c H locs cells slots Q (F0 m pc ls (.int (nI b) :: .int (nI a) :: rest)) :=
  lv_icmp_le hexec hb hdg ht (fun h => kt ((nI_leI ha hb2).mp h)) (fun h => kf (Nat.not_le.mp (fun z => h ((nI_leI ha hb2).mpr z))))
theorem xi_gt {a b : Nat} {off : Int} {tgt : Nat} (hexec : p.tables.exec = Jvm.exec) (hb : c.code = cc) (hdg : decode cc pc = .ok (.if_icmp .gt off, 3)) (ht : (pc : Int) + off = (tgt : Int)) (ha : a < 2 ^ 31) (hb2 : b < 2 ^ 31)
    (kt : b < a → W p l e R s m args below meth c H locs cells slots Q (F0 m tgt ls rest)) (kf : a ≤ b → W p l e R s m args below meth c H locs cells slots Q (F0 m (pc + 3) ls rest)) : W p l e R s m args below meth c H locs cells slots Q (F0 m pc ls (.int (nI b) :: .int (nI a) :: rest)) :=
  lv_icmp_gt hexec hb hdg ht (fun h => kt ((nI_ltI hb2 ha).mp h)) (fun h => kf (Nat.not_lt.mp (fun z => h ((nI_ltI hb2 ha).mpr z))))
theorem xi_ne {a b : Nat} {off : Int} {tgt : Nat} (hexec : p.tables.exec = Jvm.exec) (hb : c.code = cc) (hdg : decode cc pc = .ok (.if_icmp .ne off, 3)) (ht : (pc : Int) + off = (tgt : Int)) (ha : a < 2 ^ 31) (hb2 : b < 2 ^ 31)
    (kt : a ≠ b → W p l e R s m args below meth c H locs cells slots Q (F0 m tgt ls rest)) (kf : a = b → W p l e R s m args below meth c H locs cells slots Q (F0 m (pc + 3) ls rest)) : W p l e R s m args below meth c H locs cells slots Q (F0 m pc ls (.int (nI b) :: .int (nI a) :: rest)) :=
  lv_icmp_ne hexec hb hdg ht (fun h => kt (fun z => h ((nI_eq ha hb2).mpr z))) (fun h => kf ((nI_eq ha hb2).mp h))
theorem xi_ne0 {a : Nat} {off : Int} {tgt : Nat} (hexec : p.tables.exec = Jvm.exec) (hb : c.code = cc) (hdg : decode cc pc = .ok (.ifCond .ne off, 3)) (ht : (pc : Int) + off = (tgt : Int)) (ha : a < 2 ^ 31)
    (kt : a ≠ 0 → W p l e R s m args below meth c H locs cells slots Q (F0 m tgt ls rest)) (kf : a = 0 → W p l e R s m args below meth c H locs cells slots Q (F0 m (pc + 3) ls rest)) : W p l e R s m args below meth c H locs cells slots Q (F0 m pc ls (.int (nI a) :: rest)) :=
  lv_if_ne hexec hb hdg ht (fun h => kt (fun z => h (by rw [z]; rfl))) (fun h => kf ((nI_eq ha (show 0 < 2 ^ 31 by decide)).mp (h.trans nI_0.symm)))
-- arrays at a small place
variable {D : va_G} {cl : List vw_C} {A : Nat → Prop} {a : Nat} {tys : List (ClassId × FieldType)} {ws : va_W} {H0 : Heap}
theorem xa_iald (hexec : p.tables.exec = Jvm.exec) (hb : c.code = cc) (hK : va_K D cl tys s) (hP : va_P D cl ws H) (q0 t0 : Nat) {cA : ClassId} {n : Nat} {f : Nat → Int32} (ha : ws[q0]? = some (a, .inl (cA, n, .inl f))) (ht : tys[t0]? = some (cA, .int)) {i : Nat} (hin : i < n) (hn : n < 2 ^ 31) (hdg : decode cc pc = .ok (.iaload, 1))
    (kk : W p l e R s m args below meth c H locs cells slots Q (F0 m (pc + 1) ls (.int (f i) :: rest))) : W p l e R s m args below meth c H locs cells slots Q (F0 m pc ls (.int (nI i) :: .ref a :: rest)) :=
  va_iald hexec hb hK hP q0 t0 ha ht (vp_in_nI hin hn) hdg (xs_i (by rw [nI_clamp (Nat.lt_trans hin hn)]) kk)
theorem xa_bald (hexec : p.tables.exec = Jvm.exec) (hb : c.code = cc) (hK : va_K D cl tys s) (hP : va_P D cl ws H) (q0 t0 : Nat) {cA : ClassId} {n : Nat} {f : Nat → Int32} (ha : ws[q0]? = some (a, .inl (cA, n, .inl f))) (ht : tys[t0]? = some (cA, .byte)) {i : Nat} (hin : i < n) (hn : n < 2 ^ 31) (hdg : decode cc pc = .ok (.baload, 1))
    (kk : W p l e R s m args below meth c H locs cells slots Q (F0 m (pc + 1) ls (.int (f i) :: rest))) : W p l e R s m args below meth c H locs cells slots Q (F0 m pc ls (.int (nI i) :: .ref a :: rest)) :=
  va_bald hexec hb hK hP q0 t0 ha ht (vp_in_nI hin hn) hdg (xs_i (by rw [nI_clamp (Nat.lt_trans hin hn)]) kk)
theorem xa_iast (hexec : p.tables.exec = Jvm.exec) (hb : c.code = cc) (hK : va_K D cl tys s) (hP : va_P D cl ws H) (hD : va_D A ws) (hS : va_S A H0 H locs) (q0 t0 : Nat) {cA : ClassId} {n : Nat} {f : Nat → Int32} (ha : ws[q0]? = some (a, .inl (cA, n, .inl f))) (ht : tys[t0]? = some (cA, .int)) {i : Nat} {x : Int32} (hin : i < n) (hn : n < 2 ^ 31) (hdg : decode cc pc = .ok (.iastore, 1))
    (kk : ∀ (H1 : Heap) (locs1 : List Loc), va_P D cl (ws.set q0 (a, .inl (cA, n, .inl (upd f i x)))) H1 → va_D A (ws.set q0 (a, .inl (cA, n, .inl (upd f i x)))) → va_S A H0 H1 locs1 → W p l e R s m args below meth c H1 locs1 cells slots Q (F0 m (pc + 1) ls rest)) : W p l e R s m args below meth c H locs cells slots Q (F0 m pc ls (.int x :: .int (nI i) :: .ref a :: rest)) :=
  va_iast hexec hb hK hP hD hS q0 t0 ha ht (vp_in_nI hin hn) hdg (fun H1 L1 h1 h2 h3 => kk H1 L1 (by rw [nI_clamp (Nat.lt_trans hin hn)] at h1; exact h1) (by rw [nI_clamp (Nat.lt_trans hin hn)] at h2; exact h2) h3)
theorem xa_bast (hexec : p.tables.exec = Jvm.exec) (hb : c.code = cc) (hK : va_K D cl tys s) (hP : va_P D cl ws H) (hD : va_D A ws) (hS : va_S A H0 H locs) (q0 t0 : Nat) {cA : ClassId} {n : Nat} {f : Nat → Int32} (ha : ws[q0]? = some (a, .inl (cA, n, .inl f))) (ht : tys[t0]? = some (cA, .byte)) {i : Nat} {x y : Int32} (hy : vp_nar .byte x = y) (hin : i < n) (hn : n < 2 ^ 31) (hdg : decode cc pc = .ok (.bastore, 1))
    (kk : ∀ (H1 : Heap) (locs1 : List Loc), va_P D cl (ws.set q0 (a, .inl (cA, n, .inl (upd f i y)))) H1 → va_D A (ws.set q0 (a, .inl (cA, n, .inl (upd f i y)))) → va_S A H0 H1 locs1 → W p l e R s m args below meth c H1 locs1 cells slots Q (F0 m (pc + 1) ls rest)) : W p l e R s m args below meth c H locs cells slots Q (F0 m pc ls (.int x :: .int (nI i) :: .ref a :: rest)) :=
  va_bast hexec hb hK hP hD hS q0 t0 ha ht (vp_in_nI hin hn) hdg (fun H1 L1 h1 h2 h3 => kk H1 L1 (by rw [nI_clamp (Nat.lt_trans hin hn), hy] at h1; exact h1) (by rw [nI_clamp (Nat.lt_trans hin hn), hy] at h2; exact h2) h3)
theorem xt_i {t N : Nat} {f : Nat → Int32} (hexec : p.tables.exec = Jvm.exec) (hb : c.code = cc) (hT : va_T .int t N (fun j => .int (f j)) A s s.heap) (hS : va_S A s.heap H locs) {i : Nat} (hin : i < N) (hn : N < 2 ^ 31) (hdg : decode cc pc = .ok (.iaload, 1))
    (kk : W p l e R s m args below meth c H locs cells slots Q (F0 m (pc + 1) ls (.int (f i) :: rest))) : W p l e R s m args below meth c H locs cells slots Q (F0 m pc ls (.int (nI i) :: .ref t :: rest)) :=
  va_ti hexec hb hT hS (vp_in_nI hin hn) (v := .int (f i)) (by rw [nI_clamp (Nat.lt_trans hin hn)]) hdg kk
/-- where two ways meet: the way on is taken first -/
theorem jn {α : Type} {g0 : JFrame} (P : α → Heap → List Loc → JFrame → Prop) (J : ∀ (a : α) (H1 : Heap) (locs1 : List Loc) (g : JFrame), P a H1 locs1 g → W p l e R s m args below meth c H1 locs1 cells slots Q g)
    (K : (∀ (a : α) (H1 : Heap) (locs1 : List Loc) (g : JFrame), P a H1 locs1 g → W p l e R s m args below meth c H1 locs1 cells slots Q g) → W p l e R s m args below meth c H locs cells slots Q g0) : W p l e R s m args below meth c H locs cells slots Q g0 := K J
theorem jn_i {g0 : JFrame} (P : Int32 → Prop) (tgt : Nat) (ls1 : Array Slot) (rest1 : List Value) (J : ∀ x : Int32, P x → W p l e R s m args below meth c H locs cells slots Q (F0 m tgt ls1 (.int x :: rest1)))
    (K : (∀ x : Int32, P x → W p l e R s m args below meth c H locs cells slots Q (F0 m tgt ls1 (.int x :: rest1))) → W p l e R s m args below meth c H locs cells slots Q g0) : W p l e R s m args below meth c H locs cells slots Q g0 := K J
/-- a loop, by a measure that falls -/
theorem lp {α : Type} (μ : α → Nat) (P : α → Heap → List Loc → JFrame → Prop)
    (st : ∀ (a : α) (H1 : Heap) (locs1 : List Loc) (g : JFrame), (∀ (b : α) (H2 : Heap) (locs2 : List Loc) (g2 : JFrame), μ b < μ a → P b H2 locs2 g2 → W p l e R s m args below meth c H2 locs2 cells slots Q g2) → P a H1 locs1 g → W p l e R s m args below meth c H1 locs1 cells slots Q g)
    {g0 : JFrame} (a0 : α) (h0 : P a0 H locs g0) : W p l e R s m args below meth c H locs cells slots Q g0 := by
  have key : ∀ (n : Nat) (a : α) (H1 : Heap) (locs1 : List Loc) (g : JFrame), μ a < n → P a H1 locs1 g → W p l e R s m args below meth c H1 locs1 cells slots Q g := by
    intro n
    induction n with
    | zero => intro a H1 L g h; exact absurd h (Nat.not_lt_zero _)
    | succ n ih => intro a H1 L g h hp; exact st a H1 L g (fun b H2 L2 g2 hb h2 => ih b H2 L2 g2 (Nat.lt_of_lt_of_le hb (Nat.lt_succ_iff.mp h)) h2) hp
  exact key (μ a0 + 1) a0 H locs g0 (Nat.lt_succ_self _) h0
end XH
theorem inc1 (k : Nat) : nI k + Int32.ofInt 1 = nI (k + 1) := nI_1 k
theorem inc2 (k : Nat) : nI k + Int32.ofInt 2 = nI (k + 2) := nI_add k 2
theorem inc6 (k : Nat) : nI k + Int32.ofInt 6 = nI (k + 6) := nI_add k 6
end
section
def startL : List Int32 := [1732584193, (-271733879), (-1732584194), 271733878, (-1009589776)]
def startT (k : Nat) : Int32 := startL.getD k 0
def sinesL : List Int32 := [(-680876936), (-389564586), 606105819, (-1044525330), (-176418897), 1200080426, (-1473231341), (-45705983), 1770035416, (-1958414417), (-42063), (-1990404162), 1804603682, (-40341101), (-1502002290), 1236535329, (-165796510), (-1069501632), 643717713, (-373897302), (-701558691), 38016083, (-660478335), (-405537848), 568446438, (-1019803690), (-187363961), 1163531501, (-1444681467), (-51403784), 1735328473, (-1926607734), (-378558), (-2022574463), 1839030562, (-35309556), (-1530992060), 1272893353, (-155497632), (-1094730640), 681279174, (-358537222), (-722521979), 76029189, (-640364487), (-421815835), 530742520, (-995338651), (-198630844), 1126891415, (-1416354905), (-57434055), 1700485571, (-1894986606), (-1051523), (-2054922799), 1873313359, (-30611744), (-1560198380), 1309151649, (-145523070), (-1120210379), 718787259, (-343485551)]
def sinesT (k : Nat) : Int32 := sinesL.getD k 0
def addedL : List Int32 := [1518500249, 1859775393, (-1894007588), (-899497514)]
def addedT (k : Nat) : Int32 := addedL.getD k 0
def turnsL : List Nat := [7, 12, 17, 22, 5, 9, 14, 20, 4, 11, 16, 23, 6, 10, 15, 21]
def turnsT (k : Nat) : Int32 := nI (turnsL.getD k 0)
theorem hs_D_new : y_D_new.cls ≠ "java/lang/invoke/MethodHandle" ∧ y_D_new.cls ≠ "java/lang/invoke/VarHandle" ∧ (parseMethodDescriptor y_D_new.desc).map (fun d => d.parameters.length) = some 1 := by decide +kernel
theorem hd_D_new : y_D_new.cls = "DigestDesk" ∧ y_D_new.cls ≠ "java/lang/invoke/MethodHandle" ∧ y_D_new.cls ≠ "java/lang/invoke/VarHandle" ∧ (parseMethodDescriptor y_D_new.desc).map (fun d => d.parameters.length) = some 1 := ⟨rfl, hs_D_new⟩
theorem hs_O_new : y_O_new.cls ≠ "java/lang/invoke/MethodHandle" ∧ y_O_new.cls ≠ "java/lang/invoke/VarHandle" ∧ (parseMethodDescriptor y_O_new.desc).map (fun d => d.parameters.length) = some 0 := by decide +kernel
theorem hs_H_min : y_H_min.cls ≠ "java/lang/invoke/MethodHandle" ∧ y_H_min.cls ≠ "java/lang/invoke/VarHandle" ∧ (parseMethodDescriptor y_H_min.desc).map (fun d => d.parameters.length) = some 2 := by decide +kernel
theorem hs_H_max : y_H_max.cls ≠ "java/lang/invoke/MethodHandle" ∧ y_H_max.cls ≠ "java/lang/invoke/VarHandle" ∧ (parseMethodDescriptor y_H_max.desc).map (fun d => d.parameters.length) = some 2 := by decide +kernel
theorem hs_D_init : y_D_init.cls ≠ "java/lang/invoke/MethodHandle" ∧ y_D_init.cls ≠ "java/lang/invoke/VarHandle" ∧ (parseMethodDescriptor y_D_init.desc).map (fun d => d.parameters.length) = some 0 := by decide +kernel
theorem hd_D_init : y_D_init.cls = "DigestDesk" ∧ y_D_init.cls ≠ "java/lang/invoke/MethodHandle" ∧ y_D_init.cls ≠ "java/lang/invoke/VarHandle" ∧ (parseMethodDescriptor y_D_init.desc).map (fun d => d.parameters.length) = some 0 := ⟨rfl, hs_D_init⟩
theorem hs_D_start : y_D_start.cls ≠ "java/lang/invoke/MethodHandle" ∧ y_D_start.cls ≠ "java/lang/invoke/VarHandle" ∧ (parseMethodDescriptor y_D_start.desc).map (fun d => d.parameters.length) = some 1 := by decide +kernel
theorem hd_D_start : y_D_start.cls = "DigestDesk" ∧ y_D_start.cls ≠ "java/lang/invoke/MethodHandle" ∧ y_D_start.cls ≠ "java/lang/invoke/VarHandle" ∧ (parseMethodDescriptor y_D_start.desc).map (fun d => d.parameters.length) = some 1 := ⟨rfl, hs_D_start⟩
theorem hs_D_mayStart : y_D_mayStart.cls ≠ "java/lang/invoke/MethodHandle" ∧ y_D_mayStart.cls ≠ "java/lang/invoke/VarHandle" ∧ (parseMethodDescriptor y_D_mayStart.desc).map (fun d => d.parameters.length) = some 1 := by decide +kernel
theorem hd_D_mayStart : y_D_mayStart.cls = "DigestDesk" ∧ y_D_mayStart.cls ≠ "java/lang/invoke/MethodHandle" ∧ y_D_mayStart.cls ≠ "java/lang/invoke/VarHandle" ∧ (parseMethodDescriptor y_D_mayStart.desc).map (fun d => d.parameters.length) = some 1 := ⟨rfl, hs_D_mayStart⟩
theorem hs_D_begin : y_D_begin.cls ≠ "java/lang/invoke/MethodHandle" ∧ y_D_begin.cls ≠ "java/lang/invoke/VarHandle" ∧ (parseMethodDescriptor y_D_begin.desc).map (fun d => d.parameters.length) = some 1 := by decide +kernel
theorem hd_D_begin : y_D_begin.cls = "DigestDesk" ∧ y_D_begin.cls ≠ "java/lang/invoke/MethodHandle" ∧ y_D_begin.cls ≠ "java/lang/invoke/VarHandle" ∧ (parseMethodDescriptor y_D_begin.desc).map (fun d => d.parameters.length) = some 1 := ⟨rfl, hs_D_begin⟩
theorem hs_D_keyByte : y_D_keyByte.cls ≠ "java/lang/invoke/MethodHandle" ∧ y_D_keyByte.cls ≠ "java/lang/invoke/VarHandle" ∧ (parseMethodDescriptor y_D_keyByte.desc).map (fun d => d.parameters.length) = some 1 := by decide +kernel
theorem hd_D_keyByte : y_D_keyByte.cls = "DigestDesk" ∧ y_D_keyByte.cls ≠ "java/lang/invoke/MethodHandle" ∧ y_D_keyByte.cls ≠ "java/lang/invoke/VarHandle" ∧ (parseMethodDescriptor y_D_keyByte.desc).map (fun d => d.parameters.length) = some 1 := ⟨rfl, hs_D_keyByte⟩
theorem hs_D_startMac : y_D_startMac.cls ≠ "java/lang/invoke/MethodHandle" ∧ y_D_startMac.cls ≠ "java/lang/invoke/VarHandle" ∧ (parseMethodDescriptor y_D_startMac.desc).map (fun d => d.parameters.length) = some 1 := by decide +kernel
theorem hd_D_startMac : y_D_startMac.cls = "DigestDesk" ∧ y_D_startMac.cls ≠ "java/lang/invoke/MethodHandle" ∧ y_D_startMac.cls ≠ "java/lang/invoke/VarHandle" ∧ (parseMethodDescriptor y_D_startMac.desc).map (fun d => d.parameters.length) = some 1 := ⟨rfl, hs_D_startMac⟩
theorem hs_D_fill : y_D_fill.cls ≠ "java/lang/invoke/MethodHandle" ∧ y_D_fill.cls ≠ "java/lang/invoke/VarHandle" ∧ (parseMethodDescriptor y_D_fill.desc).map (fun d => d.parameters.length) = some 1 := by decide +kernel
theorem hd_D_fill : y_D_fill.cls = "DigestDesk" ∧ y_D_fill.cls ≠ "java/lang/invoke/MethodHandle" ∧ y_D_fill.cls ≠ "java/lang/invoke/VarHandle" ∧ (parseMethodDescriptor y_D_fill.desc).map (fun d => d.parameters.length) = some 1 := ⟨rfl, hs_D_fill⟩
theorem hs_D_put : y_D_put.cls ≠ "java/lang/invoke/MethodHandle" ∧ y_D_put.cls ≠ "java/lang/invoke/VarHandle" ∧ (parseMethodDescriptor y_D_put.desc).map (fun d => d.parameters.length) = some 1 := by decide +kernel
theorem hd_D_put : y_D_put.cls = "DigestDesk" ∧ y_D_put.cls ≠ "java/lang/invoke/MethodHandle" ∧ y_D_put.cls ≠ "java/lang/invoke/VarHandle" ∧ (parseMethodDescriptor y_D_put.desc).map (fun d => d.parameters.length) = some 1 := ⟨rfl, hs_D_put⟩
theorem hs_D_mixFour : y_D_mixFour.cls ≠ "java/lang/invoke/MethodHandle" ∧ y_D_mixFour.cls ≠ "java/lang/invoke/VarHandle" ∧ (parseMethodDescriptor y_D_mixFour.desc).map (fun d => d.parameters.length) = some 0 := by decide +kernel
theorem hd_D_mixFour : y_D_mixFour.cls = "DigestDesk" ∧ y_D_mixFour.cls ≠ "java/lang/invoke/MethodHandle" ∧ y_D_mixFour.cls ≠ "java/lang/invoke/VarHandle" ∧ (parseMethodDescriptor y_D_mixFour.desc).map (fun d => d.parameters.length) = some 0 := ⟨rfl, hs_D_mixFour⟩
theorem hs_D_choose : y_D_choose.cls ≠ "java/lang/invoke/MethodHandle" ∧ y_D_choose.cls ≠ "java/lang/invoke/VarHandle" ∧ (parseMethodDescriptor y_D_choose.desc).map (fun d => d.parameters.length) = some 3 := by decide +kernel
theorem hd_D_choose : y_D_choose.cls = "DigestDesk" ∧ y_D_choose.cls ≠ "java/lang/invoke/MethodHandle" ∧ y_D_choose.cls ≠ "java/lang/invoke/VarHandle" ∧ (parseMethodDescriptor y_D_choose.desc).map (fun d => d.parameters.length) = some 3 := ⟨rfl, hs_D_choose⟩
theorem hs_J_rotateLeft : y_J_rotateLeft.cls ≠ "java/lang/invoke/MethodHandle" ∧ y_J_rotateLeft.cls ≠ "java/lang/invoke/VarHandle" ∧ (parseMethodDescriptor y_J_rotateLeft.desc).map (fun d => d.parameters.length) = some 2 := by decide +kernel
theorem hs_D_mixFive : y_D_mixFive.cls ≠ "java/lang/invoke/MethodHandle" ∧ y_D_mixFive.cls ≠ "java/lang/invoke/VarHandle" ∧ (parseMethodDescriptor y_D_mixFive.desc).map (fun d => d.parameters.length) = some 0 := by decide +kernel
theorem hd_D_mixFive : y_D_mixFive.cls = "DigestDesk" ∧ y_D_mixFive.cls ≠ "java/lang/invoke/MethodHandle" ∧ y_D_mixFive.cls ≠ "java/lang/invoke/VarHandle" ∧ (parseMethodDescriptor y_D_mixFive.desc).map (fun d => d.parameters.length) = some 0 := ⟨rfl, hs_D_mixFive⟩
theorem hs_D_end : y_D_end.cls ≠ "java/lang/invoke/MethodHandle" ∧ y_D_end.cls ≠ "java/lang/invoke/VarHandle" ∧ (parseMethodDescriptor y_D_end.desc).map (fun d => d.parameters.length) = some 0 := by decide +kernel
theorem hd_D_end : y_D_end.cls = "DigestDesk" ∧ y_D_end.cls ≠ "java/lang/invoke/MethodHandle" ∧ y_D_end.cls ≠ "java/lang/invoke/VarHandle" ∧ (parseMethodDescriptor y_D_end.desc).map (fun d => d.parameters.length) = some 0 := ⟨rfl, hs_D_end⟩
theorem hs_D_lengthOf : y_D_lengthOf.cls ≠ "java/lang/invoke/MethodHandle" ∧ y_D_lengthOf.cls ≠ "java/lang/invoke/VarHandle" ∧ (parseMethodDescriptor y_D_lengthOf.desc).map (fun d => d.parameters.length) = some 1 := by decide +kernel
theorem hd_D_lengthOf : y_D_lengthOf.cls = "DigestDesk" ∧ y_D_lengthOf.cls ≠ "java/lang/invoke/MethodHandle" ∧ y_D_lengthOf.cls ≠ "java/lang/invoke/VarHandle" ∧ (parseMethodDescriptor y_D_lengthOf.desc).map (fun d => d.parameters.length) = some 1 := ⟨rfl, hs_D_lengthOf⟩
theorem hs_D_update : y_D_update.cls ≠ "java/lang/invoke/MethodHandle" ∧ y_D_update.cls ≠ "java/lang/invoke/VarHandle" ∧ (parseMethodDescriptor y_D_update.desc).map (fun d => d.parameters.length) = some 1 := by decide +kernel
theorem hd_D_update : y_D_update.cls = "DigestDesk" ∧ y_D_update.cls ≠ "java/lang/invoke/MethodHandle" ∧ y_D_update.cls ≠ "java/lang/invoke/VarHandle" ∧ (parseMethodDescriptor y_D_update.desc).map (fun d => d.parameters.length) = some 1 := ⟨rfl, hs_D_update⟩
theorem hs_D_pour : y_D_pour.cls ≠ "java/lang/invoke/MethodHandle" ∧ y_D_pour.cls ≠ "java/lang/invoke/VarHandle" ∧ (parseMethodDescriptor y_D_pour.desc).map (fun d => d.parameters.length) = some 5 := by decide +kernel
theorem hd_D_pour : y_D_pour.cls = "DigestDesk" ∧ y_D_pour.cls ≠ "java/lang/invoke/MethodHandle" ∧ y_D_pour.cls ≠ "java/lang/invoke/VarHandle" ∧ (parseMethodDescriptor y_D_pour.desc).map (fun d => d.parameters.length) = some 5 := ⟨rfl, hs_D_pour⟩
theorem hs_D_finish : y_D_finish.cls ≠ "java/lang/invoke/MethodHandle" ∧ y_D_finish.cls ≠ "java/lang/invoke/VarHandle" ∧ (parseMethodDescriptor y_D_finish.desc).map (fun d => d.parameters.length) = some 0 := by decide +kernel
theorem hd_D_finish : y_D_finish.cls = "DigestDesk" ∧ y_D_finish.cls ≠ "java/lang/invoke/MethodHandle" ∧ y_D_finish.cls ≠ "java/lang/invoke/VarHandle" ∧ (parseMethodDescriptor y_D_finish.desc).map (fun d => d.parameters.length) = some 0 := ⟨rfl, hs_D_finish⟩
theorem hs_D_out : y_D_out.cls ≠ "java/lang/invoke/MethodHandle" ∧ y_D_out.cls ≠ "java/lang/invoke/VarHandle" ∧ (parseMethodDescriptor y_D_out.desc).map (fun d => d.parameters.length) = some 1 := by decide +kernel
theorem hd_D_out : y_D_out.cls = "DigestDesk" ∧ y_D_out.cls ≠ "java/lang/invoke/MethodHandle" ∧ y_D_out.cls ≠ "java/lang/invoke/VarHandle" ∧ (parseMethodDescriptor y_D_out.desc).map (fun d => d.parameters.length) = some 1 := ⟨rfl, hs_D_out⟩
theorem hs_D_outLen : y_D_outLen.cls ≠ "java/lang/invoke/MethodHandle" ∧ y_D_outLen.cls ≠ "java/lang/invoke/VarHandle" ∧ (parseMethodDescriptor y_D_outLen.desc).map (fun d => d.parameters.length) = some 0 := by decide +kernel
theorem hd_D_outLen : y_D_outLen.cls = "DigestDesk" ∧ y_D_outLen.cls ≠ "java/lang/invoke/MethodHandle" ∧ y_D_outLen.cls ≠ "java/lang/invoke/VarHandle" ∧ (parseMethodDescriptor y_D_outLen.desc).map (fun d => d.parameters.length) = some 0 := ⟨rfl, hs_D_outLen⟩
theorem hs_D_keyLen : y_D_keyLen.cls ≠ "java/lang/invoke/MethodHandle" ∧ y_D_keyLen.cls ≠ "java/lang/invoke/VarHandle" ∧ (parseMethodDescriptor y_D_keyLen.desc).map (fun d => d.parameters.length) = some 0 := by decide +kernel
theorem hd_D_keyLen : y_D_keyLen.cls = "DigestDesk" ∧ y_D_keyLen.cls ≠ "java/lang/invoke/MethodHandle" ∧ y_D_keyLen.cls ≠ "java/lang/invoke/VarHandle" ∧ (parseMethodDescriptor y_D_keyLen.desc).map (fun d => d.parameters.length) = some 0 := ⟨rfl, hs_D_keyLen⟩
theorem hs_D_length : y_D_length.cls ≠ "java/lang/invoke/MethodHandle" ∧ y_D_length.cls ≠ "java/lang/invoke/VarHandle" ∧ (parseMethodDescriptor y_D_length.desc).map (fun d => d.parameters.length) = some 0 := by decide +kernel
theorem hd_D_length : y_D_length.cls = "DigestDesk" ∧ y_D_length.cls ≠ "java/lang/invoke/MethodHandle" ∧ y_D_length.cls ≠ "java/lang/invoke/VarHandle" ∧ (parseMethodDescriptor y_D_length.desc).map (fun d => d.parameters.length) = some 0 := ⟨rfl, hs_D_length⟩
theorem hs_L_cell : y_L_cell.cls ≠ "java/lang/invoke/MethodHandle" ∧ y_L_cell.cls ≠ "java/lang/invoke/VarHandle" ∧ (parseMethodDescriptor y_L_cell.desc).map (fun d => d.parameters.length) = some 2 := by decide +kernel
theorem hs_M_new : y_M_new.cls ≠ "java/lang/invoke/MethodHandle" ∧ y_M_new.cls ≠ "java/lang/invoke/VarHandle" ∧ (parseMethodDescriptor y_M_new.desc).map (fun d => d.parameters.length) = some 1 := by decide +kernel
theorem hd_M_new : y_M_new.cls = "DigestDeskModel" ∧ y_M_new.cls ≠ "java/lang/invoke/MethodHandle" ∧ y_M_new.cls ≠ "java/lang/invoke/VarHandle" ∧ (parseMethodDescriptor y_M_new.desc).map (fun d => d.parameters.length) = some 1 := ⟨rfl, hs_M_new⟩
theorem hs_M_sine : y_M_sine.cls ≠ "java/lang/invoke/MethodHandle" ∧ y_M_sine.cls ≠ "java/lang/invoke/VarHandle" ∧ (parseMethodDescriptor y_M_sine.desc).map (fun d => d.parameters.length) = some 1 := by decide +kernel
theorem hd_M_sine : y_M_sine.cls = "DigestDeskModel" ∧ y_M_sine.cls ≠ "java/lang/invoke/MethodHandle" ∧ y_M_sine.cls ≠ "java/lang/invoke/VarHandle" ∧ (parseMethodDescriptor y_M_sine.desc).map (fun d => d.parameters.length) = some 1 := ⟨rfl, hs_M_sine⟩
theorem hs_M_size : y_M_size.cls ≠ "java/lang/invoke/MethodHandle" ∧ y_M_size.cls ≠ "java/lang/invoke/VarHandle" ∧ (parseMethodDescriptor y_M_size.desc).map (fun d => d.parameters.length) = some 1 := by decide +kernel
theorem hd_M_size : y_M_size.cls = "DigestDeskModel" ∧ y_M_size.cls ≠ "java/lang/invoke/MethodHandle" ∧ y_M_size.cls ≠ "java/lang/invoke/VarHandle" ∧ (parseMethodDescriptor y_M_size.desc).map (fun d => d.parameters.length) = some 1 := ⟨rfl, hs_M_size⟩
theorem hs_M_root : y_M_root.cls ≠ "java/lang/invoke/MethodHandle" ∧ y_M_root.cls ≠ "java/lang/invoke/VarHandle" ∧ (parseMethodDescriptor y_M_root.desc).map (fun d => d.parameters.length) = some 1 := by decide +kernel
theorem hd_M_root : y_M_root.cls = "DigestDeskModel" ∧ y_M_root.cls ≠ "java/lang/invoke/MethodHandle" ∧ y_M_root.cls ≠ "java/lang/invoke/VarHandle" ∧ (parseMethodDescriptor y_M_root.desc).map (fun d => d.parameters.length) = some 1 := ⟨rfl, hs_M_root⟩
theorem hs_M_init : y_M_init.cls ≠ "java/lang/invoke/MethodHandle" ∧ y_M_init.cls ≠ "java/lang/invoke/VarHandle" ∧ (parseMethodDescriptor y_M_init.desc).map (fun d => d.parameters.length) = some 0 := by decide +kernel
theorem hd_M_init : y_M_init.cls = "DigestDeskModel" ∧ y_M_init.cls ≠ "java/lang/invoke/MethodHandle" ∧ y_M_init.cls ≠ "java/lang/invoke/VarHandle" ∧ (parseMethodDescriptor y_M_init.desc).map (fun d => d.parameters.length) = some 0 := ⟨rfl, hs_M_init⟩
theorem hs_M_start : y_M_start.cls ≠ "java/lang/invoke/MethodHandle" ∧ y_M_start.cls ≠ "java/lang/invoke/VarHandle" ∧ (parseMethodDescriptor y_M_start.desc).map (fun d => d.parameters.length) = some 1 := by decide +kernel
theorem hd_M_start : y_M_start.cls = "DigestDeskModel" ∧ y_M_start.cls ≠ "java/lang/invoke/MethodHandle" ∧ y_M_start.cls ≠ "java/lang/invoke/VarHandle" ∧ (parseMethodDescriptor y_M_start.desc).map (fun d => d.parameters.length) = some 1 := ⟨rfl, hs_M_start⟩
theorem hs_M_begin : y_M_begin.cls ≠ "java/lang/invoke/MethodHandle" ∧ y_M_begin.cls ≠ "java/lang/invoke/VarHandle" ∧ (parseMethodDescriptor y_M_begin.desc).map (fun d => d.parameters.length) = some 1 := by decide +kernel
theorem hd_M_begin : y_M_begin.cls = "DigestDeskModel" ∧ y_M_begin.cls ≠ "java/lang/invoke/MethodHandle" ∧ y_M_begin.cls ≠ "java/lang/invoke/VarHandle" ∧ (parseMethodDescriptor y_M_begin.desc).map (fun d => d.parameters.length) = some 1 := ⟨rfl, hs_M_begin⟩
theorem hs_M_keyByte : y_M_keyByte.cls ≠ "java/lang/invoke/MethodHandle" ∧ y_M_keyByte.cls ≠ "java/lang/invoke/VarHandle" ∧ (parseMethodDescriptor y_M_keyByte.desc).map (fun d => d.parameters.length) = some 1 := by decide +kernel
theorem hd_M_keyByte : y_M_keyByte.cls = "DigestDeskModel" ∧ y_M_keyByte.cls ≠ "java/lang/invoke/MethodHandle" ∧ y_M_keyByte.cls ≠ "java/lang/invoke/VarHandle" ∧ (parseMethodDescriptor y_M_keyByte.desc).map (fun d => d.parameters.length) = some 1 := ⟨rfl, hs_M_keyByte⟩
theorem hs_M_startMac : y_M_startMac.cls ≠ "java/lang/invoke/MethodHandle" ∧ y_M_startMac.cls ≠ "java/lang/invoke/VarHandle" ∧ (parseMethodDescriptor y_M_startMac.desc).map (fun d => d.parameters.length) = some 1 := by decide +kernel
theorem hd_M_startMac : y_M_startMac.cls = "DigestDeskModel" ∧ y_M_startMac.cls ≠ "java/lang/invoke/MethodHandle" ∧ y_M_startMac.cls ≠ "java/lang/invoke/VarHandle" ∧ (parseMethodDescriptor y_M_startMac.desc).map (fun d => d.parameters.length) = some 1 := ⟨rfl, hs_M_startMac⟩
theorem hs_M_add : y_M_add.cls ≠ "java/lang/invoke/MethodHandle" ∧ y_M_add.cls ≠ "java/lang/invoke/VarHandle" ∧ (parseMethodDescriptor y_M_add.desc).map (fun d => d.parameters.length) = some 1 := by decide +kernel
theorem hd_M_add : y_M_add.cls = "DigestDeskModel" ∧ y_M_add.cls ≠ "java/lang/invoke/MethodHandle" ∧ y_M_add.cls ≠ "java/lang/invoke/VarHandle" ∧ (parseMethodDescriptor y_M_add.desc).map (fun d => d.parameters.length) = some 1 := ⟨rfl, hs_M_add⟩
theorem hs_M_five : y_M_five.cls ≠ "java/lang/invoke/MethodHandle" ∧ y_M_five.cls ≠ "java/lang/invoke/VarHandle" ∧ (parseMethodDescriptor y_M_five.desc).map (fun d => d.parameters.length) = some 0 := by decide +kernel
theorem hd_M_five : y_M_five.cls = "DigestDeskModel" ∧ y_M_five.cls ≠ "java/lang/invoke/MethodHandle" ∧ y_M_five.cls ≠ "java/lang/invoke/VarHandle" ∧ (parseMethodDescriptor y_M_five.desc).map (fun d => d.parameters.length) = some 0 := ⟨rfl, hs_M_five⟩
theorem hs_M_turned : y_M_turned.cls ≠ "java/lang/invoke/MethodHandle" ∧ y_M_turned.cls ≠ "java/lang/invoke/VarHandle" ∧ (parseMethodDescriptor y_M_turned.desc).map (fun d => d.parameters.length) = some 1 := by decide +kernel
theorem hd_M_turned : y_M_turned.cls = "DigestDeskModel" ∧ y_M_turned.cls ≠ "java/lang/invoke/MethodHandle" ∧ y_M_turned.cls ≠ "java/lang/invoke/VarHandle" ∧ (parseMethodDescriptor y_M_turned.desc).map (fun d => d.parameters.length) = some 1 := ⟨rfl, hs_M_turned⟩
theorem hs_M_left : y_M_left.cls ≠ "java/lang/invoke/MethodHandle" ∧ y_M_left.cls ≠ "java/lang/invoke/VarHandle" ∧ (parseMethodDescriptor y_M_left.desc).map (fun d => d.parameters.length) = some 2 := by decide +kernel
theorem hd_M_left : y_M_left.cls = "DigestDeskModel" ∧ y_M_left.cls ≠ "java/lang/invoke/MethodHandle" ∧ y_M_left.cls ≠ "java/lang/invoke/VarHandle" ∧ (parseMethodDescriptor y_M_left.desc).map (fun d => d.parameters.length) = some 2 := ⟨rfl, hs_M_left⟩
theorem hs_M_one : y_M_one.cls ≠ "java/lang/invoke/MethodHandle" ∧ y_M_one.cls ≠ "java/lang/invoke/VarHandle" ∧ (parseMethodDescriptor y_M_one.desc).map (fun d => d.parameters.length) = some 0 := by decide +kernel
theorem hd_M_one : y_M_one.cls = "DigestDeskModel" ∧ y_M_one.cls ≠ "java/lang/invoke/MethodHandle" ∧ y_M_one.cls ≠ "java/lang/invoke/VarHandle" ∧ (parseMethodDescriptor y_M_one.desc).map (fun d => d.parameters.length) = some 0 := ⟨rfl, hs_M_one⟩
theorem hs_M_end : y_M_end.cls ≠ "java/lang/invoke/MethodHandle" ∧ y_M_end.cls ≠ "java/lang/invoke/VarHandle" ∧ (parseMethodDescriptor y_M_end.desc).map (fun d => d.parameters.length) = some 0 := by decide +kernel
theorem hd_M_end : y_M_end.cls = "DigestDeskModel" ∧ y_M_end.cls ≠ "java/lang/invoke/MethodHandle" ∧ y_M_end.cls ≠ "java/lang/invoke/VarHandle" ∧ (parseMethodDescriptor y_M_end.desc).map (fun d => d.parameters.length) = some 0 := ⟨rfl, hs_M_end⟩
theorem hs_M_width : y_M_width.cls ≠ "java/lang/invoke/MethodHandle" ∧ y_M_width.cls ≠ "java/lang/invoke/VarHandle" ∧ (parseMethodDescriptor y_M_width.desc).map (fun d => d.parameters.length) = some 0 := by decide +kernel
theorem hd_M_width : y_M_width.cls = "DigestDeskModel" ∧ y_M_width.cls ≠ "java/lang/invoke/MethodHandle" ∧ y_M_width.cls ≠ "java/lang/invoke/VarHandle" ∧ (parseMethodDescriptor y_M_width.desc).map (fun d => d.parameters.length) = some 0 := ⟨rfl, hs_M_width⟩
theorem hs_M_update : y_M_update.cls ≠ "java/lang/invoke/MethodHandle" ∧ y_M_update.cls ≠ "java/lang/invoke/VarHandle" ∧ (parseMethodDescriptor y_M_update.desc).map (fun d => d.parameters.length) = some 1 := by decide +kernel
theorem hd_M_update : y_M_update.cls = "DigestDeskModel" ∧ y_M_update.cls ≠ "java/lang/invoke/MethodHandle" ∧ y_M_update.cls ≠ "java/lang/invoke/VarHandle" ∧ (parseMethodDescriptor y_M_update.desc).map (fun d => d.parameters.length) = some 1 := ⟨rfl, hs_M_update⟩
theorem hs_M_pour : y_M_pour.cls ≠ "java/lang/invoke/MethodHandle" ∧ y_M_pour.cls ≠ "java/lang/invoke/VarHandle" ∧ (parseMethodDescriptor y_M_pour.desc).map (fun d => d.parameters.length) = some 5 := by decide +kernel
theorem hd_M_pour : y_M_pour.cls = "DigestDeskModel" ∧ y_M_pour.cls ≠ "java/lang/invoke/MethodHandle" ∧ y_M_pour.cls ≠ "java/lang/invoke/VarHandle" ∧ (parseMethodDescriptor y_M_pour.desc).map (fun d => d.parameters.length) = some 5 := ⟨rfl, hs_M_pour⟩
theorem hs_M_finish : y_M_finish.cls ≠ "java/lang/invoke/MethodHandle" ∧ y_M_finish.cls ≠ "java/lang/invoke/VarHandle" ∧ (parseMethodDescriptor y_M_finish.desc).map (fun d => d.parameters.length) = some 0 := by decide +kernel
theorem hd_M_finish : y_M_finish.cls = "DigestDeskModel" ∧ y_M_finish.cls ≠ "java/lang/invoke/MethodHandle" ∧ y_M_finish.cls ≠ "java/lang/invoke/VarHandle" ∧ (parseMethodDescriptor y_M_finish.desc).map (fun d => d.parameters.length) = some 0 := ⟨rfl, hs_M_finish⟩
theorem hs_M_out : y_M_out.cls ≠ "java/lang/invoke/MethodHandle" ∧ y_M_out.cls ≠ "java/lang/invoke/VarHandle" ∧ (parseMethodDescriptor y_M_out.desc).map (fun d => d.parameters.length) = some 1 := by decide +kernel
theorem hd_M_out : y_M_out.cls = "DigestDeskModel" ∧ y_M_out.cls ≠ "java/lang/invoke/MethodHandle" ∧ y_M_out.cls ≠ "java/lang/invoke/VarHandle" ∧ (parseMethodDescriptor y_M_out.desc).map (fun d => d.parameters.length) = some 1 := ⟨rfl, hs_M_out⟩
theorem hs_M_outLen : y_M_outLen.cls ≠ "java/lang/invoke/MethodHandle" ∧ y_M_outLen.cls ≠ "java/lang/invoke/VarHandle" ∧ (parseMethodDescriptor y_M_outLen.desc).map (fun d => d.parameters.length) = some 0 := by decide +kernel
theorem hd_M_outLen : y_M_outLen.cls = "DigestDeskModel" ∧ y_M_outLen.cls ≠ "java/lang/invoke/MethodHandle" ∧ y_M_outLen.cls ≠ "java/lang/invoke/VarHandle" ∧ (parseMethodDescriptor y_M_outLen.desc).map (fun d => d.parameters.length) = some 0 := ⟨rfl, hs_M_outLen⟩
theorem hs_M_keyLen : y_M_keyLen.cls ≠ "java/lang/invoke/MethodHandle" ∧ y_M_keyLen.cls ≠ "java/lang/invoke/VarHandle" ∧ (parseMethodDescriptor y_M_keyLen.desc).map (fun d => d.parameters.length) = some 0 := by decide +kernel
theorem hd_M_keyLen : y_M_keyLen.cls = "DigestDeskModel" ∧ y_M_keyLen.cls ≠ "java/lang/invoke/MethodHandle" ∧ y_M_keyLen.cls ≠ "java/lang/invoke/VarHandle" ∧ (parseMethodDescriptor y_M_keyLen.desc).map (fun d => d.parameters.length) = some 0 := ⟨rfl, hs_M_keyLen⟩
theorem hs_M_length : y_M_length.cls ≠ "java/lang/invoke/MethodHandle" ∧ y_M_length.cls ≠ "java/lang/invoke/VarHandle" ∧ (parseMethodDescriptor y_M_length.desc).map (fun d => d.parameters.length) = some 0 := by decide +kernel
theorem hd_M_length : y_M_length.cls = "DigestDeskModel" ∧ y_M_length.cls ≠ "java/lang/invoke/MethodHandle" ∧ y_M_length.cls ≠ "java/lang/invoke/VarHandle" ∧ (parseMethodDescriptor y_M_length.desc).map (fun d => d.parameters.length) = some 0 := ⟨rfl, hs_M_length⟩
theorem g_L_21 : GoodIn tT (wsV "DigestDeskLaw" 21 "DigestDesk" y_D_init (k_D_init :: tT)) := tT_V ml_L_21 im_D_init sel_D_init in_D cd_D_init
theorem g_L_25 : GoodIn tT (wsV "DigestDeskLaw" 25 "DigestDesk" y_D_start (k_D_start :: tT)) := tT_V ml_L_25 im_D_start sel_D_start in_D cd_D_start
theorem g_D_109 : GoodIn tT (wsV "DigestDesk" 109 "DigestDesk" y_D_mayStart (k_D_mayStart :: tT)) := tT_V ml_D_109 im_D_mayStart sel_D_mayStart in_D cd_D_mayStart
theorem g_D_113 : GoodIn tT (wsV "DigestDesk" 113 "DigestDesk" y_D_begin (k_D_begin :: tT)) := tT_V ml_D_113 im_D_begin sel_D_begin in_D cd_D_begin
theorem g_L_30 : GoodIn tT (wsV "DigestDeskLaw" 30 "DigestDesk" y_D_keyByte (k_D_keyByte :: tT)) := tT_V ml_L_30 im_D_keyByte sel_D_keyByte in_D cd_D_keyByte
theorem g_L_34 : GoodIn tT (wsV "DigestDeskLaw" 34 "DigestDesk" y_D_startMac (k_D_startMac :: tT)) := tT_V ml_L_34 im_D_startMac sel_D_startMac in_D cd_D_startMac
theorem g_D_119 : GoodIn tT (wsV "DigestDesk" 119 "DigestDesk" y_D_fill (k_D_fill :: tT)) := tT_V ml_D_119 im_D_fill sel_D_fill in_D cd_D_fill
theorem g_D_86 : GoodIn tT (wsV "DigestDesk" 86 "DigestDesk" y_D_put (k_D_put :: tT)) := tT_V ml_D_86 im_D_put sel_D_put in_D cd_D_put
theorem g_D_60 : GoodIn tT (wsV "DigestDesk" 60 "DigestDesk" y_D_mixFour (k_D_mixFour :: tT)) := tT_V ml_D_60 im_D_mixFour sel_D_mixFour in_D cd_D_mixFour
theorem g_D_66 : GoodIn tT (va_wsS "DigestDesk" 66 y_D_choose (k_D_choose :: tT)) := tT_S ml_D_66 sm_D_choose in_D cd_D_choose
theorem g_D_76 : GoodIn tT (va_wsS "DigestDesk" 76 y_J_rotateLeft (k_J_rotateLeft :: tT)) := tT_S ml_D_76 sm_J_rotateLeft in_J cd_J_rotateLeft
theorem g_D_63 : GoodIn tT (wsV "DigestDesk" 63 "DigestDesk" y_D_mixFive (k_D_mixFive :: tT)) := tT_V ml_D_63 im_D_mixFive sel_D_mixFive in_D cd_D_mixFive
theorem g_D_122 : GoodIn tT (wsV "DigestDesk" 122 "DigestDesk" y_D_end (k_D_end :: tT)) := tT_V ml_D_122 im_D_end sel_D_end in_D cd_D_end
theorem g_D_92 : GoodIn tT (va_wsS "DigestDesk" 92 y_D_lengthOf (k_D_lengthOf :: tT)) := tT_S ml_D_92 sm_D_lengthOf in_D cd_D_lengthOf
theorem g_L_38 : GoodIn tT (wsV "DigestDeskLaw" 38 "DigestDesk" y_D_update (k_D_update :: tT)) := tT_V ml_L_38 im_D_update sel_D_update in_D cd_D_update
theorem g_L_42 : GoodIn tT (wsV "DigestDeskLaw" 42 "DigestDesk" y_D_pour (k_D_pour :: tT)) := tT_V ml_L_42 im_D_pour sel_D_pour in_D cd_D_pour
theorem g_L_47 : GoodIn tT (wsV "DigestDeskLaw" 47 "DigestDesk" y_D_finish (k_D_finish :: tT)) := tT_V ml_L_47 im_D_finish sel_D_finish in_D cd_D_finish
theorem g_L_52 : GoodIn tT (wsV "DigestDeskLaw" 52 "DigestDesk" y_D_out (k_D_out :: tT)) := tT_V ml_L_52 im_D_out sel_D_out in_D cd_D_out
theorem g_L_57 : GoodIn tT (wsV "DigestDeskLaw" 57 "DigestDesk" y_D_outLen (k_D_outLen :: tT)) := tT_V ml_L_57 im_D_outLen sel_D_outLen in_D cd_D_outLen
theorem g_L_62 : GoodIn tT (wsV "DigestDeskLaw" 62 "DigestDesk" y_D_keyLen (k_D_keyLen :: tT)) := tT_V ml_L_62 im_D_keyLen sel_D_keyLen in_D cd_D_keyLen
theorem g_L_66 : GoodIn tT (wsV "DigestDeskLaw" 66 "DigestDesk" y_D_length (k_D_length :: tT)) := tT_V ml_L_66 im_D_length sel_D_length in_D cd_D_length
theorem g_L_9 : GoodIn tT (va_wsS "DigestDeskLaw" 9 y_L_cell (k_L_cell :: tT)) := tT_S ml_L_9 sm_L_cell in_L cd_L_cell
theorem g_M_44 : GoodIn tT (va_wsS "DigestDeskModel" 44 y_M_sine (k_M_sine :: tT)) := tT_S ml_M_44 sm_M_sine in_M cd_M_sine
theorem g_M_48 : GoodIn tT (va_wsS "DigestDeskModel" 48 y_M_size (k_M_size :: tT)) := tT_S ml_M_48 sm_M_size in_M cd_M_size
theorem g_M_56 : GoodIn tT (va_wsS "DigestDeskModel" 56 y_M_root (k_M_root :: tT)) := tT_S ml_M_56 sm_M_root in_M cd_M_root
theorem g_L_24 : GoodIn tT (wsV "DigestDeskLaw" 24 "DigestDeskModel" y_M_init (k_M_init :: tT)) := tT_V ml_L_24 im_M_init sel_M_init in_M cd_M_init
theorem g_L_29 : GoodIn tT (wsV "DigestDeskLaw" 29 "DigestDeskModel" y_M_start (k_M_start :: tT)) := tT_V ml_L_29 im_M_start sel_M_start in_M cd_M_start
theorem g_M_132 : GoodIn tT (wsV "DigestDeskModel" 132 "DigestDeskModel" y_M_begin (k_M_begin :: tT)) := tT_V ml_M_132 im_M_begin sel_M_begin in_M cd_M_begin
theorem g_L_33 : GoodIn tT (wsV "DigestDeskLaw" 33 "DigestDeskModel" y_M_keyByte (k_M_keyByte :: tT)) := tT_V ml_L_33 im_M_keyByte sel_M_keyByte in_M cd_M_keyByte
theorem g_L_37 : GoodIn tT (wsV "DigestDeskLaw" 37 "DigestDeskModel" y_M_startMac (k_M_startMac :: tT)) := tT_V ml_L_37 im_M_startMac sel_M_startMac in_M cd_M_startMac
theorem g_M_135 : GoodIn tT (wsV "DigestDeskModel" 135 "DigestDeskModel" y_M_start (k_M_start :: tT)) := tT_V ml_M_135 im_M_start sel_M_start in_M cd_M_start
theorem g_M_104 : GoodIn tT (wsV "DigestDeskModel" 104 "DigestDeskModel" y_M_add (k_M_add :: tT)) := tT_V ml_M_104 im_M_add sel_M_add in_M cd_M_add
theorem g_M_88 : GoodIn tT (wsV "DigestDeskModel" 88 "DigestDeskModel" y_M_five (k_M_five :: tT)) := tT_V ml_M_88 im_M_five sel_M_five in_M cd_M_five
theorem g_M_94 : GoodIn tT (va_wsS "DigestDeskModel" 94 y_M_turned (k_M_turned :: tT)) := tT_S ml_M_94 sm_M_turned in_M cd_M_turned
theorem g_M_98 : GoodIn tT (va_wsS "DigestDeskModel" 98 y_M_left (k_M_left :: tT)) := tT_S ml_M_98 sm_M_left in_M cd_M_left
theorem g_M_91 : GoodIn tT (wsV "DigestDeskModel" 91 "DigestDeskModel" y_M_one (k_M_one :: tT)) := tT_V ml_M_91 im_M_one sel_M_one in_M cd_M_one
theorem g_M_139 : GoodIn tT (wsV "DigestDeskModel" 139 "DigestDeskModel" y_M_end (k_M_end :: tT)) := tT_V ml_M_139 im_M_end sel_M_end in_M cd_M_end
theorem g_M_112 : GoodIn tT (wsV "DigestDeskModel" 112 "DigestDeskModel" y_M_width (k_M_width :: tT)) := tT_V ml_M_112 im_M_width sel_M_width in_M cd_M_width
theorem g_L_41 : GoodIn tT (wsV "DigestDeskLaw" 41 "DigestDeskModel" y_M_update (k_M_update :: tT)) := tT_V ml_L_41 im_M_update sel_M_update in_M cd_M_update
theorem g_L_46 : GoodIn tT (wsV "DigestDeskLaw" 46 "DigestDeskModel" y_M_pour (k_M_pour :: tT)) := tT_V ml_L_46 im_M_pour sel_M_pour in_M cd_M_pour
theorem g_L_51 : GoodIn tT (wsV "DigestDeskLaw" 51 "DigestDeskModel" y_M_finish (k_M_finish :: tT)) := tT_V ml_L_51 im_M_finish sel_M_finish in_M cd_M_finish
theorem g_L_56 : GoodIn tT (wsV "DigestDeskLaw" 56 "DigestDeskModel" y_M_out (k_M_out :: tT)) := tT_V ml_L_56 im_M_out sel_M_out in_M cd_M_out
theorem g_L_61 : GoodIn tT (wsV "DigestDeskLaw" 61 "DigestDeskModel" y_M_outLen (k_M_outLen :: tT)) := tT_V ml_L_61 im_M_outLen sel_M_outLen in_M cd_M_outLen
theorem g_L_65 : GoodIn tT (wsV "DigestDeskLaw" 65 "DigestDeskModel" y_M_keyLen (k_M_keyLen :: tT)) := tT_V ml_L_65 im_M_keyLen sel_M_keyLen in_M cd_M_keyLen
theorem g_L_70 : GoodIn tT (wsV "DigestDeskLaw" 70 "DigestDeskModel" y_M_length (k_M_length :: tT)) := tT_V ml_L_70 im_M_length sel_M_length in_M cd_M_length
-- the static tables that the desk reads
def xZ (n : String) (N : Nat) (f : Nat → Int32) (A : Nat → Prop) (U : State) (H : Heap) : Prop := ∃ t : Nat, va_Z R_D n "[I" (.ref t) A U H ∧ va_T .int t N (fun j => .int (f j)) A U H
def xST (A : Nat → Prop) (U : State) (H : Heap) : Prop := xZ "START" 5 startT A U H ∧ xZ "SINES" 64 sinesT A U H ∧ xZ "TURNS" 16 turnsT A U H ∧ xZ "ADDED" 4 addedT A U H
theorem xZ.step {n : String} {N : Nat} {f : Nat → Int32} {A B : Nat → Prop} {s U : State} {H : Heap} {locs : List Loc} (h : xZ n N f A s s.heap) (hS : va_S A s.heap H locs) (hAB : ∀ q, B q → A q) (hU : U.heap = H) (hvm : s.vm.Alike U.vm) : xZ n N f B U U.heap := by
  obtain ⟨t, h1, h2⟩ := h
  rw [hU]
  exact ⟨t, va_Z.moved hvm ((h1.kept hS.2.1).narrow hAB), va_T.moved hvm ((h2.kept hS.2.1).narrow hAB)⟩
theorem xST.step {A B : Nat → Prop} {s U : State} {H : Heap} {locs : List Loc} (h : xST A s s.heap) (hS : va_S A s.heap H locs) (hAB : ∀ q, B q → A q) (hU : U.heap = H) (hvm : s.vm.Alike U.vm) : xST B U U.heap :=
  ⟨h.1.step hS hAB hU hvm, h.2.1.step hS hAB hU hvm, h.2.2.1.step hS hAB hU hvm, h.2.2.2.step hS hAB hU hvm⟩
theorem xST.same {A : Nat → Prop} {U V : State} (h : xST A U U.heap) (hH : V.heap = U.heap) (hvm : U.vm.Alike V.vm) : xST A V V.heap := h.step (locs := []) va_S.rf (fun _ h => h) hH hvm
-- the worlds: the desk and its six arrays; the model and its nine
abbrev wD (cI cB : ClassId) (q : Nat → Nat) (L : Nat) (lim rdy kc alg : Int32) (cnt : Int64) (opn mac rl : Int32) (key st buf wds fil res : Nat → Int32) : va_W :=
  [(q 0, .inr (0, [.int lim, .int rdy, .ref (q 1), .int kc, .int alg, .ref (q 2), .ref (q 3), .ref (q 4), .long cnt, .int opn, .int mac, .ref (q 5), .ref (q 6), .int rl])),
   (q 1, .inl (cB, L, .inl key)), (q 2, .inl (cI, 5, .inl st)), (q 3, .inl (cB, 64, .inl buf)), (q 4, .inl (cI, 80, .inl wds)), (q 5, .inl (cB, 64, .inl fil)), (q 6, .inl (cB, 20, .inl res))]
abbrev wM (cI cB : ClassId) (r : Nat → Nat) (lim rdy ks opn mac : Int32) (byt : Int64) (hash : Int32) (came : Int64) (rs : Int32) (key pad h blk w sin rt dg res : Nat → Int32) : va_W :=
  [(r 0, .inr (1, [.int lim, .int rdy, .ref (r 1), .int ks, .int opn, .int mac, .long byt, .ref (r 2), .int hash, .ref (r 3), .ref (r 4), .long came, .ref (r 5), .ref (r 6), .ref (r 7), .ref (r 8), .ref (r 9), .int rs])),
   (r 1, .inl (cI, 300, .inl key)), (r 2, .inl (cI, 64, .inl pad)), (r 3, .inl (cI, 5, .inl h)), (r 4, .inl (cI, 64, .inl blk)), (r 5, .inl (cI, 80, .inl w)), (r 6, .inl (cI, 64, .inl sin)), (r 7, .inl (cI, 4, .inl rt)), (r 8, .inl (cI, 20, .inl dg)), (r 9, .inl (cI, 20, .inl res))]
abbrev tyD (cI cB : ClassId) : List (ClassId × FieldType) := [(cI, .int), (cB, .byte)]
/-- a method's start -/
def pD (D : va_G) (cI cB : ClassId) (sz : Nat) (ws : va_W) (U : State) : Prop := U.heap.size = sz ∧ va_P D classes ws U.heap ∧ va_K D classes (tyD cI cB) U ∧ va_D (fun _ => True) ws ∧ xST (va_A ws sz) U U.heap
/-- and the world behind it -/
def qD (D : va_G) (cI cB : ClassId) (A : Nat → Prop) (ws : va_W) (t : State) : Prop := va_P D classes ws t.heap ∧ va_K D classes (tyD cI cB) t ∧ va_D A ws
theorem pD.blind {D : va_G} {cI cB : ClassId} {sz : Nat} {ws : va_W} {av : List Value} : FrameBlind (va_Pc av (pD D cI cB sz ws)) := by
  intro a U g mk h
  obtain ⟨h0, h1, h2, h3, h4, h5⟩ := h
  exact ⟨h0, h1, h2, va_K.moved (u := U) (U := U.calling g mk a) (Vm.Alike.refl U.vm) h3, h4, h5.same rfl (Vm.Alike.refl U.vm)⟩
theorem fm_of {ws wc : va_W} {is : List Nat} (h : is.map (fun i => ws[i]?) = wc.map some) : is.filterMap (fun i => ws[i]?) = wc := by
  have h1 : is.filterMap (fun i => ws[i]?) = (is.map (fun i => ws[i]?)).filterMap id := by rw [List.filterMap_map]; rfl
  rw [h1, h, List.filterMap_map]
  show wc.filterMap (fun x => some x) = wc
  exact List.filterMap_some
theorem rg_all (ws : va_W) : (List.range ws.length).map (fun i => ws[i]?) = ws.map some := by
  apply List.ext_getElem?
  intro i
  by_cases h : i < ws.length
  · simp [h]
  · simp [Nat.not_lt.mp h]
section XC
variable {p : Program} {l : Launch} {e : Env} {R : Room} {s : State} {m : MethodId} {args : Array Value} {below : List Frame} {meth : Method} {c : Code} {H : Heap} {locs : List Loc} {cells slots : Nat} {Q : State → Prop}
variable {cc : ByteArray} {pc nL maxL n index ci N : Nat} {ls : Array Slot} {rest As st0 : List Value} {D : va_G} {cI cB : ClassId} {A : Nat → Prop} {ws wc wr : va_W} {y : MethodName} {bytes : ByteArray} {ret : Option FieldType} {rm : Room} {own C : String} {b : Nat} {k0 : Cond} {T : u_T} {fs : List Value} {S : Type} {wf : S → va_W}
theorem kpre (hK : va_K D classes (tyD cI cB) s) (hP : va_P D classes wc H) (hDc : va_D A wc) (hS : va_S A s.heap H locs) (hF : ∀ q, va_A wc H.size q → A q) (hST : xST A s s.heap) (hc : classes[ci]? = some (C, T, N)) (he : wc[0]? = some (b, .inr (ci, fs))) : PreV s H C b (va_Pc (.ref b :: As) (pD D cI cB H.size wc)) As :=
  ⟨pD.blind, va_recv hK hP hc he, fun U hU hW => ⟨rfl, by rw [hU], by rw [hU]; exact hP, va_K.moved hW.alike hK, hDc.weaken (fun _ _ _ _ => trivial), hST.step hS hF hU hW.alike⟩⟩
theorem kvG {post : S → Prop} (Sx : CallFix p m c cc nL s args tT own) (hM : Met l y (k0 :: tT) rm (va_Pc (.ref b :: As) (pD D cI cB H.size wc)) (va_Qv post (fun u t => qD D cI cB (va_A wc H.size) (wf u) t) (va_A wc H.size)) 0 0 (va_A wc H.size))
    (cw : CallW R s args own C index y bytes maxL ret (k0 :: tT) rm 0 0 n) (hK : va_K D classes (tyD cI cB) s) (hP : va_P D classes ws H) (hD : va_D A ws) (hS : va_S A s.heap H locs) (hA : ∀ q, s.heap.size ≤ q → A q) (hST : xST A s s.heap)
    (isC isR : List Nat) (hC : isC.map (fun i => ws[i]?) = wc.map some) (hR : isR.map (fun i => ws[i]?) = wr.map some) (hnC : va_nd isC = true) (hn2 : va_nd isR = true) (hdis : ∀ i ∈ isR, i ∉ isC)
    (hc : classes[ci]? = some (C, T, N)) (he : wc[0]? = some (b, .inr (ci, fs))) (hn : As.length = n) (hsz : ls.size = nL) (hst : st0 = As.reverse ++ .ref b :: rest) (hW : (rest.map fun v => v.category).sum ≤ 8) (hdg : decode cc pc = .ok (.invokevirtual index, 3)) (hf : cells ≤ R.cells ∧ slots ≤ R.slots)
    (kk : ∀ (u : S) (H1 : Heap) (locs1 : List Loc), post u → va_P D classes (wr ++ wf u) H1 → va_D A (wr ++ wf u) → va_S A s.heap H1 locs1 → W p l e R s m args below meth c H1 locs1 cells slots Q (F0 m (pc + 3) ls rest)) : W p l e R s m args below meth c H locs cells slots Q (F0 m pc ls st0) := by
  have hF := va_free hD hS hA isC hC
  refine va_callv (va_runV (As := As) (rest := rest) (g := F0 m pc ls st0) Sx hM cw (kpre hK (hP.sub isC (fm_of hC)) (hD.sub isC hnC hC) hS hF hST hc he) rfl hn hsz hst (lv_room hW) hdg hf) hS (fun q _ h => hF q h) hF (fun u t H1 locs1 ht hvm hw hB hz1 hk1 hS1 => ?_)
  obtain ⟨hP1, hK1, hD1⟩ := hB
  rw [ht] at hP1
  obtain ⟨hP2, hD2⟩ := va_join (wr := wr) (w1 := wf u) hP hD isC isR hC hR hn2 hdis hk1 hF hP1 hD1
  exact kk u H1 locs1 hw hP2 hD2 hS1
theorem kiG {post : Int32 → S → Prop} (Sx : CallFix p m c cc nL s args tT own) (hM : Met l y (k0 :: tT) rm (va_Pc (.ref b :: As) (pD D cI cB H.size wc)) (va_Qi post (fun u t => qD D cI cB (va_A wc H.size) (wf u) t) (va_A wc H.size)) 0 0 (va_A wc H.size))
    (cw : CallW R s args own C index y bytes maxL ret (k0 :: tT) rm 0 0 n) (hK : va_K D classes (tyD cI cB) s) (hP : va_P D classes ws H) (hD : va_D A ws) (hS : va_S A s.heap H locs) (hA : ∀ q, s.heap.size ≤ q → A q) (hST : xST A s s.heap)
    (isC isR : List Nat) (hC : isC.map (fun i => ws[i]?) = wc.map some) (hR : isR.map (fun i => ws[i]?) = wr.map some) (hnC : va_nd isC = true) (hn2 : va_nd isR = true) (hdis : ∀ i ∈ isR, i ∉ isC)
    (hc : classes[ci]? = some (C, T, N)) (he : wc[0]? = some (b, .inr (ci, fs))) (hn : As.length = n) (hsz : ls.size = nL) (hst : st0 = As.reverse ++ .ref b :: rest) (hW : (rest.map fun v => v.category).sum ≤ 8) (hdg : decode cc pc = .ok (.invokevirtual index, 3)) (hf : cells ≤ R.cells ∧ slots ≤ R.slots)
    (kk : ∀ (r : Int32) (u : S) (H1 : Heap) (locs1 : List Loc), post r u → va_P D classes (wr ++ wf u) H1 → va_D A (wr ++ wf u) → va_S A s.heap H1 locs1 → W p l e R s m args below meth c H1 locs1 cells slots Q (F0 m (pc + 3) ls (.int r :: rest))) : W p l e R s m args below meth c H locs cells slots Q (F0 m pc ls st0) := by
  have hF := va_free hD hS hA isC hC
  refine va_calli (va_runV (As := As) (rest := rest) (g := F0 m pc ls st0) Sx hM cw (kpre hK (hP.sub isC (fm_of hC)) (hD.sub isC hnC hC) hS hF hST hc he) rfl hn hsz hst (lv_room hW) hdg hf) hS (fun q _ h => hF q h) hF (fun r u t H1 locs1 ht hvm hw hB hz1 hk1 hS1 => ?_)
  obtain ⟨hP1, hK1, hD1⟩ := hB
  rw [ht] at hP1
  obtain ⟨hP2, hD2⟩ := va_join (wr := wr) (w1 := wf u) hP hD isC isR hC hR hn2 hdis hk1 hF hP1 hD1
  exact kk r u H1 locs1 hw hP2 hD2 hS1
theorem klG {post : Int64 → S → Prop} (Sx : CallFix p m c cc nL s args tT own) (hM : Met l y (k0 :: tT) rm (va_Pc (.ref b :: As) (pD D cI cB H.size wc)) (va_Ql post (fun u t => qD D cI cB (va_A wc H.size) (wf u) t) (va_A wc H.size)) 0 0 (va_A wc H.size))
    (cw : CallW R s args own C index y bytes maxL ret (k0 :: tT) rm 0 0 n) (hK : va_K D classes (tyD cI cB) s) (hP : va_P D classes ws H) (hD : va_D A ws) (hS : va_S A s.heap H locs) (hA : ∀ q, s.heap.size ≤ q → A q) (hST : xST A s s.heap)
    (isC isR : List Nat) (hC : isC.map (fun i => ws[i]?) = wc.map some) (hR : isR.map (fun i => ws[i]?) = wr.map some) (hnC : va_nd isC = true) (hn2 : va_nd isR = true) (hdis : ∀ i ∈ isR, i ∉ isC)
    (hc : classes[ci]? = some (C, T, N)) (he : wc[0]? = some (b, .inr (ci, fs))) (hn : As.length = n) (hsz : ls.size = nL) (hst : st0 = As.reverse ++ .ref b :: rest) (hW : (rest.map fun v => v.category).sum ≤ 8) (hdg : decode cc pc = .ok (.invokevirtual index, 3)) (hf : cells ≤ R.cells ∧ slots ≤ R.slots)
    (kk : ∀ (r : Int64) (u : S) (H1 : Heap) (locs1 : List Loc), post r u → va_P D classes (wr ++ wf u) H1 → va_D A (wr ++ wf u) → va_S A s.heap H1 locs1 → W p l e R s m args below meth c H1 locs1 cells slots Q (F0 m (pc + 3) ls (.long r :: rest))) : W p l e R s m args below meth c H locs cells slots Q (F0 m pc ls st0) := by
  have hF := va_free hD hS hA isC hC
  refine va_calll (va_runV (As := As) (rest := rest) (g := F0 m pc ls st0) Sx hM cw (kpre hK (hP.sub isC (fm_of hC)) (hD.sub isC hnC hC) hS hF hST hc he) rfl hn hsz hst (lv_room hW) hdg hf) hS (fun q _ h => hF q h) hF (fun r u t H1 locs1 ht hvm hw hB hz1 hk1 hS1 => ?_)
  obtain ⟨hP1, hK1, hD1⟩ := hB
  rw [ht] at hP1
  obtain ⟨hP2, hD2⟩ := va_join (wr := wr) (w1 := wf u) hP hD isC isR hC hR hn2 hdis hk1 hF hP1 hD1
  exact kk r u H1 locs1 hw hP2 hD2 hS1
/-- a static method that touches nothing -/
theorem sPre {av : List Value} : PreS s H (va_Pc av (fun _ => True)) av := ⟨fun _ _ _ _ h => h, fun _ _ _ => ⟨rfl, trivial⟩⟩
theorem ksi {post : Int32 → Prop} (Sx : CallFix p m c cc nL s args tT own) (hM : Met l y (k0 :: tT) rm (va_Pc As (fun _ => True)) (vp_Si post) 0 0 (fun _ => False)) (cw : CallB R s args own index y bytes maxL ret (k0 :: tT) rm 0 0 n ∧ (Cond.static y).before args s = true)
    (hn : As.length = n) (hsz : ls.size = nL) (hst : st0 = As.reverse ++ rest) (hW : (rest.map fun v => v.category).sum ≤ 8) (hdg : decode cc pc = .ok (.invokestatic index, 3)) (hf : cells ≤ R.cells ∧ slots ≤ R.slots)
    (kk : ∀ r : Int32, post r → W p l e R s m args below meth c H locs cells slots Q (F0 m (pc + 3) ls (.int r :: rest))) : W p l e R s m args below meth c H locs cells slots Q (F0 m pc ls st0) :=
  vp_callSi (W.runS (As := As) (rest := rest) (g := F0 m pc ls st0) Sx hM cw sPre rfl hn hsz hst (lv_room hW) hdg hf) kk
theorem ksd {post : UInt64 → Prop} (Sx : CallFix p m c cc nL s args tT own) (hM : Met l y (k0 :: tT) rm (va_Pc As (fun _ => True)) (vp_Sd post) 0 0 (fun _ => False)) (cw : CallB R s args own index y bytes maxL ret (k0 :: tT) rm 0 0 n ∧ (Cond.static y).before args s = true)
    (hn : As.length = n) (hsz : ls.size = nL) (hst : st0 = As.reverse ++ rest) (hW : (rest.map fun v => v.category).sum ≤ 8) (hdg : decode cc pc = .ok (.invokestatic index, 3)) (hf : cells ≤ R.cells ∧ slots ≤ R.slots)
    (kk : ∀ r : UInt64, post r → W p l e R s m args below meth c H locs cells slots Q (F0 m (pc + 3) ls (.double r :: rest))) : W p l e R s m args below meth c H locs cells slots Q (F0 m pc ls st0) :=
  vp_callSd (W.runS (As := As) (rest := rest) (g := F0 m pc ls st0) Sx hM cw sPre rfl hn hsz hst (lv_room hW) hdg hf) kk
end XC
end
section
def bt (x : Int32) (i : Nat) : Bool := x.toBitVec.getLsbD i
theorem b_ext {x y : Int32} (h : ∀ i, i < 32 → bt x i = bt y i) : x = y := Int32.toBitVec_inj.mp (BitVec.eq_of_getLsbD_eq (fun i hi => h i hi))
theorem b_or (x y : Int32) (i : Nat) : bt (x ||| y) i = (bt x i || bt y i) := by unfold bt; rw [Int32.toBitVec_or, BitVec.getLsbD_or]
theorem b_and (x y : Int32) (i : Nat) : bt (x &&& y) i = (bt x i && bt y i) := by unfold bt; rw [Int32.toBitVec_and, BitVec.getLsbD_and]
theorem b_xor (x y : Int32) (i : Nat) : bt (x ^^^ y) i = (bt x i ^^ bt y i) := by unfold bt; rw [Int32.toBitVec_xor, BitVec.getLsbD_xor]
theorem b_big {x : Int32} {i : Nat} (h : 32 ≤ i) : bt x i = false := BitVec.getLsbD_of_ge _ _ h
theorem b_255 (i : Nat) : bt 255 i = decide (i < 8) := by
  rcases Nat.lt_or_ge i 32 with h | h
  · exact (by decide +kernel : ∀ i, i < 32 → bt 255 i = decide (i < 8)) i h
  · rw [b_big h, decide_eq_false (by omega)]
theorem b_65535 (i : Nat) : bt 65535 i = decide (i < 16) := by
  rcases Nat.lt_or_ge i 32 with h | h
  · exact (by decide +kernel : ∀ i, i < 32 → bt 65535 i = decide (i < 16)) i h
  · rw [b_big h, decide_eq_false (by omega)]
theorem b_m1 : ∀ i, i < 32 → bt (-1) i = true := by decide +kernel
theorem b_0 (i : Nat) : bt 0 i = false := BitVec.getLsbD_zero
theorem s_l : ∀ n, n < 32 → ((nI n &&& 31).toBitVec.smod 32).toNat = n := by decide +kernel
theorem s_u : ∀ n, n < 32 → (((nI n).toUInt32 &&& Int32.toUInt32 31).toBitVec % 32).toNat = n := by decide +kernel
theorem b_shl (n : Nat) (hn : n < 32) (x : Int32) {i : Nat} (hi : i < 32) : bt (x <<< (nI n &&& 31)) i = (decide (n ≤ i) && bt x (i - n)) := by
  unfold bt
  rw [Int32.toBitVec_shiftLeft]
  show (x.toBitVec <<< ((nI n &&& 31).toBitVec.smod 32).toNat).getLsbD i = _
  rw [s_l n hn, BitVec.getLsbD_shiftLeft]
  rcases Nat.lt_or_ge i n with h | h
  · simp [h, Nat.not_le.mpr h]
  · simp [hi, h, Nat.not_lt.mpr h]
theorem b_ushr (n : Nat) (hn : n < 32) (x : Int32) (i : Nat) : bt ((x.toUInt32 >>> ((nI n).toUInt32 &&& Int32.toUInt32 31)).toInt32) i = bt x (n + i) := by
  show (x.toUInt32 >>> ((nI n).toUInt32 &&& Int32.toUInt32 31)).toBitVec.getLsbD i = x.toUInt32.toBitVec.getLsbD (n + i)
  rw [UInt32.toBitVec_shiftRight]
  show (x.toUInt32.toBitVec >>> (((nI n).toUInt32 &&& Int32.toUInt32 31).toBitVec % 32).toNat).getLsbD i = _
  rw [s_u n hn, BitVec.getLsbD_ushiftRight]
theorem b_sshr (n : Nat) (hn : n < 32) (x : Int32) {i : Nat} (hi : i < 32) : bt (x >>> (nI n &&& 31)) i = if n + i < 32 then bt x (n + i) else bt x 31 := by
  unfold bt
  rw [Int32.toBitVec_shiftRight]
  show (x.toBitVec.sshiftRight ((nI n &&& 31).toBitVec.smod 32).toNat).getLsbD i = _
  rw [s_l n hn, BitVec.getLsbD_sshiftRight, BitVec.msb_eq_getLsbD_last]
  simp [hi]
theorem bp_b (x : Int32) : x.toInt8.toInt32 &&& 255 = x &&& 255 := by
  apply Int32.toBitVec_inj.mp
  rw [Int32.toBitVec_and, Int32.toBitVec_and, Int8.toBitVec_toInt32, Int32.toBitVec_toInt8]
  apply BitVec.eq_of_getLsbD_eq
  intro i hi
  rw [BitVec.getLsbD_and, BitVec.getLsbD_and]
  have hm : ∀ i < 32, 8 ≤ i → (255 : Int32).toBitVec.getLsbD i = false := by decide
  rcases Nat.lt_or_ge i 8 with z | z
  · rw [BitVec.getLsbD_signExtend, BitVec.getLsbD_signExtend, if_pos z, if_pos hi]
    simp only [z, hi, decide_true, Bool.true_and]
  · rw [hm i hi z]; simp
end
section
-- the hashes as mathematics: words are Int32, a row of words is a function
def rotl (x n : Int32) : Int32 := (x <<< (n &&& 31)) ||| (x.toUInt32 >>> ((-n).toUInt32 &&& Int32.toUInt32 31)).toInt32
def choo (x y z : Int32) : Int32 := (x &&& y) ||| ((x ^^^ (-1)) &&& z)
def ad (f : Nat → Int32) (i : Nat) (x : Int32) : Nat → Int32 := upd f i (f i + x)
abbrev Q4 : Type := Int32 × Int32 × Int32 × Int32
abbrev Q5 : Type := Int32 × Int32 × Int32 × Int32 × Int32
def m5f (k : Nat) (b c d : Int32) : Int32 := if k / 16 = 0 then choo b c d else if k / 16 = 1 then choo d b c else if k / 16 = 2 then (b ^^^ c) ^^^ d else c ^^^ (b ||| (d ^^^ (-1)))
def m5g (k : Nat) : Nat := if k / 16 = 0 then k else if k / 16 = 1 then 5 * k + 1 else if k / 16 = 2 then 3 * k + 5 else 7 * k
def m5t (k : Nat) : Nat := 4 * (k / 16) + k % 4
def m5step (w : Nat → Int32) (k : Nat) (q : Q4) : Q4 := (q.2.2.2, q.2.1 + rotl (q.1 + m5f k q.2.1 q.2.2.1 q.2.2.2 + sinesT k + w (m5g k % 16)) (turnsT (m5t k)), q.2.1, q.2.2.1)
def m5run (w : Nat → Int32) (q : Q4) : Nat → Q4
  | 0 => q
  | k + 1 => m5step w k (m5run w q k)
def m5fin (st : Nat → Int32) (q : Q4) : Nat → Int32 := ad (ad (ad (ad st 0 q.1) 1 q.2.1) 2 q.2.2.1) 3 q.2.2.2
def m5mix (st w : Nat → Int32) : Nat → Int32 := m5fin st (m5run w (st 0, st 1, st 2, st 3) 64)
def s1f (k : Nat) (b c d : Int32) : Int32 := if k / 20 = 0 then choo b c d else if k / 20 = 2 then ((b &&& c) ||| (b &&& d)) ||| (c &&& d) else (b ^^^ c) ^^^ d
def s1step (w : Nat → Int32) (k : Nat) (q : Q5) : Q5 := (rotl q.1 (nI 5) + s1f k q.2.1 q.2.2.1 q.2.2.2.1 + q.2.2.2.2 + addedT (k / 20) + w k, q.1, rotl q.2.1 (nI 30), q.2.2.1, q.2.2.2.1)
def s1run (w : Nat → Int32) (q : Q5) : Nat → Q5
  | 0 => q
  | k + 1 => s1step w k (s1run w q k)
def s1e (f : Nat → Int32) (k : Nat) : Nat → Int32 := upd f k (rotl (((f (k - 3) ^^^ f (k - 8)) ^^^ f (k - 14)) ^^^ f (k - 16)) (nI 1))
def s1xs (w : Nat → Int32) : Nat → (Nat → Int32)
  | 0 => w
  | n + 1 => s1e (s1xs w n) (16 + n)
def s1fin (st : Nat → Int32) (q : Q5) : Nat → Int32 := ad (ad (ad (ad (ad st 0 q.1) 1 q.2.1) 2 q.2.2.1) 3 q.2.2.2.1) 4 q.2.2.2.2
def s1mix (st w : Nat → Int32) : Nat → Int32 := s1fin st (s1run w (st 0, st 1, st 2, st 3, st 4) 80)
def wof (alg : Int32) (b : Nat → Int32) (k : Nat) : Int32 :=
  if alg = 0 then ((b (4 * k) ||| (b (4 * k + 1) <<< (nI 8 &&& 31))) ||| (b (4 * k + 2) <<< (nI 16 &&& 31))) ||| (b (4 * k + 3) <<< (nI 24 &&& 31))
  else (((b (4 * k) <<< (nI 24 &&& 31)) ||| (b (4 * k + 1) <<< (nI 16 &&& 31))) ||| (b (4 * k + 2) <<< (nI 8 &&& 31))) ||| b (4 * k + 3)
def wsh (alg : Int32) (i : Nat) : Nat := if alg = 0 then 8 * i else 24 - 8 * i
def wp (alg : Int32) (b : Nat → Int32) (k : Nat) : Nat → Int32
  | 0 => nI 0
  | i + 1 => wp alg b k i ||| (b (4 * k + i) <<< (nI (wsh alg i) &&& 31))
def comp (alg : Int32) (st b : Nat → Int32) : Nat → Int32 := if alg = 0 then m5mix st (wof alg b) else s1mix st (s1xs (wof alg b) 64)
abbrev HS : Type := (Nat → Int32) × (Nat → Int32) × Nat
def hput (alg b : Int32) (h : HS) : HS := (if h.2.2 % 64 = 63 then comp alg h.1 (upd h.2.1 (h.2.2 % 64) b) else h.1, upd h.2.1 (h.2.2 % 64) b, h.2.2 + 1)
def hputs (alg : Int32) (f : Nat → Int32) (h : HS) : Nat → HS
  | 0 => h
  | k + 1 => hput alg (f k) (hputs alg f h k)
def hzn (n : Nat) : Nat := (120 - n % 64) % 64
def bsh (alg : Int32) (k : Nat) : Nat := if alg = 0 then 8 * k else 56 - 8 * k
def bitb (alg : Int32) (n k : Nat) : Int32 := (lN (8 * n) >>> ((nI (bsh alg k)).toInt64 &&& 63)).toInt32 &&& nI 255
def hend1 (alg : Int32) (h : HS) : HS := hput alg (nI 128) h
def hend2 (alg : Int32) (h : HS) : HS := hputs alg (fun _ => nI 0) (hend1 alg h) (hzn (h.2.2 + 1))
def hend (alg : Int32) (h : HS) : HS := hputs alg (bitb alg h.2.2) (hend2 alg h) 8
def dsh (alg : Int32) (k : Nat) : Nat := if alg = 0 then 8 * (k % 4) else 24 - 8 * (k % 4)
def hdig (alg : Int32) (st : Nat → Int32) (k : Nat) : Int32 := ((st (k / 4)).toUInt32 >>> ((nI (dsh alg k)).toUInt32 &&& Int32.toUInt32 31)).toInt32 &&& nI 255
def digU (alg : Int32) (st dg : Nat → Int32) : Nat → (Nat → Int32)
  | 0 => dg
  | k + 1 => upd (digU alg st dg k) k (hdig alg st k)
def hlen (alg : Int32) : Nat := if alg = 0 then 16 else 20
def hini (st : Nat → Int32) : Nat → Int32 := upd (upd (upd (upd (upd st 0 (startT 0)) 1 (startT 1)) 2 (startT 2)) 3 (startT 3)) 4 (startT 4)
/-- rows of bytes, with and without sign -/
def R8 (f g : Nat → Int32) : Prop := ∀ k, f k &&& nI 255 = g k
theorem upd_s (f : Nat → Int32) (k : Nat) (x : Int32) : upd f k x k = x := by simp [upd]
theorem upd_n (f : Nat → Int32) {k j : Nat} (x : Int32) (h : j ≠ k) : upd f k x j = f j := by simp [upd, h]
theorem b8 (x : Int32) : x.toInt8.toInt32 &&& nI 255 = x &&& nI 255 := bp_b x
theorem R8.set {f g : Nat → Int32} (h : R8 f g) (i : Nat) {x y : Int32} (e : x &&& nI 255 = y) : R8 (upd f i x) (upd g i y) := by
  intro k
  by_cases hk : k = i
  · subst hk; rw [upd_s, upd_s, e]
  · rw [upd_n _ _ hk, upd_n _ _ hk]; exact h k
theorem R8.byte {f g : Nat → Int32} (h : R8 f g) (i : Nat) (x : Int32) : R8 (upd f i x.toInt8.toInt32) (upd g i (x &&& nI 255)) := h.set i (b8 x)
theorem hputs_n (alg : Int32) (f : Nat → Int32) (h : HS) : ∀ k, (hputs alg f h k).2.2 = h.2.2 + k
  | 0 => rfl
  | k + 1 => by
    show (hputs alg f h k).2.2 + 1 = _
    rw [hputs_n alg f h k]; omega
theorem hend_n (alg : Int32) (h : HS) : (hend alg h).2.2 = h.2.2 + 1 + hzn (h.2.2 + 1) + 8 := by
  unfold hend hend2 hend1
  rw [hputs_n, hputs_n]; rfl
theorem hzn_le (n : Nat) : hzn n < 64 := by unfold hzn; omega
theorem m5g_lt {k : Nat} (h : k < 64) : m5g k < 1000 := by unfold m5g; split; omega; split; omega; split <;> omega
theorem m5t_lt {k : Nat} (h : k < 64) : m5t k < 16 := by unfold m5t; omega
theorem m5run_congr {w w' : Nat → Int32} (h : ∀ j, j < 16 → w j = w' j) (q : Q4) : ∀ k, m5run w q k = m5run w' q k
  | 0 => rfl
  | k + 1 => by
    show m5step w k (m5run w q k) = m5step w' k (m5run w' q k)
    rw [m5run_congr h q k]
    unfold m5step
    rw [h (m5g k % 16) (Nat.mod_lt _ (by decide))]
theorem m5mix_congr {w w' : Nat → Int32} (h : ∀ j, j < 16 → w j = w' j) (st : Nat → Int32) : m5mix st w = m5mix st w' := by
  unfold m5mix; rw [m5run_congr h]
theorem s1xs_congr {w w' : Nat → Int32} (h : ∀ j, j < 16 → w j = w' j) : ∀ n, ∀ j, j < 16 + n → s1xs w n j = s1xs w' n j
  | 0 => h
  | n + 1 => by
    intro j hj
    show s1e (s1xs w n) (16 + n) j = s1e (s1xs w' n) (16 + n) j
    have ih := s1xs_congr h n
    unfold s1e
    rw [ih (16 + n - 3) (by omega), ih (16 + n - 8) (by omega), ih (16 + n - 14) (by omega), ih (16 + n - 16) (by omega)]
    by_cases hk : j = 16 + n
    · rw [hk, upd_s, upd_s]
    · rw [upd_n _ _ hk, upd_n _ _ hk]; exact ih j (by omega)
theorem s1run_congr {w w' : Nat → Int32} (h : ∀ j, j < 80 → w j = w' j) (q : Q5) : ∀ k, k ≤ 80 → s1run w q k = s1run w' q k
  | 0, _ => rfl
  | k + 1, hk => by
    show s1step w k (s1run w q k) = s1step w' k (s1run w' q k)
    rw [s1run_congr h q k (by omega)]
    unfold s1step
    rw [h k (by omega)]
theorem s1mix_congr {w w' : Nat → Int32} (h : ∀ j, j < 80 → w j = w' j) (st : Nat → Int32) : s1mix st w = s1mix st w' := by
  unfold s1mix; rw [s1run_congr h _ 80 (Nat.le_refl _)]
theorem i_or0 (x : Int32) : nI 0 ||| x = x := by
  apply Int32.toBitVec_inj.mp
  show 0#32 ||| x.toBitVec = x.toBitVec
  simp
theorem i_shl0 (x : Int32) : x <<< (nI 0 &&& 31) = x := sb_shl0 x
theorem wp_wof (alg : Int32) (b : Nat → Int32) (k : Nat) : wp alg b k 4 = wof alg b k := by
  unfold wof
  show ((((nI 0 ||| _) ||| _) ||| _) ||| _) = _
  unfold wsh
  by_cases h : alg = 0
  · simp only [h, if_true]
    rw [i_or0, show 8 * 0 = 0 from rfl, i_shl0, Nat.add_zero]
  · simp only [h, if_false]
    rw [i_or0, show 24 - 8 * 3 = 0 from rfl, i_shl0, Nat.add_zero]
theorem choo_eq (x y z : Int32) : choo x y z = (x &&& y) ||| ((x ^^^ (-1)) &&& z) := rfl
theorem hini_hini (st : Nat → Int32) : hini (hini st) = hini st := by
  funext j
  unfold hini upd
  by_cases h4 : j = 4
  · simp [h4]
  · by_cases h3 : j = 3
    · simp [h3]
    · by_cases h2 : j = 2
      · simp [h2]
      · by_cases h1 : j = 1
        · simp [h1]
        · by_cases h0 : j = 0
          · simp [h0]
          · simp [h4, h3, h2, h1, h0]
theorem hini_cpy (st : Nat → Int32) : va_cpy startT st 0 0 5 = hini st := by
  funext j
  unfold hini upd va_cpy
  by_cases h4 : j = 4
  · simp [h4]
  · by_cases h3 : j = 3
    · simp [h3]
    · by_cases h2 : j = 2
      · simp [h2]
      · by_cases h1 : j = 1
        · simp [h1]
        · by_cases h0 : j = 0
          · simp [h0]
          · rw [if_neg (by omega)]
            simp [h4, h3, h2, h1, h0]
theorem bn255 (i : Nat) : bt (nI 255) i = decide (i < 8) := b_255 i
theorem sh8 (x : Int32) (n : Nat) (hn : n ≤ 24) : (x >>> (nI n &&& 31)) &&& nI 255 = (x.toUInt32 >>> ((nI n).toUInt32 &&& Int32.toUInt32 31)).toInt32 &&& nI 255 := by
  apply b_ext
  intro i hi
  rw [b_and, b_and, bn255]
  by_cases h : i < 8
  · rw [b_sshr n (by omega) x hi, b_ushr n (by omega) x i, if_pos (by omega)]
  · simp [h]
theorem and255 (x : Int32) : (x &&& nI 255) &&& nI 255 = x &&& nI 255 := by
  apply b_ext
  intro i hi
  rw [b_and, b_and]
  cases bt x i <;> cases bt (nI 255) i <;> rfl
theorem xor8 (x c : Int32) (hc : c &&& nI 255 = c) : (x ^^^ c) &&& nI 255 = (x &&& nI 255) ^^^ c := by
  apply b_ext
  intro i hi
  have h := congrArg (fun z => bt z i) hc
  simp only [b_and] at h
  rw [b_and, b_xor, b_xor, b_and]
  revert h
  cases bt x i <;> cases bt c i <;> cases bt (nI 255) i <;> simp
theorem l255 (x : Int64) : (x &&& lN 255).toInt32 = x.toInt32 &&& nI 255 := by
  apply Int32.toBitVec_inj.mp
  rw [Int32.toBitVec_and, Int64.toBitVec_toInt32, Int64.toBitVec_toInt32, Int64.toBitVec_and, BitVec.signExtend_and]
  rfl
theorem byte_in {x : Int32} (h0 : ¬ x < 0) (h1 : ¬ nI 255 < x) : x &&& nI 255 = x := by
  obtain ⟨j, hj, rfl⟩ := nI_of h0
  have h2 : j ≤ 255 := Nat.not_lt.mp (fun z => h1 ((nI_ltI (by decide) hj).mpr z))
  have h3 : ∀ j, j < 256 → nI j &&& nI 255 = nI j := by decide +kernel
  exact h3 j (by omega)
theorem hdig255 (alg : Int32) (st : Nat → Int32) (k : Nat) : hdig alg st k &&& nI 255 = hdig alg st k := and255 _
theorem dsh_le (alg : Int32) (k : Nat) : dsh alg k ≤ 24 := by unfold dsh; split <;> omega
end
section
set_option maxHeartbeats 4000000 in
set_option maxRecDepth 100000 in
theorem c_D_choose (l : Launch) (x y z : Int32)  : Met l y_D_choose (k_D_choose :: tT) ({ frames := 0, cells := 0, slots := 0, locals := 0 }) (va_Pc [.int x, .int y, .int z] (fun _ => True)) (vp_Si (fun rr : Int32 => rr = choo x y z)) 0 0 (fun _ => False) := by
  refine Met.ofW (cc := b_D_choose) (maxL := 3) (ret := (some .int)) (by decide) rfl ?_
  intro p e s m args below meth c s₁ B hml hv
  obtain ⟨rfl, -⟩ := hv
  have hx := B.exec
  have hb := B.bytes
  have hr := B.returns
  have hts : ∀ w ∈ tT, w.before _ s = true := fun w h => atoms_spec (ws := k_D_choose :: tT) B.pre w (List.mem_cons_of_mem _ h)
  have hown : s.vm.findClass "DigestDesk" = some m.cls := findClass_of_methodNamed B.named
  have hlocks := B.notSynchronized
  have hl := lv_entry ([.int x, .int y, .int z]) (n := 3) (Nat.le_of_ble_eq_true rfl)
  rw [lg_entry_eq]
  generalize (lg_sl ([.int x, .int y, .int z]) ++ List.replicate (3 - (lg_sl ([.int x, .int y, .int z])).length) Slot.unset).toArray = ls at hl ⊢
  have hl : lv_has ls 3 [(0, .int x), (1, .int y), (2, .int z)] := hl
  refine lv_iload_n (pc := 0) hx hb d_D_choose_0 rfl (lv_at hl 0 rfl) ?_
  refine lv_iload_n (pc := 1) hx hb d_D_choose_1 rfl (lv_at hl 1 rfl) ?_
  refine lv_iand (pc := 2) hx hb d_D_choose_2 ?_
  refine lv_iload_n (pc := 3) hx hb d_D_choose_3 rfl (lv_at hl 0 rfl) ?_
  refine lv_iconst (pc := 4) (v := (-1)) hx hb d_D_choose_4 (by decide) ?_
  refine lv_ixor (pc := 5) hx hb d_D_choose_5 ?_
  refine lv_iload_n (pc := 6) hx hb d_D_choose_6 rfl (lv_at hl 2 rfl) ?_
  refine lv_iand (pc := 7) hx hb d_D_choose_7 ?_
  refine lv_ior (pc := 8) hx hb d_D_choose_8 ?_
  exact W.iret (v := ((x &&& y) ||| ((x ^^^ (-1)) &&& z))) hx hb hr (fun t ht hW => ⟨((x &&& y) ||| ((x ^^^ (-1)) &&& z)), rfl, rfl, ht⟩) (fun q h => by cases h) d_D_choose_9
set_option maxHeartbeats 4000000 in
set_option maxRecDepth 100000 in
theorem c_J_rotateLeft (l : Launch) (x y : Int32)  : Met l y_J_rotateLeft (k_J_rotateLeft :: tT) ({ frames := 0, cells := 0, slots := 0, locals := 0 }) (va_Pc [.int x, .int y] (fun _ => True)) (vp_Si (fun rr : Int32 => rr = rotl x y)) 0 0 (fun _ => False) := by
  refine Met.ofW (cc := b_J_rotateLeft) (maxL := 2) (ret := (some .int)) (by decide) rfl ?_
  intro p e s m args below meth c s₁ B hml hv
  obtain ⟨rfl, -⟩ := hv
  have hx := B.exec
  have hb := B.bytes
  have hr := B.returns
  have hts : ∀ w ∈ tT, w.before _ s = true := fun w h => atoms_spec (ws := k_J_rotateLeft :: tT) B.pre w (List.mem_cons_of_mem _ h)
  have hown : s.vm.findClass "java/lang/Integer" = some m.cls := findClass_of_methodNamed B.named
  have hlocks := B.notSynchronized
  have hl := lv_entry ([.int x, .int y]) (n := 2) (Nat.le_of_ble_eq_true rfl)
  rw [lg_entry_eq]
  generalize (lg_sl ([.int x, .int y]) ++ List.replicate (2 - (lg_sl ([.int x, .int y])).length) Slot.unset).toArray = ls at hl ⊢
  have hl : lv_has ls 2 [(0, .int x), (1, .int y)] := hl
  refine lv_iload_n (pc := 0) hx hb d_J_rotateLeft_0 rfl (lv_at hl 0 rfl) ?_
  refine lv_iload_n (pc := 1) hx hb d_J_rotateLeft_1 rfl (lv_at hl 1 rfl) ?_
  refine lv_ishl (pc := 2) hx hb d_J_rotateLeft_2 ?_
  refine lv_iload_n (pc := 3) hx hb d_J_rotateLeft_3 rfl (lv_at hl 0 rfl) ?_
  refine lv_iload_n (pc := 4) hx hb d_J_rotateLeft_4 rfl (lv_at hl 1 rfl) ?_
  refine lv_ineg (pc := 5) hx hb d_J_rotateLeft_5 ?_
  refine lv_iushr (pc := 6) (v := (x.toUInt32 >>> ((-y).toUInt32 &&& Int32.toUInt32 31)).toInt32) hx hb d_J_rotateLeft_6 rfl ?_
  refine lv_ior (pc := 7) hx hb d_J_rotateLeft_7 ?_
  exact W.iret (v := ((x <<< (y &&& 31)) ||| ((x.toUInt32 >>> ((-y).toUInt32 &&& Int32.toUInt32 31)).toInt32))) hx hb hr (fun t ht hW => ⟨((x <<< (y &&& 31)) ||| ((x.toUInt32 >>> ((-y).toUInt32 &&& Int32.toUInt32 31)).toInt32)), rfl, rfl, ht⟩) (fun q h => by cases h) d_J_rotateLeft_8
set_option maxHeartbeats 4000000 in
set_option maxRecDepth 100000 in
theorem c_D_lengthOf (l : Launch) (x : Int32)  : Met l y_D_lengthOf (k_D_lengthOf :: tT) ({ frames := 0, cells := 0, slots := 0, locals := 0 }) (va_Pc [.int x] (fun _ => True)) (vp_Si (fun rr : Int32 => rr = nI (hlen x))) 0 0 (fun _ => False) := by
  refine Met.ofW (cc := b_D_lengthOf) (maxL := 1) (ret := (some .int)) (by decide) rfl ?_
  intro p e s m args below meth c s₁ B hml hv
  obtain ⟨rfl, -⟩ := hv
  have hx := B.exec
  have hb := B.bytes
  have hr := B.returns
  have hts : ∀ w ∈ tT, w.before _ s = true := fun w h => atoms_spec (ws := k_D_lengthOf :: tT) B.pre w (List.mem_cons_of_mem _ h)
  have hown : s.vm.findClass "DigestDesk" = some m.cls := findClass_of_methodNamed B.named
  have hlocks := B.notSynchronized
  have hl := lv_entry ([.int x]) (n := 1) (Nat.le_of_ble_eq_true rfl)
  rw [lg_entry_eq]
  generalize (lg_sl ([.int x]) ++ List.replicate (1 - (lg_sl ([.int x])).length) Slot.unset).toArray = ls at hl ⊢
  have hl : lv_has ls 1 [(0, .int x)] := hl
  refine lv_iload_n (pc := 0) hx hb d_D_lengthOf_0 rfl (lv_at hl 0 rfl) ?_
  refine lv_if_ne (pc := 1) (tgt := 9) hx hb d_D_lengthOf_1 (by decide) (fun c0 => ?_) (fun c0 => ?_)
  · refine lv_bipush (pc := 9) (v := (nI 20)) hx hb d_D_lengthOf_9 (by decide) ?_
    exact W.iret (v := (nI 20)) hx hb hr (fun t ht hW => ⟨(nI 20), rfl, by rw [hlen, if_neg c0], ht⟩) (fun q h => by cases h) d_D_lengthOf_11
  · refine lv_bipush (pc := 4) (v := (nI 16)) hx hb d_D_lengthOf_4 (by decide) ?_
    refine lv_goto (pc := 6) (tgt := 11) hx hb d_D_lengthOf_6 (by decide) ?_
    exact W.iret (v := (nI 16)) hx hb hr (fun t ht hW => ⟨(nI 16), rfl, by rw [hlen, if_pos c0], ht⟩) (fun q h => by cases h) d_D_lengthOf_11
end
section
theorem lc0 {a b : Nat} (ha : a < 2 ^ 63) (hb : b < 2 ^ 63) : lg_cmp (lN a) (lN b) = 0 ↔ a = b := (lg_cmp_eq _ _).trans (pk_lEQ ha hb)
theorem upd_u (f : Nat → Int32) (k : Nat) (x y : Int32) : upd (upd f k x) k y = upd f k y := by
  funext j
  by_cases h : j = k
  · rw [h, upd_s, upd_s]
  · rw [upd_n _ _ h, upd_n _ _ h, upd_n _ _ h]
theorem upd_lt {f g : Nat → Int32} {k : Nat} {x : Int32} (h : ∀ j, j < k → f j = g j) (hx : x = g k) : ∀ j, j < k + 1 → upd f k x j = g j := by
  intro j hj
  by_cases e : j = k
  · rw [e, upd_s, hx]
  · rw [upd_n _ _ e]; exact h j (by omega)
theorem hput_1 {alg b : Int32} {st blk : Nat → Int32} {n : Nat} (h : n % 64 ≠ 63) : (hput alg b (st, blk, n)).1 = st := if_neg h
theorem hput_2 {alg b : Int32} {st blk : Nat → Int32} {n : Nat} (h : n % 64 = 63) : (hput alg b (st, blk, n)).1 = comp alg st (upd blk (n % 64) b) := if_pos h
theorem comp_0 {alg : Int32} {st b w : Nat → Int32} (h : alg = 0) (hw : ∀ j, j < 16 → w j = wof alg b j) : m5mix st w = comp alg st b := by
  rw [comp, if_pos h]; exact m5mix_congr hw st
theorem comp_1 {alg : Int32} {st b w : Nat → Int32} (h : ¬ alg = 0) (hw : ∀ j, j < 16 → w j = wof alg b j) : s1mix st (s1xs w 64) = comp alg st b := by
  rw [comp, if_neg h]; exact s1mix_congr (s1xs_congr hw 64) st
end
section
set_option maxHeartbeats 4000000 in
set_option maxRecDepth 100000 in
/-- mixFour: the state is mixed with the words as MD5 does -/
theorem c_D_mixFour (l : Launch) (dC : Nat → ClassId) (dI : Nat → Nat → Nat) (cI cB : ClassId) (q : Nat → Nat) (sz : Nat) (L : Nat) (lim rdy kc alg opn mac rl : Int32) (cnt : Int64) (key st buf wds fil res : Nat → Int32)  : Met l y_D_mixFour (k_D_mixFour :: tT) ({ frames := 1, cells := 0, slots := 0, locals := 22 }) (va_Pc [.ref (q 0)] (pD (dC, dI) cI cB sz (wD cI cB q L lim rdy kc alg cnt opn mac rl key st buf wds fil res))) (va_Qv (fun u : Nat → Int32 => u = m5mix st wds) (fun u t => qD (dC, dI) cI cB (va_A (wD cI cB q L lim rdy kc alg cnt opn mac rl key st buf wds fil res) sz) (wD cI cB q L lim rdy kc alg cnt opn mac rl key u buf wds fil res) t) (va_A (wD cI cB q L lim rdy kc alg cnt opn mac rl key st buf wds fil res) sz)) 0 0 (va_A (wD cI cB q L lim rdy kc alg cnt opn mac rl key st buf wds fil res) sz) := by
  refine Met.ofW (cc := b_D_mixFour) (maxL := 10) (ret := none) (by decide) rfl ?_
  intro p e s m args below meth c s₁ B hml hv
  obtain ⟨rfl, hsz, hP, hK, hD0, hST⟩ := hv
  have hx := B.exec
  have hb := B.bytes
  have hr := B.returns
  have hts : ∀ w ∈ tT, w.before _ s = true := fun w h => atoms_spec (ws := k_D_mixFour :: tT) B.pre w (List.mem_cons_of_mem _ h)
  have hown : s.vm.findClass R_D = some m.cls := findClass_of_methodNamed B.named
  have hlocks := B.notSynchronized
  subst hsz
  have hD := hD0.self (sz := s.heap.size)
  generalize hAe : va_A (wD cI cB q L lim rdy kc alg cnt opn mac rl key st buf wds fil res) s.heap.size = A at hD hST ⊢
  have hA : ∀ q : Nat, s.heap.size ≤ q → A q := fun q h => by rw [← hAe]; exact Or.inr h
  have hS : va_S A s.heap s.heap [] := va_S.rf
  have hP : va_P (dC, dI) classes (wD cI cB q L lim rdy kc alg cnt opn mac rl key st buf wds fil res) s.heap := hP
  have hl := lv_entry ([.ref (q 0)]) (n := 10) (Nat.le_of_ble_eq_true rfl)
  rw [lg_entry_eq]
  generalize (lg_sl ([.ref (q 0)]) ++ List.replicate (10 - (lg_sl ([.ref (q 0)])).length) Slot.unset).toArray = ls at hl ⊢
  have hl : lv_has ls 10 [(0, .ref (q 0))] := hl
  refine lv_aload_n (pc := 0) hx hb d_D_mixFour_0 rfl (lv_at hl 0 rfl) ?_
  refine va_get (pc := 1) (D := (dC, dI)) (ci := 0) (v := .ref (q 2)) (C := R_D) (T := F_D) (N := 14) hx hb hts i_D hown hK hP 0 rfl rfl 5 (by decide) (hts _ fl_D_7) (fun _ h9 => h9) rfl d_D_mixFour_1 ?_
  refine lv_iconst (pc := 4) (v := (nI 0)) hx hb d_D_mixFour_4 (by decide) ?_
  refine xa_iald (pc := 5) hx hb hK hP 2 0 rfl rfl (by omega) (by decide) d_D_mixFour_5 ?_
  refine lv_istore_n (pc := 6) (lv' := [(1, .int (st 0)), (0, .ref (q 0))]) hx hb d_D_mixFour_6 rfl hl (by decide) rfl (fun ls hl => ?_)
  refine lv_aload_n (pc := 7) hx hb d_D_mixFour_7 rfl (lv_at hl 1 rfl) ?_
  refine va_get (pc := 8) (D := (dC, dI)) (ci := 0) (v := .ref (q 2)) (C := R_D) (T := F_D) (N := 14) hx hb hts i_D hown hK hP 0 rfl rfl 5 (by decide) (hts _ fl_D_7) (fun _ h9 => h9) rfl d_D_mixFour_8 ?_
  refine lv_iconst (pc := 11) (v := (nI 1)) hx hb d_D_mixFour_11 (by decide) ?_
  refine xa_iald (pc := 12) hx hb hK hP 2 0 rfl rfl (by omega) (by decide) d_D_mixFour_12 ?_
  refine lv_istore_n (pc := 13) (lv' := [(2, .int (st 1)), (1, .int (st 0)), (0, .ref (q 0))]) hx hb d_D_mixFour_13 rfl hl (by decide) rfl (fun ls hl => ?_)
  refine lv_aload_n (pc := 14) hx hb d_D_mixFour_14 rfl (lv_at hl 2 rfl) ?_
  refine va_get (pc := 15) (D := (dC, dI)) (ci := 0) (v := .ref (q 2)) (C := R_D) (T := F_D) (N := 14) hx hb hts i_D hown hK hP 0 rfl rfl 5 (by decide) (hts _ fl_D_7) (fun _ h9 => h9) rfl d_D_mixFour_15 ?_
  refine lv_iconst (pc := 18) (v := (nI 2)) hx hb d_D_mixFour_18 (by decide) ?_
  refine xa_iald (pc := 19) hx hb hK hP 2 0 rfl rfl (by omega) (by decide) d_D_mixFour_19 ?_
  refine lv_istore_n (pc := 20) (lv' := [(3, .int (st 2)), (2, .int (st 1)), (1, .int (st 0)), (0, .ref (q 0))]) hx hb d_D_mixFour_20 rfl hl (by decide) rfl (fun ls hl => ?_)
  refine lv_aload_n (pc := 21) hx hb d_D_mixFour_21 rfl (lv_at hl 3 rfl) ?_
  refine va_get (pc := 22) (D := (dC, dI)) (ci := 0) (v := .ref (q 2)) (C := R_D) (T := F_D) (N := 14) hx hb hts i_D hown hK hP 0 rfl rfl 5 (by decide) (hts _ fl_D_7) (fun _ h9 => h9) rfl d_D_mixFour_22 ?_
  refine lv_iconst (pc := 25) (v := (nI 3)) hx hb d_D_mixFour_25 (by decide) ?_
  refine xa_iald (pc := 26) hx hb hK hP 2 0 rfl rfl (by omega) (by decide) d_D_mixFour_26 ?_
  refine lv_istore (pc := 27) (lv' := [(4, .int (st 3)), (3, .int (st 2)), (2, .int (st 1)), (1, .int (st 0)), (0, .ref (q 0))]) hx hb d_D_mixFour_27 hl (by decide) rfl (fun ls hl => ?_)
  refine lv_iconst (pc := 29) (v := (nI 0)) hx hb d_D_mixFour_29 (by decide) ?_
  refine lv_istore (pc := 30) (lv' := [(5, .int (nI 0)), (4, .int (st 3)), (3, .int (st 2)), (2, .int (st 1)), (1, .int (st 0)), (0, .ref (q 0))]) hx hb d_D_mixFour_30 hl (by decide) rfl (fun ls hl => ?_)
  refine lp (α := Nat × Int32 × Int32 × Int32 × Int32) (fun x => 64 - x.1) (fun x H1 locs1 g => ∃ ls, g = F0 m 32 ls [] ∧ lv_has ls 10 [(0, .ref (q 0)), (1, .int x.2.1), (2, .int x.2.2.1), (3, .int x.2.2.2.1), (4, .int x.2.2.2.2), (5, .int (nI x.1))] ∧ va_P (dC, dI) classes (wD cI cB q L lim rdy kc alg cnt opn mac rl key st buf wds fil res) H1 ∧ va_D A (wD cI cB q L lim rdy kc alg cnt opn mac rl key st buf wds fil res) ∧ va_S A s.heap H1 locs1 ∧ x.1 ≤ 64 ∧ (x.2.1, x.2.2.1, x.2.2.2.1, x.2.2.2.2) = m5run wds (st 0, st 1, st 2, st 3) x.1) ?_ (0, st 0, st 1, st 2, st 3) ⟨ls, rfl, lv_sub hl [5, 4, 3, 2, 1, 0] rfl, hP, hD, hS, (show 0 ≤ 64 from by decide), (show ((st 0), (st 1), (st 2), (st 3)) = m5run wds (st 0, st 1, st 2, st 3) 0 from rfl)⟩
  rintro ⟨k, a, b, c1, d1⟩ H locs g ih ⟨ls, rfl, hl, hP, hD, hS, hk, hq⟩
  have hl : lv_has ls 10 [(0, .ref (q 0)), (1, .int a), (2, .int b), (3, .int c1), (4, .int d1), (5, .int (nI k))] := hl
  have hP : va_P (dC, dI) classes (wD cI cB q L lim rdy kc alg cnt opn mac rl key st buf wds fil res) H := hP
  have hD : va_D A (wD cI cB q L lim rdy kc alg cnt opn mac rl key st buf wds fil res) := hD
  have hk : k ≤ 64 := hk
  have hq : (a, b, c1, d1) = m5run wds (st 0, st 1, st 2, st 3) k := hq
  refine lv_iload (pc := 32) hx hb d_D_mixFour_32 (lv_at hl 5 rfl) ?_
  refine lv_bipush (pc := 34) (v := (nI 64)) hx hb d_D_mixFour_34 (by decide) ?_
  refine xi_ge (pc := 36) (tgt := 208) hx hb d_D_mixFour_36 (by decide) (by omega) (by omega) (fun c0 => ?_) (fun c0 => ?_)
  · have hk64 : k = 64 := by omega
    subst hk64
    refine lv_aload_n (pc := 208) hx hb d_D_mixFour_208 rfl (lv_at hl 0 rfl) ?_
    refine va_get (pc := 209) (D := (dC, dI)) (ci := 0) (v := .ref (q 2)) (C := R_D) (T := F_D) (N := 14) hx hb hts i_D hown hK hP 0 rfl rfl 5 (by decide) (hts _ fl_D_7) (fun _ h9 => h9) rfl d_D_mixFour_209 ?_
    refine lv_iconst (pc := 212) (v := (nI 0)) hx hb d_D_mixFour_212 (by decide) ?_
    refine lv_dup2_11 (pc := 213) hx hb d_D_mixFour_213 rfl rfl ?_
    refine xa_iald (pc := 214) hx hb hK hP 2 0 rfl rfl (by decide) (by decide) d_D_mixFour_214 ?_
    refine lv_iload_n (pc := 215) hx hb d_D_mixFour_215 rfl (lv_at hl 1 rfl) ?_
    refine lv_iadd (pc := 216) hx hb d_D_mixFour_216 ?_
    refine xa_iast (pc := 217) (x := ((st 0) + a)) hx hb hK hP hD hS 2 0 rfl rfl (by decide) (by decide) d_D_mixFour_217 (fun H locs hP hD hS => ?_)
    have hP : va_P (dC, dI) classes (wD cI cB q L lim rdy kc alg cnt opn mac rl key (ad st 0 a) buf wds fil res) H := hP
    have hD : va_D A (wD cI cB q L lim rdy kc alg cnt opn mac rl key (ad st 0 a) buf wds fil res) := hD
    refine lv_aload_n (pc := 218) hx hb d_D_mixFour_218 rfl (lv_at hl 0 rfl) ?_
    refine va_get (pc := 219) (D := (dC, dI)) (ci := 0) (v := .ref (q 2)) (C := R_D) (T := F_D) (N := 14) hx hb hts i_D hown hK hP 0 rfl rfl 5 (by decide) (hts _ fl_D_7) (fun _ h9 => h9) rfl d_D_mixFour_219 ?_
    refine lv_iconst (pc := 222) (v := (nI 1)) hx hb d_D_mixFour_222 (by decide) ?_
    refine lv_dup2_11 (pc := 223) hx hb d_D_mixFour_223 rfl rfl ?_
    refine xa_iald (pc := 224) hx hb hK hP 2 0 rfl rfl (by decide) (by decide) d_D_mixFour_224 ?_
    refine lv_iload_n (pc := 225) hx hb d_D_mixFour_225 rfl (lv_at hl 2 rfl) ?_
    refine lv_iadd (pc := 226) hx hb d_D_mixFour_226 ?_
    refine xa_iast (pc := 227) (x := (((ad st 0 a) 1) + b)) hx hb hK hP hD hS 2 0 rfl rfl (by decide) (by decide) d_D_mixFour_227 (fun H locs hP hD hS => ?_)
    have hP : va_P (dC, dI) classes (wD cI cB q L lim rdy kc alg cnt opn mac rl key (ad (ad st 0 a) 1 b) buf wds fil res) H := hP
    have hD : va_D A (wD cI cB q L lim rdy kc alg cnt opn mac rl key (ad (ad st 0 a) 1 b) buf wds fil res) := hD
    refine lv_aload_n (pc := 228) hx hb d_D_mixFour_228 rfl (lv_at hl 0 rfl) ?_
    refine va_get (pc := 229) (D := (dC, dI)) (ci := 0) (v := .ref (q 2)) (C := R_D) (T := F_D) (N := 14) hx hb hts i_D hown hK hP 0 rfl rfl 5 (by decide) (hts _ fl_D_7) (fun _ h9 => h9) rfl d_D_mixFour_229 ?_
    refine lv_iconst (pc := 232) (v := (nI 2)) hx hb d_D_mixFour_232 (by decide) ?_
    refine lv_dup2_11 (pc := 233) hx hb d_D_mixFour_233 rfl rfl ?_
    refine xa_iald (pc := 234) hx hb hK hP 2 0 rfl rfl (by decide) (by decide) d_D_mixFour_234 ?_
    refine lv_iload_n (pc := 235) hx hb d_D_mixFour_235 rfl (lv_at hl 3 rfl) ?_
    refine lv_iadd (pc := 236) hx hb d_D_mixFour_236 ?_
    refine xa_iast (pc := 237) (x := (((ad (ad st 0 a) 1 b) 2) + c1)) hx hb hK hP hD hS 2 0 rfl rfl (by decide) (by decide) d_D_mixFour_237 (fun H locs hP hD hS => ?_)
    have hP : va_P (dC, dI) classes (wD cI cB q L lim rdy kc alg cnt opn mac rl key (ad (ad (ad st 0 a) 1 b) 2 c1) buf wds fil res) H := hP
    have hD : va_D A (wD cI cB q L lim rdy kc alg cnt opn mac rl key (ad (ad (ad st 0 a) 1 b) 2 c1) buf wds fil res) := hD
    refine lv_aload_n (pc := 238) hx hb d_D_mixFour_238 rfl (lv_at hl 0 rfl) ?_
    refine va_get (pc := 239) (D := (dC, dI)) (ci := 0) (v := .ref (q 2)) (C := R_D) (T := F_D) (N := 14) hx hb hts i_D hown hK hP 0 rfl rfl 5 (by decide) (hts _ fl_D_7) (fun _ h9 => h9) rfl d_D_mixFour_239 ?_
    refine lv_iconst (pc := 242) (v := (nI 3)) hx hb d_D_mixFour_242 (by decide) ?_
    refine lv_dup2_11 (pc := 243) hx hb d_D_mixFour_243 rfl rfl ?_
    refine xa_iald (pc := 244) hx hb hK hP 2 0 rfl rfl (by decide) (by decide) d_D_mixFour_244 ?_
    refine lv_iload (pc := 245) hx hb d_D_mixFour_245 (lv_at hl 4 rfl) ?_
    refine lv_iadd (pc := 247) hx hb d_D_mixFour_247 ?_
    refine xa_iast (pc := 248) (x := (((ad (ad (ad st 0 a) 1 b) 2 c1) 3) + d1)) hx hb hK hP hD hS 2 0 rfl rfl (by decide) (by decide) d_D_mixFour_248 (fun H locs hP hD hS => ?_)
    have hP : va_P (dC, dI) classes (wD cI cB q L lim rdy kc alg cnt opn mac rl key (ad (ad (ad (ad st 0 a) 1 b) 2 c1) 3 d1) buf wds fil res) H := hP
    have hD : va_D A (wD cI cB q L lim rdy kc alg cnt opn mac rl key (ad (ad (ad (ad st 0 a) 1 b) 2 c1) 3 d1) buf wds fil res) := hD
    exact W.vret hx hb hr (fun t ht hW => ⟨⟨(ad (ad (ad (ad st 0 a) 1 b) 2 c1) 3 d1), rfl, by show m5fin st (a, b, c1, d1) = _; rw [hq]; rfl, by rw [ht]; exact hP, va_K.moved hW.alike hK, hD⟩, hS.F ht⟩) hS.2.2 d_D_mixFour_249
  · refine lv_iload (pc := 39) hx hb d_D_mixFour_39 (lv_at hl 5 rfl) ?_
    refine lv_bipush (pc := 41) (v := (nI 16)) hx hb d_D_mixFour_41 (by decide) ?_
    refine xi_div (pc := 43) hx hb d_D_mixFour_43 (by omega) (by decide) (by decide) ?_
    refine lv_istore (pc := 44) (lv' := [(6, .int (nI (k / 16))), (0, .ref (q 0)), (1, .int a), (2, .int b), (3, .int c1), (4, .int d1), (5, .int (nI k))]) hx hb d_D_mixFour_44 hl (by decide) rfl (fun ls hl => ?_)
    refine jn_i (fun f1 : Int32 => f1 = m5f k b c1 d1) 100 ls [] (fun f1 ef1 => ?_) (fun J => ?_)
    · refine lv_istore (pc := 100) (lv' := [(7, .int f1), (6, .int (nI (k / 16))), (0, .ref (q 0)), (1, .int a), (2, .int b), (3, .int c1), (4, .int d1), (5, .int (nI k))]) hx hb d_D_mixFour_100 hl (by decide) rfl (fun ls hl => ?_)
      refine jn_i (fun g1 : Int32 => g1 = nI (m5g k)) 147 ls [] (fun g1 eg1 => ?_) (fun J => ?_)
      · have hg := m5g_lt c0
        refine xs_i (y := (nI (m5g k))) (eg1) ?_
        refine lv_istore (pc := 147) (lv' := [(8, .int (nI (m5g k))), (7, .int f1), (6, .int (nI (k / 16))), (0, .ref (q 0)), (1, .int a), (2, .int b), (3, .int c1), (4, .int d1), (5, .int (nI k))]) hx hb d_D_mixFour_147 hl (by decide) rfl (fun ls hl => ?_)
        refine lv_iload_n (pc := 149) hx hb d_D_mixFour_149 rfl (lv_at hl 4 rfl) ?_
        refine lv_iload (pc := 150) hx hb d_D_mixFour_150 (lv_at hl 1 rfl) ?_
        refine lv_iadd (pc := 152) hx hb d_D_mixFour_152 ?_
        obtain ⟨t5, hz6, ht7⟩ := hST.2.1
        refine va_gets (pc := 153) hx hb hz6 hS hown (hts _ fl_D_70) (fun _ h9 => h9) d_D_mixFour_153 ?_
        refine lv_iload (pc := 156) hx hb d_D_mixFour_156 (lv_at hl 8 rfl) ?_
        refine xt_i (pc := 158) hx hb ht7 hS (by omega) (by decide) d_D_mixFour_158 ?_
        refine lv_iadd (pc := 159) hx hb d_D_mixFour_159 ?_
        refine lv_aload_n (pc := 160) hx hb d_D_mixFour_160 rfl (lv_at hl 3 rfl) ?_
        refine va_get (pc := 161) (D := (dC, dI)) (ci := 0) (v := .ref (q 4)) (C := R_D) (T := F_D) (N := 14) hx hb hts i_D hown hK hP 0 rfl rfl 7 (by decide) (hts _ fl_D_17) (fun _ h9 => h9) rfl d_D_mixFour_161 ?_
        refine lv_iload (pc := 164) hx hb d_D_mixFour_164 (lv_at hl 0 rfl) ?_
        refine lv_bipush (pc := 166) (v := (nI 16)) hx hb d_D_mixFour_166 (by decide) ?_
        refine xi_rem (pc := 168) hx hb d_D_mixFour_168 (by omega) (by decide) (by decide) ?_
        refine xa_iald (pc := 169) hx hb hK hP 4 0 rfl rfl (by omega) (by decide) d_D_mixFour_169 ?_
        refine lv_iadd (pc := 170) hx hb d_D_mixFour_170 ?_
        refine lv_istore (pc := 171) (lv' := [(9, .int (((a + f1) + (sinesT k)) + (wds ((m5g k) % 16)))), (8, .int (nI (m5g k))), (7, .int f1), (6, .int (nI (k / 16))), (0, .ref (q 0)), (1, .int a), (2, .int b), (3, .int c1), (4, .int d1), (5, .int (nI k))]) hx hb d_D_mixFour_171 hl (by decide) rfl (fun ls hl => ?_)
        refine lv_iload (pc := 173) hx hb d_D_mixFour_173 (lv_at hl 8 rfl) ?_
        refine lv_istore_n (pc := 175) (lv' := [(1, .int d1), (9, .int (((a + f1) + (sinesT k)) + (wds ((m5g k) % 16)))), (8, .int (nI (m5g k))), (7, .int f1), (6, .int (nI (k / 16))), (0, .ref (q 0)), (2, .int b), (3, .int c1), (4, .int d1), (5, .int (nI k))]) hx hb d_D_mixFour_175 rfl hl (by decide) rfl (fun ls hl => ?_)
        refine lv_iload_n (pc := 176) hx hb d_D_mixFour_176 rfl (lv_at hl 7 rfl) ?_
        refine lv_istore (pc := 177) (lv' := [(4, .int c1), (1, .int d1), (9, .int (((a + f1) + (sinesT k)) + (wds ((m5g k) % 16)))), (8, .int (nI (m5g k))), (7, .int f1), (6, .int (nI (k / 16))), (0, .ref (q 0)), (2, .int b), (3, .int c1), (5, .int (nI k))]) hx hb d_D_mixFour_177 hl (by decide) rfl (fun ls hl => ?_)
        refine lv_iload_n (pc := 179) hx hb d_D_mixFour_179 rfl (lv_at hl 7 rfl) ?_
        refine lv_istore_n (pc := 180) (lv' := [(3, .int b), (4, .int c1), (1, .int d1), (9, .int (((a + f1) + (sinesT k)) + (wds ((m5g k) % 16)))), (8, .int (nI (m5g k))), (7, .int f1), (6, .int (nI (k / 16))), (0, .ref (q 0)), (2, .int b), (5, .int (nI k))]) hx hb d_D_mixFour_180 rfl hl (by decide) rfl (fun ls hl => ?_)
        refine lv_iload_n (pc := 181) hx hb d_D_mixFour_181 rfl (lv_at hl 8 rfl) ?_
        refine lv_iload (pc := 182) hx hb d_D_mixFour_182 (lv_at hl 3 rfl) ?_
        obtain ⟨t8, hz9, ht10⟩ := hST.2.2.1
        refine va_gets (pc := 184) hx hb hz9 hS hown (hts _ fl_D_73) (fun _ h9 => h9) d_D_mixFour_184 ?_
        refine lv_iconst (pc := 187) (v := (nI 4)) hx hb d_D_mixFour_187 (by decide) ?_
        refine lv_iload (pc := 188) hx hb d_D_mixFour_188 (lv_at hl 6 rfl) ?_
        refine xi_mul (pc := 190) hx hb d_D_mixFour_190 ?_
        refine lv_iload (pc := 191) hx hb d_D_mixFour_191 (lv_at hl 9 rfl) ?_
        refine lv_iconst (pc := 193) (v := (nI 4)) hx hb d_D_mixFour_193 (by decide) ?_
        refine xi_rem (pc := 194) hx hb d_D_mixFour_194 (by omega) (by decide) (by decide) ?_
        refine xi_add (pc := 195) hx hb d_D_mixFour_195 ?_
        refine xt_i (pc := 196) hx hb ht10 hS (by omega) (by decide) d_D_mixFour_196 ?_
        refine ksi (pc := 197) (As := [.int (((a + f1) + (sinesT k)) + (wds ((m5g k) % 16))), .int (turnsT ((4 * (k / 16)) + (k % 4)))]) (rest := [.int b]) ⟨hx, hb, hml, hown, hts⟩ (c_J_rotateLeft l (((a + f1) + (sinesT k)) + (wds ((m5g k) % 16))) (turnsT ((4 * (k / 16)) + (k % 4)))) (va_cwS 2 hts g_D_76 rfl rfl rfl hs_J_rotateLeft ⟨by decide, by decide⟩) rfl hl.1 rfl (Nat.le_of_ble_eq_true rfl) d_D_mixFour_197 ⟨by decide, by decide⟩ (fun r11 er12 => ?_)
        subst er12
        refine lv_iadd (pc := 200) hx hb d_D_mixFour_200 ?_
        refine lv_istore_n (pc := 201) (lv' := [(2, .int (b + (rotl (((a + f1) + (sinesT k)) + (wds ((m5g k) % 16))) (turnsT ((4 * (k / 16)) + (k % 4)))))), (3, .int b), (4, .int c1), (1, .int d1), (9, .int (((a + f1) + (sinesT k)) + (wds ((m5g k) % 16)))), (8, .int (nI (m5g k))), (7, .int f1), (6, .int (nI (k / 16))), (0, .ref (q 0)), (5, .int (nI k))]) hx hb d_D_mixFour_201 rfl hl (by decide) rfl (fun ls hl => ?_)
        refine lv_iinc (pc := 202) (v := (nI (k + 1))) (lv' := [(5, .int (nI (k + 1))), (2, .int (b + (rotl (((a + f1) + (sinesT k)) + (wds ((m5g k) % 16))) (turnsT ((4 * (k / 16)) + (k % 4)))))), (3, .int b), (4, .int c1), (1, .int d1), (9, .int (((a + f1) + (sinesT k)) + (wds ((m5g k) % 16)))), (8, .int (nI (m5g k))), (7, .int f1), (6, .int (nI (k / 16))), (0, .ref (q 0))]) hx hb d_D_mixFour_202 hl (k := 9) rfl (inc1 _) (by decide) rfl (fun ls hl => ?_)
        refine lv_goto (pc := 205) (tgt := 32) hx hb d_D_mixFour_205 (by decide) ?_
        exact ih (k + 1, d1, b + rotl (a + f1 + sinesT k + wds (m5g k % 16)) (turnsT (4 * (k / 16) + k % 4)), b, c1) _ _ _ (by show 64 - (k + 1) < 64 - k; omega) ⟨ls, rfl, lv_sub hl [9, 4, 1, 2, 3, 0] rfl, hP, hD, hS, (show (k + 1) ≤ 64 from by omega), (show (d1, (b + rotl (a + f1 + sinesT k + wds (m5g k % 16)) (turnsT (4 * (k / 16) + k % 4))), b, c1) = m5run wds (st 0, st 1, st 2, st 3) (k + 1) from by rw [ef1]; show m5step wds k (a, b, c1, d1) = m5step wds k _; rw [hq])⟩
      · refine lv_iload (pc := 102) hx hb d_D_mixFour_102 (lv_at hl 1 rfl) ?_
        refine xi_ne0 (pc := 104) (tgt := 112) hx hb d_D_mixFour_104 (by decide) (by omega) (fun r0 => ?_) (fun r0 => ?_)
        · refine lv_iload (pc := 112) hx hb d_D_mixFour_112 (lv_at hl 1 rfl) ?_
          refine lv_iconst (pc := 114) (v := (nI 1)) hx hb d_D_mixFour_114 (by decide) ?_
          refine xi_ne (pc := 115) (tgt := 127) hx hb d_D_mixFour_115 (by decide) (by omega) (by omega) (fun r1 => ?_) (fun r1 => ?_)
          · refine lv_iload (pc := 127) hx hb d_D_mixFour_127 (lv_at hl 1 rfl) ?_
            refine lv_iconst (pc := 129) (v := (nI 2)) hx hb d_D_mixFour_129 (by decide) ?_
            refine xi_ne (pc := 130) (tgt := 142) hx hb d_D_mixFour_130 (by decide) (by omega) (by omega) (fun r2 => ?_) (fun r2 => ?_)
            · refine lv_bipush (pc := 142) (v := (nI 7)) hx hb d_D_mixFour_142 (by decide) ?_
              refine lv_iload (pc := 144) hx hb d_D_mixFour_144 (lv_at hl 7 rfl) ?_
              refine xi_mul (pc := 146) hx hb d_D_mixFour_146 ?_
              exact J _ (by rw [m5g, if_neg r0, if_neg r1, if_neg r2])
            · refine lv_iconst (pc := 133) (v := (nI 3)) hx hb d_D_mixFour_133 (by decide) ?_
              refine lv_iload (pc := 134) hx hb d_D_mixFour_134 (lv_at hl 7 rfl) ?_
              refine xi_mul (pc := 136) hx hb d_D_mixFour_136 ?_
              refine lv_iconst (pc := 137) (v := (nI 5)) hx hb d_D_mixFour_137 (by decide) ?_
              refine xi_add (pc := 138) hx hb d_D_mixFour_138 ?_
              refine lv_goto (pc := 139) (tgt := 147) hx hb d_D_mixFour_139 (by decide) ?_
              exact J _ (by rw [m5g, if_neg r0, if_neg r1, if_pos r2])
          · refine lv_iconst (pc := 118) (v := (nI 5)) hx hb d_D_mixFour_118 (by decide) ?_
            refine lv_iload (pc := 119) hx hb d_D_mixFour_119 (lv_at hl 7 rfl) ?_
            refine xi_mul (pc := 121) hx hb d_D_mixFour_121 ?_
            refine lv_iconst (pc := 122) (v := (nI 1)) hx hb d_D_mixFour_122 (by decide) ?_
            refine xi_add (pc := 123) hx hb d_D_mixFour_123 ?_
            refine lv_goto (pc := 124) (tgt := 147) hx hb d_D_mixFour_124 (by decide) ?_
            exact J _ (by rw [m5g, if_neg r0, if_pos r1])
        · refine lv_iload (pc := 107) hx hb d_D_mixFour_107 (lv_at hl 7 rfl) ?_
          refine lv_goto (pc := 109) (tgt := 147) hx hb d_D_mixFour_109 (by decide) ?_
          exact J _ (by rw [m5g, if_pos r0])
    · refine lv_iload (pc := 46) hx hb d_D_mixFour_46 (lv_at hl 0 rfl) ?_
      refine xi_ne0 (pc := 48) (tgt := 61) hx hb d_D_mixFour_48 (by decide) (by omega) (fun r0 => ?_) (fun r0 => ?_)
      · refine lv_iload (pc := 61) hx hb d_D_mixFour_61 (lv_at hl 0 rfl) ?_
        refine lv_iconst (pc := 63) (v := (nI 1)) hx hb d_D_mixFour_63 (by decide) ?_
        refine xi_ne (pc := 64) (tgt := 77) hx hb d_D_mixFour_64 (by decide) (by omega) (by omega) (fun r1 => ?_) (fun r1 => ?_)
        · refine lv_iload (pc := 77) hx hb d_D_mixFour_77 (lv_at hl 0 rfl) ?_
          refine lv_iconst (pc := 79) (v := (nI 2)) hx hb d_D_mixFour_79 (by decide) ?_
          refine xi_ne (pc := 80) (tgt := 92) hx hb d_D_mixFour_80 (by decide) (by omega) (by omega) (fun r2 => ?_) (fun r2 => ?_)
          · refine lv_iload_n (pc := 92) hx hb d_D_mixFour_92 rfl (lv_at hl 4 rfl) ?_
            refine lv_iload_n (pc := 93) hx hb d_D_mixFour_93 rfl (lv_at hl 3 rfl) ?_
            refine lv_iload (pc := 94) hx hb d_D_mixFour_94 (lv_at hl 5 rfl) ?_
            refine lv_iconst (pc := 96) (v := (-1)) hx hb d_D_mixFour_96 (by decide) ?_
            refine lv_ixor (pc := 97) hx hb d_D_mixFour_97 ?_
            refine lv_ior (pc := 98) hx hb d_D_mixFour_98 ?_
            refine lv_ixor (pc := 99) hx hb d_D_mixFour_99 ?_
            exact J _ (by rw [m5f, if_neg r0, if_neg r1, if_neg r2])
          · refine lv_iload_n (pc := 83) hx hb d_D_mixFour_83 rfl (lv_at hl 3 rfl) ?_
            refine lv_iload_n (pc := 84) hx hb d_D_mixFour_84 rfl (lv_at hl 4 rfl) ?_
            refine lv_ixor (pc := 85) hx hb d_D_mixFour_85 ?_
            refine lv_iload (pc := 86) hx hb d_D_mixFour_86 (lv_at hl 5 rfl) ?_
            refine lv_ixor (pc := 88) hx hb d_D_mixFour_88 ?_
            refine lv_goto (pc := 89) (tgt := 100) hx hb d_D_mixFour_89 (by decide) ?_
            exact J _ (by rw [m5f, if_neg r0, if_neg r1, if_pos r2])
        · refine lv_iload (pc := 67) hx hb d_D_mixFour_67 (lv_at hl 5 rfl) ?_
          refine lv_iload_n (pc := 69) hx hb d_D_mixFour_69 rfl (lv_at hl 3 rfl) ?_
          refine lv_iload_n (pc := 70) hx hb d_D_mixFour_70 rfl (lv_at hl 4 rfl) ?_
          refine ksi (pc := 71) (As := [.int d1, .int b, .int c1]) (rest := []) ⟨hx, hb, hml, hown, hts⟩ (c_D_choose l d1 b c1) (va_cwS 3 hts g_D_66 rfl rfl rfl hs_D_choose ⟨by decide, by decide⟩) rfl hl.1 rfl (Nat.le_of_ble_eq_true rfl) d_D_mixFour_71 ⟨by decide, by decide⟩ (fun r1 er2 => ?_)
          subst er2
          refine lv_goto (pc := 74) (tgt := 100) hx hb d_D_mixFour_74 (by decide) ?_
          exact J _ (by rw [m5f, if_neg r0, if_pos r1])
      · refine lv_iload_n (pc := 51) hx hb d_D_mixFour_51 rfl (lv_at hl 3 rfl) ?_
        refine lv_iload_n (pc := 52) hx hb d_D_mixFour_52 rfl (lv_at hl 4 rfl) ?_
        refine lv_iload (pc := 53) hx hb d_D_mixFour_53 (lv_at hl 5 rfl) ?_
        refine ksi (pc := 55) (As := [.int b, .int c1, .int d1]) (rest := []) ⟨hx, hb, hml, hown, hts⟩ (c_D_choose l b c1 d1) (va_cwS 3 hts g_D_66 rfl rfl rfl hs_D_choose ⟨by decide, by decide⟩) rfl hl.1 rfl (Nat.le_of_ble_eq_true rfl) d_D_mixFour_55 ⟨by decide, by decide⟩ (fun r3 er4 => ?_)
        subst er4
        refine lv_goto (pc := 58) (tgt := 100) hx hb d_D_mixFour_58 (by decide) ?_
        exact J _ (by rw [m5f, if_pos r0])
end
section
set_option maxHeartbeats 4000000 in
set_option maxRecDepth 100000 in
/-- mixFive: the state is mixed with the words, which are spread, as SHA-1 does -/
theorem c_D_mixFive (l : Launch) (dC : Nat → ClassId) (dI : Nat → Nat → Nat) (cI cB : ClassId) (q : Nat → Nat) (sz : Nat) (L : Nat) (lim rdy kc alg opn mac rl : Int32) (cnt : Int64) (key st buf wds fil res : Nat → Int32)  : Met l y_D_mixFive (k_D_mixFive :: tT) ({ frames := 1, cells := 0, slots := 0, locals := 22 }) (va_Pc [.ref (q 0)] (pD (dC, dI) cI cB sz (wD cI cB q L lim rdy kc alg cnt opn mac rl key st buf wds fil res))) (va_Qv (fun u : (Nat → Int32) × (Nat → Int32) => u.1 = s1mix st (s1xs wds 64)) (fun u t => qD (dC, dI) cI cB (va_A (wD cI cB q L lim rdy kc alg cnt opn mac rl key st buf wds fil res) sz) (wD cI cB q L lim rdy kc alg cnt opn mac rl key u.1 buf u.2 fil res) t) (va_A (wD cI cB q L lim rdy kc alg cnt opn mac rl key st buf wds fil res) sz)) 0 0 (va_A (wD cI cB q L lim rdy kc alg cnt opn mac rl key st buf wds fil res) sz) := by
  refine Met.ofW (cc := b_D_mixFive) (maxL := 10) (ret := none) (by decide) rfl ?_
  intro p e s m args below meth c s₁ B hml hv
  obtain ⟨rfl, hsz, hP, hK, hD0, hST⟩ := hv
  have hx := B.exec
  have hb := B.bytes
  have hr := B.returns
  have hts : ∀ w ∈ tT, w.before _ s = true := fun w h => atoms_spec (ws := k_D_mixFive :: tT) B.pre w (List.mem_cons_of_mem _ h)
  have hown : s.vm.findClass R_D = some m.cls := findClass_of_methodNamed B.named
  have hlocks := B.notSynchronized
  subst hsz
  have hD := hD0.self (sz := s.heap.size)
  generalize hAe : va_A (wD cI cB q L lim rdy kc alg cnt opn mac rl key st buf wds fil res) s.heap.size = A at hD hST ⊢
  have hA : ∀ q : Nat, s.heap.size ≤ q → A q := fun q h => by rw [← hAe]; exact Or.inr h
  have hS : va_S A s.heap s.heap [] := va_S.rf
  have hP : va_P (dC, dI) classes (wD cI cB q L lim rdy kc alg cnt opn mac rl key st buf wds fil res) s.heap := hP
  have hl := lv_entry ([.ref (q 0)]) (n := 10) (Nat.le_of_ble_eq_true rfl)
  rw [lg_entry_eq]
  generalize (lg_sl ([.ref (q 0)]) ++ List.replicate (10 - (lg_sl ([.ref (q 0)])).length) Slot.unset).toArray = ls at hl ⊢
  have hl : lv_has ls 10 [(0, .ref (q 0))] := hl
  refine lv_bipush (pc := 0) (v := (nI 16)) hx hb d_D_mixFive_0 (by decide) ?_
  refine lv_istore_n (pc := 2) (lv' := [(1, .int (nI 16)), (0, .ref (q 0))]) hx hb d_D_mixFive_2 rfl hl (by decide) rfl (fun ls hl => ?_)
  refine lp (α := Nat × (Nat → Int32)) (fun x => 64 - x.1) (fun x H1 locs1 g => ∃ ls, g = F0 m 3 ls [] ∧ lv_has ls 10 [(0, .ref (q 0)), (1, .int (nI (16 + x.1)))] ∧ va_P (dC, dI) classes (wD cI cB q L lim rdy kc alg cnt opn mac rl key st buf x.2 fil res) H1 ∧ va_D A (wD cI cB q L lim rdy kc alg cnt opn mac rl key st buf x.2 fil res) ∧ va_S A s.heap H1 locs1 ∧ x.1 ≤ 64 ∧ x.2 = s1xs wds x.1) ?_ (0, wds) ⟨ls, rfl, lv_sub hl [1, 0] rfl, hP, hD, hS, (show 0 ≤ 64 from by omega), (show wds = s1xs wds 0 from rfl)⟩
  rintro ⟨n, f⟩ H locs g ih ⟨ls, rfl, hl, hP, hD, hS, hn, hf⟩
  have hl : lv_has ls 10 [(0, .ref (q 0)), (1, .int (nI (16 + n)))] := hl
  have hP : va_P (dC, dI) classes (wD cI cB q L lim rdy kc alg cnt opn mac rl key st buf f fil res) H := hP
  have hD : va_D A (wD cI cB q L lim rdy kc alg cnt opn mac rl key st buf f fil res) := hD
  have hn : n ≤ 64 := hn
  have hf : f = s1xs wds n := hf
  refine lv_iload_n (pc := 3) hx hb d_D_mixFive_3 rfl (lv_at hl 1 rfl) ?_
  refine lv_bipush (pc := 4) (v := (nI 80)) hx hb d_D_mixFive_4 (by decide) ?_
  refine xi_ge (pc := 6) (tgt := 63) hx hb d_D_mixFive_6 (by decide) (by omega) (by omega) (fun c0 => ?_) (fun c0 => ?_)
  · have hn64 : n = 64 := by omega
    subst hn64
    refine lv_aload_n (pc := 63) hx hb d_D_mixFive_63 rfl (lv_at hl 0 rfl) ?_
    refine va_get (pc := 64) (D := (dC, dI)) (ci := 0) (v := .ref (q 2)) (C := R_D) (T := F_D) (N := 14) hx hb hts i_D hown hK hP 0 rfl rfl 5 (by decide) (hts _ fl_D_7) (fun _ h9 => h9) rfl d_D_mixFive_64 ?_
    refine lv_iconst (pc := 67) (v := (nI 0)) hx hb d_D_mixFive_67 (by decide) ?_
    refine xa_iald (pc := 68) hx hb hK hP 2 0 rfl rfl (by omega) (by decide) d_D_mixFive_68 ?_
    refine lv_istore_n (pc := 69) (lv' := [(1, .int (st 0)), (0, .ref (q 0))]) hx hb d_D_mixFive_69 rfl hl (by decide) rfl (fun ls hl => ?_)
    refine lv_aload_n (pc := 70) hx hb d_D_mixFive_70 rfl (lv_at hl 1 rfl) ?_
    refine va_get (pc := 71) (D := (dC, dI)) (ci := 0) (v := .ref (q 2)) (C := R_D) (T := F_D) (N := 14) hx hb hts i_D hown hK hP 0 rfl rfl 5 (by decide) (hts _ fl_D_7) (fun _ h9 => h9) rfl d_D_mixFive_71 ?_
    refine lv_iconst (pc := 74) (v := (nI 1)) hx hb d_D_mixFive_74 (by decide) ?_
    refine xa_iald (pc := 75) hx hb hK hP 2 0 rfl rfl (by omega) (by decide) d_D_mixFive_75 ?_
    refine lv_istore_n (pc := 76) (lv' := [(2, .int (st 1)), (1, .int (st 0)), (0, .ref (q 0))]) hx hb d_D_mixFive_76 rfl hl (by decide) rfl (fun ls hl => ?_)
    refine lv_aload_n (pc := 77) hx hb d_D_mixFive_77 rfl (lv_at hl 2 rfl) ?_
    refine va_get (pc := 78) (D := (dC, dI)) (ci := 0) (v := .ref (q 2)) (C := R_D) (T := F_D) (N := 14) hx hb hts i_D hown hK hP 0 rfl rfl 5 (by decide) (hts _ fl_D_7) (fun _ h9 => h9) rfl d_D_mixFive_78 ?_
    refine lv_iconst (pc := 81) (v := (nI 2)) hx hb d_D_mixFive_81 (by decide) ?_
    refine xa_iald (pc := 82) hx hb hK hP 2 0 rfl rfl (by omega) (by decide) d_D_mixFive_82 ?_
    refine lv_istore_n (pc := 83) (lv' := [(3, .int (st 2)), (2, .int (st 1)), (1, .int (st 0)), (0, .ref (q 0))]) hx hb d_D_mixFive_83 rfl hl (by decide) rfl (fun ls hl => ?_)
    refine lv_aload_n (pc := 84) hx hb d_D_mixFive_84 rfl (lv_at hl 3 rfl) ?_
    refine va_get (pc := 85) (D := (dC, dI)) (ci := 0) (v := .ref (q 2)) (C := R_D) (T := F_D) (N := 14) hx hb hts i_D hown hK hP 0 rfl rfl 5 (by decide) (hts _ fl_D_7) (fun _ h9 => h9) rfl d_D_mixFive_85 ?_
    refine lv_iconst (pc := 88) (v := (nI 3)) hx hb d_D_mixFive_88 (by decide) ?_
    refine xa_iald (pc := 89) hx hb hK hP 2 0 rfl rfl (by omega) (by decide) d_D_mixFive_89 ?_
    refine lv_istore (pc := 90) (lv' := [(4, .int (st 3)), (3, .int (st 2)), (2, .int (st 1)), (1, .int (st 0)), (0, .ref (q 0))]) hx hb d_D_mixFive_90 hl (by decide) rfl (fun ls hl => ?_)
    refine lv_aload_n (pc := 92) hx hb d_D_mixFive_92 rfl (lv_at hl 4 rfl) ?_
    refine va_get (pc := 93) (D := (dC, dI)) (ci := 0) (v := .ref (q 2)) (C := R_D) (T := F_D) (N := 14) hx hb hts i_D hown hK hP 0 rfl rfl 5 (by decide) (hts _ fl_D_7) (fun _ h9 => h9) rfl d_D_mixFive_93 ?_
    refine lv_iconst (pc := 96) (v := (nI 4)) hx hb d_D_mixFive_96 (by decide) ?_
    refine xa_iald (pc := 97) hx hb hK hP 2 0 rfl rfl (by omega) (by decide) d_D_mixFive_97 ?_
    refine lv_istore (pc := 98) (lv' := [(5, .int (st 4)), (4, .int (st 3)), (3, .int (st 2)), (2, .int (st 1)), (1, .int (st 0)), (0, .ref (q 0))]) hx hb d_D_mixFive_98 hl (by decide) rfl (fun ls hl => ?_)
    refine lv_iconst (pc := 100) (v := (nI 0)) hx hb d_D_mixFive_100 (by decide) ?_
    refine lv_istore (pc := 101) (lv' := [(6, .int (nI 0)), (5, .int (st 4)), (4, .int (st 3)), (3, .int (st 2)), (2, .int (st 1)), (1, .int (st 0)), (0, .ref (q 0))]) hx hb d_D_mixFive_101 hl (by decide) rfl (fun ls hl => ?_)
    refine lp (α := Nat × Int32 × Int32 × Int32 × Int32 × Int32) (fun x => 80 - x.1) (fun x H1 locs1 g => ∃ ls, g = F0 m 103 ls [] ∧ lv_has ls 10 [(0, .ref (q 0)), (1, .int x.2.1), (2, .int x.2.2.1), (3, .int x.2.2.2.1), (4, .int x.2.2.2.2.1), (5, .int x.2.2.2.2.2), (6, .int (nI x.1))] ∧ va_P (dC, dI) classes (wD cI cB q L lim rdy kc alg cnt opn mac rl key st buf f fil res) H1 ∧ va_D A (wD cI cB q L lim rdy kc alg cnt opn mac rl key st buf f fil res) ∧ va_S A s.heap H1 locs1 ∧ x.1 ≤ 80 ∧ (x.2.1, x.2.2.1, x.2.2.2.1, x.2.2.2.2.1, x.2.2.2.2.2) = s1run f (st 0, st 1, st 2, st 3, st 4) x.1) ?_ (0, st 0, st 1, st 2, st 3, st 4) ⟨ls, rfl, lv_sub hl [6, 5, 4, 3, 2, 1, 0] rfl, hP, hD, hS, (show 0 ≤ 80 from by omega), (show ((st 0), (st 1), (st 2), (st 3), (st 4)) = s1run f (st 0, st 1, st 2, st 3, st 4) 0 from rfl)⟩
    rintro ⟨k, a, b, c1, d1, e1⟩ H locs g ih2 ⟨ls, rfl, hl, hP, hD, hS, hk, hq⟩
    have hl : lv_has ls 10 [(0, .ref (q 0)), (1, .int a), (2, .int b), (3, .int c1), (4, .int d1), (5, .int e1), (6, .int (nI k))] := hl
    have hP : va_P (dC, dI) classes (wD cI cB q L lim rdy kc alg cnt opn mac rl key st buf f fil res) H := hP
    have hD : va_D A (wD cI cB q L lim rdy kc alg cnt opn mac rl key st buf f fil res) := hD
    have hk : k ≤ 80 := hk
    have hq : (a, b, c1, d1, e1) = s1run f (st 0, st 1, st 2, st 3, st 4) k := hq
    refine lv_iload (pc := 103) hx hb d_D_mixFive_103 (lv_at hl 6 rfl) ?_
    refine lv_bipush (pc := 105) (v := (nI 80)) hx hb d_D_mixFive_105 (by decide) ?_
    refine xi_ge (pc := 107) (tgt := 215) hx hb d_D_mixFive_107 (by decide) (by omega) (by omega) (fun c1x => ?_) (fun c1x => ?_)
    · have hk80 : k = 80 := by omega
      subst hk80
      refine lv_aload_n (pc := 215) hx hb d_D_mixFive_215 rfl (lv_at hl 0 rfl) ?_
      refine va_get (pc := 216) (D := (dC, dI)) (ci := 0) (v := .ref (q 2)) (C := R_D) (T := F_D) (N := 14) hx hb hts i_D hown hK hP 0 rfl rfl 5 (by decide) (hts _ fl_D_7) (fun _ h9 => h9) rfl d_D_mixFive_216 ?_
      refine lv_iconst (pc := 219) (v := (nI 0)) hx hb d_D_mixFive_219 (by decide) ?_
      refine lv_dup2_11 (pc := 220) hx hb d_D_mixFive_220 rfl rfl ?_
      refine xa_iald (pc := 221) hx hb hK hP 2 0 rfl rfl (by decide) (by decide) d_D_mixFive_221 ?_
      refine lv_iload_n (pc := 222) hx hb d_D_mixFive_222 rfl (lv_at hl 1 rfl) ?_
      refine lv_iadd (pc := 223) hx hb d_D_mixFive_223 ?_
      refine xa_iast (pc := 224) (x := ((st 0) + a)) hx hb hK hP hD hS 2 0 rfl rfl (by decide) (by decide) d_D_mixFive_224 (fun H locs hP hD hS => ?_)
      have hP : va_P (dC, dI) classes (wD cI cB q L lim rdy kc alg cnt opn mac rl key (ad st 0 a) buf f fil res) H := hP
      have hD : va_D A (wD cI cB q L lim rdy kc alg cnt opn mac rl key (ad st 0 a) buf f fil res) := hD
      refine lv_aload_n (pc := 225) hx hb d_D_mixFive_225 rfl (lv_at hl 0 rfl) ?_
      refine va_get (pc := 226) (D := (dC, dI)) (ci := 0) (v := .ref (q 2)) (C := R_D) (T := F_D) (N := 14) hx hb hts i_D hown hK hP 0 rfl rfl 5 (by decide) (hts _ fl_D_7) (fun _ h9 => h9) rfl d_D_mixFive_226 ?_
      refine lv_iconst (pc := 229) (v := (nI 1)) hx hb d_D_mixFive_229 (by decide) ?_
      refine lv_dup2_11 (pc := 230) hx hb d_D_mixFive_230 rfl rfl ?_
      refine xa_iald (pc := 231) hx hb hK hP 2 0 rfl rfl (by decide) (by decide) d_D_mixFive_231 ?_
      refine lv_iload_n (pc := 232) hx hb d_D_mixFive_232 rfl (lv_at hl 2 rfl) ?_
      refine lv_iadd (pc := 233) hx hb d_D_mixFive_233 ?_
      refine xa_iast (pc := 234) (x := (((ad st 0 a) 1) + b)) hx hb hK hP hD hS 2 0 rfl rfl (by decide) (by decide) d_D_mixFive_234 (fun H locs hP hD hS => ?_)
      have hP : va_P (dC, dI) classes (wD cI cB q L lim rdy kc alg cnt opn mac rl key (ad (ad st 0 a) 1 b) buf f fil res) H := hP
      have hD : va_D A (wD cI cB q L lim rdy kc alg cnt opn mac rl key (ad (ad st 0 a) 1 b) buf f fil res) := hD
      refine lv_aload_n (pc := 235) hx hb d_D_mixFive_235 rfl (lv_at hl 0 rfl) ?_
      refine va_get (pc := 236) (D := (dC, dI)) (ci := 0) (v := .ref (q 2)) (C := R_D) (T := F_D) (N := 14) hx hb hts i_D hown hK hP 0 rfl rfl 5 (by decide) (hts _ fl_D_7) (fun _ h9 => h9) rfl d_D_mixFive_236 ?_
      refine lv_iconst (pc := 239) (v := (nI 2)) hx hb d_D_mixFive_239 (by decide) ?_
      refine lv_dup2_11 (pc := 240) hx hb d_D_mixFive_240 rfl rfl ?_
      refine xa_iald (pc := 241) hx hb hK hP 2 0 rfl rfl (by decide) (by decide) d_D_mixFive_241 ?_
      refine lv_iload_n (pc := 242) hx hb d_D_mixFive_242 rfl (lv_at hl 3 rfl) ?_
      refine lv_iadd (pc := 243) hx hb d_D_mixFive_243 ?_
      refine xa_iast (pc := 244) (x := (((ad (ad st 0 a) 1 b) 2) + c1)) hx hb hK hP hD hS 2 0 rfl rfl (by decide) (by decide) d_D_mixFive_244 (fun H locs hP hD hS => ?_)
      have hP : va_P (dC, dI) classes (wD cI cB q L lim rdy kc alg cnt opn mac rl key (ad (ad (ad st 0 a) 1 b) 2 c1) buf f fil res) H := hP
      have hD : va_D A (wD cI cB q L lim rdy kc alg cnt opn mac rl key (ad (ad (ad st 0 a) 1 b) 2 c1) buf f fil res) := hD
      refine lv_aload_n (pc := 245) hx hb d_D_mixFive_245 rfl (lv_at hl 0 rfl) ?_
      refine va_get (pc := 246) (D := (dC, dI)) (ci := 0) (v := .ref (q 2)) (C := R_D) (T := F_D) (N := 14) hx hb hts i_D hown hK hP 0 rfl rfl 5 (by decide) (hts _ fl_D_7) (fun _ h9 => h9) rfl d_D_mixFive_246 ?_
      refine lv_iconst (pc := 249) (v := (nI 3)) hx hb d_D_mixFive_249 (by decide) ?_
      refine lv_dup2_11 (pc := 250) hx hb d_D_mixFive_250 rfl rfl ?_
      refine xa_iald (pc := 251) hx hb hK hP 2 0 rfl rfl (by decide) (by decide) d_D_mixFive_251 ?_
      refine lv_iload (pc := 252) hx hb d_D_mixFive_252 (lv_at hl 4 rfl) ?_
      refine lv_iadd (pc := 254) hx hb d_D_mixFive_254 ?_
      refine xa_iast (pc := 255) (x := (((ad (ad (ad st 0 a) 1 b) 2 c1) 3) + d1)) hx hb hK hP hD hS 2 0 rfl rfl (by decide) (by decide) d_D_mixFive_255 (fun H locs hP hD hS => ?_)
      have hP : va_P (dC, dI) classes (wD cI cB q L lim rdy kc alg cnt opn mac rl key (ad (ad (ad (ad st 0 a) 1 b) 2 c1) 3 d1) buf f fil res) H := hP
      have hD : va_D A (wD cI cB q L lim rdy kc alg cnt opn mac rl key (ad (ad (ad (ad st 0 a) 1 b) 2 c1) 3 d1) buf f fil res) := hD
      refine lv_aload_n (pc := 256) hx hb d_D_mixFive_256 rfl (lv_at hl 0 rfl) ?_
      refine va_get (pc := 257) (D := (dC, dI)) (ci := 0) (v := .ref (q 2)) (C := R_D) (T := F_D) (N := 14) hx hb hts i_D hown hK hP 0 rfl rfl 5 (by decide) (hts _ fl_D_7) (fun _ h9 => h9) rfl d_D_mixFive_257 ?_
      refine lv_iconst (pc := 260) (v := (nI 4)) hx hb d_D_mixFive_260 (by decide) ?_
      refine lv_dup2_11 (pc := 261) hx hb d_D_mixFive_261 rfl rfl ?_
      refine xa_iald (pc := 262) hx hb hK hP 2 0 rfl rfl (by decide) (by decide) d_D_mixFive_262 ?_
      refine lv_iload (pc := 263) hx hb d_D_mixFive_263 (lv_at hl 5 rfl) ?_
      refine lv_iadd (pc := 265) hx hb d_D_mixFive_265 ?_
      refine xa_iast (pc := 266) (x := (((ad (ad (ad (ad st 0 a) 1 b) 2 c1) 3 d1) 4) + e1)) hx hb hK hP hD hS 2 0 rfl rfl (by decide) (by decide) d_D_mixFive_266 (fun H locs hP hD hS => ?_)
      have hP : va_P (dC, dI) classes (wD cI cB q L lim rdy kc alg cnt opn mac rl key (ad (ad (ad (ad (ad st 0 a) 1 b) 2 c1) 3 d1) 4 e1) buf f fil res) H := hP
      have hD : va_D A (wD cI cB q L lim rdy kc alg cnt opn mac rl key (ad (ad (ad (ad (ad st 0 a) 1 b) 2 c1) 3 d1) 4 e1) buf f fil res) := hD
      exact W.vret hx hb hr (fun t ht hW => ⟨⟨((ad (ad (ad (ad (ad st 0 a) 1 b) 2 c1) 3 d1) 4 e1), f), rfl, by show s1fin st (a, b, c1, d1, e1) = _; rw [hq, hf]; rfl, by rw [ht]; exact hP, va_K.moved hW.alike hK, hD⟩, hS.F ht⟩) hS.2.2 d_D_mixFive_267
    · refine lv_iload (pc := 110) hx hb d_D_mixFive_110 (lv_at hl 6 rfl) ?_
      refine lv_bipush (pc := 112) (v := (nI 20)) hx hb d_D_mixFive_112 (by decide) ?_
      refine xi_div (pc := 114) hx hb d_D_mixFive_114 (by omega) (by decide) (by decide) ?_
      refine lv_istore (pc := 115) (lv' := [(7, .int (nI (k / 20))), (0, .ref (q 0)), (1, .int a), (2, .int b), (3, .int c1), (4, .int d1), (5, .int e1), (6, .int (nI k))]) hx hb d_D_mixFive_115 hl (by decide) rfl (fun ls hl => ?_)
      refine jn_i (fun f1 : Int32 => f1 = s1f k b c1 d1) 160 ls [] (fun f1 ef1 => ?_) (fun J => ?_)
      · refine lv_istore (pc := 160) (lv' := [(8, .int f1), (7, .int (nI (k / 20))), (0, .ref (q 0)), (1, .int a), (2, .int b), (3, .int c1), (4, .int d1), (5, .int e1), (6, .int (nI k))]) hx hb d_D_mixFive_160 hl (by decide) rfl (fun ls hl => ?_)
        refine lv_iload_n (pc := 162) hx hb d_D_mixFive_162 rfl (lv_at hl 3 rfl) ?_
        refine lv_iconst (pc := 163) (v := (nI 5)) hx hb d_D_mixFive_163 (by decide) ?_
        refine ksi (pc := 164) (As := [.int a, .int (nI 5)]) (rest := []) ⟨hx, hb, hml, hown, hts⟩ (c_J_rotateLeft l a (nI 5)) (va_cwS 2 hts g_D_76 rfl rfl rfl hs_J_rotateLeft ⟨by decide, by decide⟩) rfl hl.1 rfl (Nat.le_of_ble_eq_true rfl) d_D_mixFive_164 ⟨by decide, by decide⟩ (fun r5 er6 => ?_)
        subst er6
        refine lv_iload (pc := 167) hx hb d_D_mixFive_167 (lv_at hl 0 rfl) ?_
        refine lv_iadd (pc := 169) hx hb d_D_mixFive_169 ?_
        refine lv_iload (pc := 170) hx hb d_D_mixFive_170 (lv_at hl 7 rfl) ?_
        refine lv_iadd (pc := 172) hx hb d_D_mixFive_172 ?_
        obtain ⟨t7, hz8, ht9⟩ := hST.2.2.2
        refine va_gets (pc := 173) hx hb hz8 hS hown (hts _ fl_D_81) (fun _ h9 => h9) d_D_mixFive_173 ?_
        refine lv_iload (pc := 176) hx hb d_D_mixFive_176 (lv_at hl 1 rfl) ?_
        refine xt_i (pc := 178) hx hb ht9 hS (by omega) (by decide) d_D_mixFive_178 ?_
        refine lv_iadd (pc := 179) hx hb d_D_mixFive_179 ?_
        refine lv_aload_n (pc := 180) hx hb d_D_mixFive_180 rfl (lv_at hl 2 rfl) ?_
        refine va_get (pc := 181) (D := (dC, dI)) (ci := 0) (v := .ref (q 4)) (C := R_D) (T := F_D) (N := 14) hx hb hts i_D hown hK hP 0 rfl rfl 7 (by decide) (hts _ fl_D_17) (fun _ h9 => h9) rfl d_D_mixFive_181 ?_
        refine lv_iload (pc := 184) hx hb d_D_mixFive_184 (lv_at hl 8 rfl) ?_
        refine xa_iald (pc := 186) hx hb hK hP 4 0 rfl rfl (by omega) (by decide) d_D_mixFive_186 ?_
        refine lv_iadd (pc := 187) hx hb d_D_mixFive_187 ?_
        refine lv_istore (pc := 188) (lv' := [(9, .int (((((rotl a (nI 5)) + f1) + e1) + (addedT (k / 20))) + (f k))), (8, .int f1), (7, .int (nI (k / 20))), (0, .ref (q 0)), (1, .int a), (2, .int b), (3, .int c1), (4, .int d1), (5, .int e1), (6, .int (nI k))]) hx hb d_D_mixFive_188 hl (by decide) rfl (fun ls hl => ?_)
        refine lv_iload (pc := 190) hx hb d_D_mixFive_190 (lv_at hl 7 rfl) ?_
        refine lv_istore (pc := 192) (lv' := [(5, .int d1), (9, .int (((((rotl a (nI 5)) + f1) + e1) + (addedT (k / 20))) + (f k))), (8, .int f1), (7, .int (nI (k / 20))), (0, .ref (q 0)), (1, .int a), (2, .int b), (3, .int c1), (4, .int d1), (6, .int (nI k))]) hx hb d_D_mixFive_192 hl (by decide) rfl (fun ls hl => ?_)
        refine lv_iload_n (pc := 194) hx hb d_D_mixFive_194 rfl (lv_at hl 7 rfl) ?_
        refine lv_istore (pc := 195) (lv' := [(4, .int c1), (5, .int d1), (9, .int (((((rotl a (nI 5)) + f1) + e1) + (addedT (k / 20))) + (f k))), (8, .int f1), (7, .int (nI (k / 20))), (0, .ref (q 0)), (1, .int a), (2, .int b), (3, .int c1), (6, .int (nI k))]) hx hb d_D_mixFive_195 hl (by decide) rfl (fun ls hl => ?_)
        refine lv_iload_n (pc := 197) hx hb d_D_mixFive_197 rfl (lv_at hl 7 rfl) ?_
        refine lv_bipush (pc := 198) (v := (nI 30)) hx hb d_D_mixFive_198 (by decide) ?_
        refine ksi (pc := 200) (As := [.int b, .int (nI 30)]) (rest := []) ⟨hx, hb, hml, hown, hts⟩ (c_J_rotateLeft l b (nI 30)) (va_cwS 2 hts g_D_76 rfl rfl rfl hs_J_rotateLeft ⟨by decide, by decide⟩) rfl hl.1 rfl (Nat.le_of_ble_eq_true rfl) d_D_mixFive_200 ⟨by decide, by decide⟩ (fun r10 er11 => ?_)
        subst er11
        refine lv_istore_n (pc := 203) (lv' := [(3, .int (rotl b (nI 30))), (4, .int c1), (5, .int d1), (9, .int (((((rotl a (nI 5)) + f1) + e1) + (addedT (k / 20))) + (f k))), (8, .int f1), (7, .int (nI (k / 20))), (0, .ref (q 0)), (1, .int a), (2, .int b), (6, .int (nI k))]) hx hb d_D_mixFive_203 rfl hl (by decide) rfl (fun ls hl => ?_)
        refine lv_iload_n (pc := 204) hx hb d_D_mixFive_204 rfl (lv_at hl 7 rfl) ?_
        refine lv_istore_n (pc := 205) (lv' := [(2, .int a), (3, .int (rotl b (nI 30))), (4, .int c1), (5, .int d1), (9, .int (((((rotl a (nI 5)) + f1) + e1) + (addedT (k / 20))) + (f k))), (8, .int f1), (7, .int (nI (k / 20))), (0, .ref (q 0)), (1, .int a), (6, .int (nI k))]) hx hb d_D_mixFive_205 rfl hl (by decide) rfl (fun ls hl => ?_)
        refine lv_iload (pc := 206) hx hb d_D_mixFive_206 (lv_at hl 4 rfl) ?_
        refine lv_istore_n (pc := 208) (lv' := [(1, .int (((((rotl a (nI 5)) + f1) + e1) + (addedT (k / 20))) + (f k))), (2, .int a), (3, .int (rotl b (nI 30))), (4, .int c1), (5, .int d1), (9, .int (((((rotl a (nI 5)) + f1) + e1) + (addedT (k / 20))) + (f k))), (8, .int f1), (7, .int (nI (k / 20))), (0, .ref (q 0)), (6, .int (nI k))]) hx hb d_D_mixFive_208 rfl hl (by decide) rfl (fun ls hl => ?_)
        refine lv_iinc (pc := 209) (v := (nI (k + 1))) (lv' := [(6, .int (nI (k + 1))), (1, .int (((((rotl a (nI 5)) + f1) + e1) + (addedT (k / 20))) + (f k))), (2, .int a), (3, .int (rotl b (nI 30))), (4, .int c1), (5, .int d1), (9, .int (((((rotl a (nI 5)) + f1) + e1) + (addedT (k / 20))) + (f k))), (8, .int f1), (7, .int (nI (k / 20))), (0, .ref (q 0))]) hx hb d_D_mixFive_209 hl (k := 9) rfl (inc1 _) (by decide) rfl (fun ls hl => ?_)
        refine lv_goto (pc := 212) (tgt := 103) hx hb d_D_mixFive_212 (by decide) ?_
        exact ih2 (k + 1, rotl a (nI 5) + f1 + e1 + addedT (k / 20) + f k, a, rotl b (nI 30), c1, d1) _ _ _ (by show 80 - (k + 1) < 80 - k; omega) ⟨ls, rfl, lv_sub hl [9, 1, 2, 3, 4, 5, 0] rfl, hP, hD, hS, (show (k + 1) ≤ 80 from by omega), (show ((rotl a (nI 5) + f1 + e1 + addedT (k / 20) + f k), a, (rotl b (nI 30)), c1, d1) = s1run f (st 0, st 1, st 2, st 3, st 4) (k + 1) from by rw [ef1]; show s1step f k (a, b, c1, d1, e1) = s1step f k _; rw [hq])⟩
      · refine lv_iload (pc := 117) hx hb d_D_mixFive_117 (lv_at hl 0 rfl) ?_
        refine xi_ne0 (pc := 119) (tgt := 132) hx hb d_D_mixFive_119 (by decide) (by omega) (fun r0 => ?_) (fun r0 => ?_)
        · refine lv_iload (pc := 132) hx hb d_D_mixFive_132 (lv_at hl 0 rfl) ?_
          refine lv_iconst (pc := 134) (v := (nI 2)) hx hb d_D_mixFive_134 (by decide) ?_
          refine xi_ne (pc := 135) (tgt := 154) hx hb d_D_mixFive_135 (by decide) (by omega) (by omega) (fun r2 => ?_) (fun r2 => ?_)
          · refine lv_iload_n (pc := 154) hx hb d_D_mixFive_154 rfl (lv_at hl 3 rfl) ?_
            refine lv_iload_n (pc := 155) hx hb d_D_mixFive_155 rfl (lv_at hl 4 rfl) ?_
            refine lv_ixor (pc := 156) hx hb d_D_mixFive_156 ?_
            refine lv_iload (pc := 157) hx hb d_D_mixFive_157 (lv_at hl 5 rfl) ?_
            refine lv_ixor (pc := 159) hx hb d_D_mixFive_159 ?_
            exact J _ (by rw [s1f, if_neg r0, if_neg r2])
          · refine lv_iload_n (pc := 138) hx hb d_D_mixFive_138 rfl (lv_at hl 3 rfl) ?_
            refine lv_iload_n (pc := 139) hx hb d_D_mixFive_139 rfl (lv_at hl 4 rfl) ?_
            refine lv_iand (pc := 140) hx hb d_D_mixFive_140 ?_
            refine lv_iload_n (pc := 141) hx hb d_D_mixFive_141 rfl (lv_at hl 3 rfl) ?_
            refine lv_iload (pc := 142) hx hb d_D_mixFive_142 (lv_at hl 5 rfl) ?_
            refine lv_iand (pc := 144) hx hb d_D_mixFive_144 ?_
            refine lv_ior (pc := 145) hx hb d_D_mixFive_145 ?_
            refine lv_iload_n (pc := 146) hx hb d_D_mixFive_146 rfl (lv_at hl 4 rfl) ?_
            refine lv_iload (pc := 147) hx hb d_D_mixFive_147 (lv_at hl 5 rfl) ?_
            refine lv_iand (pc := 149) hx hb d_D_mixFive_149 ?_
            refine lv_ior (pc := 150) hx hb d_D_mixFive_150 ?_
            refine lv_goto (pc := 151) (tgt := 160) hx hb d_D_mixFive_151 (by decide) ?_
            exact J _ (by rw [s1f, if_neg r0, if_pos r2])
        · refine lv_iload_n (pc := 122) hx hb d_D_mixFive_122 rfl (lv_at hl 3 rfl) ?_
          refine lv_iload_n (pc := 123) hx hb d_D_mixFive_123 rfl (lv_at hl 4 rfl) ?_
          refine lv_iload (pc := 124) hx hb d_D_mixFive_124 (lv_at hl 5 rfl) ?_
          refine ksi (pc := 126) (As := [.int b, .int c1, .int d1]) (rest := []) ⟨hx, hb, hml, hown, hts⟩ (c_D_choose l b c1 d1) (va_cwS 3 hts g_D_66 rfl rfl rfl hs_D_choose ⟨by decide, by decide⟩) rfl hl.1 rfl (Nat.le_of_ble_eq_true rfl) d_D_mixFive_126 ⟨by decide, by decide⟩ (fun r3 er4 => ?_)
          subst er4
          refine lv_goto (pc := 129) (tgt := 160) hx hb d_D_mixFive_129 (by decide) ?_
          exact J _ (by rw [s1f, if_pos r0])
  · refine lv_aload_n (pc := 9) hx hb d_D_mixFive_9 rfl (lv_at hl 0 rfl) ?_
    refine va_get (pc := 10) (D := (dC, dI)) (ci := 0) (v := .ref (q 4)) (C := R_D) (T := F_D) (N := 14) hx hb hts i_D hown hK hP 0 rfl rfl 7 (by decide) (hts _ fl_D_17) (fun _ h9 => h9) rfl d_D_mixFive_10 ?_
    refine lv_iload_n (pc := 13) hx hb d_D_mixFive_13 rfl (lv_at hl 1 rfl) ?_
    refine lv_aload_n (pc := 14) hx hb d_D_mixFive_14 rfl (lv_at hl 0 rfl) ?_
    refine va_get (pc := 15) (D := (dC, dI)) (ci := 0) (v := .ref (q 4)) (C := R_D) (T := F_D) (N := 14) hx hb hts i_D hown hK hP 0 rfl rfl 7 (by decide) (hts _ fl_D_17) (fun _ h9 => h9) rfl d_D_mixFive_15 ?_
    refine lv_iload_n (pc := 18) hx hb d_D_mixFive_18 rfl (lv_at hl 1 rfl) ?_
    refine lv_iconst (pc := 19) (v := (nI 3)) hx hb d_D_mixFive_19 (by decide) ?_
    refine xi_sub (pc := 20) hx hb d_D_mixFive_20 (by omega) ?_
    refine xa_iald (pc := 21) hx hb hK hP 4 0 rfl rfl (by omega) (by decide) d_D_mixFive_21 ?_
    refine lv_aload_n (pc := 22) hx hb d_D_mixFive_22 rfl (lv_at hl 0 rfl) ?_
    refine va_get (pc := 23) (D := (dC, dI)) (ci := 0) (v := .ref (q 4)) (C := R_D) (T := F_D) (N := 14) hx hb hts i_D hown hK hP 0 rfl rfl 7 (by decide) (hts _ fl_D_17) (fun _ h9 => h9) rfl d_D_mixFive_23 ?_
    refine lv_iload_n (pc := 26) hx hb d_D_mixFive_26 rfl (lv_at hl 1 rfl) ?_
    refine lv_bipush (pc := 27) (v := (nI 8)) hx hb d_D_mixFive_27 (by decide) ?_
    refine xi_sub (pc := 29) hx hb d_D_mixFive_29 (by omega) ?_
    refine xa_iald (pc := 30) hx hb hK hP 4 0 rfl rfl (by omega) (by decide) d_D_mixFive_30 ?_
    refine lv_ixor (pc := 31) hx hb d_D_mixFive_31 ?_
    refine lv_aload_n (pc := 32) hx hb d_D_mixFive_32 rfl (lv_at hl 0 rfl) ?_
    refine va_get (pc := 33) (D := (dC, dI)) (ci := 0) (v := .ref (q 4)) (C := R_D) (T := F_D) (N := 14) hx hb hts i_D hown hK hP 0 rfl rfl 7 (by decide) (hts _ fl_D_17) (fun _ h9 => h9) rfl d_D_mixFive_33 ?_
    refine lv_iload_n (pc := 36) hx hb d_D_mixFive_36 rfl (lv_at hl 1 rfl) ?_
    refine lv_bipush (pc := 37) (v := (nI 14)) hx hb d_D_mixFive_37 (by decide) ?_
    refine xi_sub (pc := 39) hx hb d_D_mixFive_39 (by omega) ?_
    refine xa_iald (pc := 40) hx hb hK hP 4 0 rfl rfl (by omega) (by decide) d_D_mixFive_40 ?_
    refine lv_ixor (pc := 41) hx hb d_D_mixFive_41 ?_
    refine lv_aload_n (pc := 42) hx hb d_D_mixFive_42 rfl (lv_at hl 0 rfl) ?_
    refine va_get (pc := 43) (D := (dC, dI)) (ci := 0) (v := .ref (q 4)) (C := R_D) (T := F_D) (N := 14) hx hb hts i_D hown hK hP 0 rfl rfl 7 (by decide) (hts _ fl_D_17) (fun _ h9 => h9) rfl d_D_mixFive_43 ?_
    refine lv_iload_n (pc := 46) hx hb d_D_mixFive_46 rfl (lv_at hl 1 rfl) ?_
    refine lv_bipush (pc := 47) (v := (nI 16)) hx hb d_D_mixFive_47 (by decide) ?_
    refine xi_sub (pc := 49) hx hb d_D_mixFive_49 (by omega) ?_
    refine xa_iald (pc := 50) hx hb hK hP 4 0 rfl rfl (by omega) (by decide) d_D_mixFive_50 ?_
    refine lv_ixor (pc := 51) hx hb d_D_mixFive_51 ?_
    refine lv_iconst (pc := 52) (v := (nI 1)) hx hb d_D_mixFive_52 (by decide) ?_
    refine ksi (pc := 53) (As := [.int ((((f ((16 + n) - 3)) ^^^ (f ((16 + n) - 8))) ^^^ (f ((16 + n) - 14))) ^^^ (f ((16 + n) - 16))), .int (nI 1)]) (rest := [.int (nI (16 + n)), .ref (q 4)]) ⟨hx, hb, hml, hown, hts⟩ (c_J_rotateLeft l ((((f ((16 + n) - 3)) ^^^ (f ((16 + n) - 8))) ^^^ (f ((16 + n) - 14))) ^^^ (f ((16 + n) - 16))) (nI 1)) (va_cwS 2 hts g_D_76 rfl rfl rfl hs_J_rotateLeft ⟨by decide, by decide⟩) rfl hl.1 rfl (Nat.le_of_ble_eq_true rfl) d_D_mixFive_53 ⟨by decide, by decide⟩ (fun r1 er2 => ?_)
    subst er2
    refine xa_iast (pc := 56) (x := (rotl ((((f ((16 + n) - 3)) ^^^ (f ((16 + n) - 8))) ^^^ (f ((16 + n) - 14))) ^^^ (f ((16 + n) - 16))) (nI 1))) hx hb hK hP hD hS 4 0 rfl rfl (by omega) (by decide) d_D_mixFive_56 (fun H locs hP hD hS => ?_)
    have hP : va_P (dC, dI) classes (wD cI cB q L lim rdy kc alg cnt opn mac rl key st buf (s1e f (16 + n)) fil res) H := hP
    have hD : va_D A (wD cI cB q L lim rdy kc alg cnt opn mac rl key st buf (s1e f (16 + n)) fil res) := hD
    refine lv_iinc (pc := 57) (v := (nI ((16 + n) + 1))) (lv' := [(1, .int (nI ((16 + n) + 1))), (0, .ref (q 0))]) hx hb d_D_mixFive_57 hl (k := 1) rfl (inc1 _) (by decide) rfl (fun ls hl => ?_)
    refine lv_goto (pc := 60) (tgt := 3) hx hb d_D_mixFive_60 (by decide) ?_
    exact ih (n + 1, s1e f (16 + n)) _ _ _ (by show 64 - (n + 1) < 64 - n; omega) ⟨ls, rfl, lv_sub hl [1, 0] rfl, hP, hD, hS, (show (n + 1) ≤ 64 from by omega), (show (s1e f (16 + n)) = s1xs wds (n + 1) from by rw [hf]; rfl)⟩
end
section
section XCP
variable {p : Program} {l : Launch} {e : Env} {R : Room} {s : State} {m : MethodId} {args : Array Value} {below : List Frame} {meth : Method} {c : Code} {H : Heap} {locs : List Loc} {cells slots : Nat} {Q : State → Prop}
variable {cc : ByteArray} {pc : Nat} {ls : Array Slot} {rest : List Value} {D : va_G} {cl : List vw_C} {A : Nat → Prop} {a : Nat} {tys : List (ClassId × FieldType)} {ws : va_W} {H0 : Heap}
theorem nI0_nn : ¬ nI 0 < 0 := by decide
/-- the first k of one of the world's byte rows over those of another -/
theorem xcopyB (hexec : p.tables.exec = Jvm.exec) (hb : c.code = cc) (hml : c.maxLocals = ls.size) {own : String} {index : Nat} (hown : s.vm.findClass own = some m.cls) (hlink : (Cond.methodLink own index arraycopyName).before args s = true) (hnat : (Cond.native arraycopyName).before args s = true) (hstat : (Cond.static arraycopyName).before args s = true) (hini : (Cond.initialized "java/lang/System").before args s = true)
    (hK : va_K D cl tys s) (hP : va_P D cl ws H) (hD : va_D A ws) (hS : va_S A H0 H locs) (q0 q1 t0 : Nat) {a0 : Nat} {c0 c1 : ClassId} {n0 n1 : Nat} {f g : Nat → Int32} (ha0 : ws[q0]? = some (a0, .inl (c0, n0, .inl f))) (ha1 : ws[q1]? = some (a, .inl (c1, n1, .inl g))) (ht0 : tys[t0]? = some (c0, .byte)) (ht1 : tys[t0]? = some (c1, .byte))
    {k : Nat} (h4 : k ≤ n0) (h5 : k ≤ n1) (h31 : k < 2 ^ 31) (hfit : sb_Fit f)
    (hframes : 1 ≤ R.frames) (hlocals : (rest.map fun v => v.category).sum + (nativeFrameWords "java/lang/System" "arraycopy" 5 + 11) ≤ R.locals) (hdg : decode cc pc = .ok (.invokestatic index, 3))
    (kk : ∀ (H1 : Heap) (locs1 : List Loc), va_P D cl (ws.set q1 (a, .inl (c1, n1, .inl (va_cpy f g 0 0 k)))) H1 → va_D A (ws.set q1 (a, .inl (c1, n1, .inl (va_cpy f g 0 0 k)))) → va_S A H0 H1 locs1 → W p l e R s m args below meth c H1 locs1 cells slots Q (F0 m (pc + 3) ls rest)) : W p l e R s m args below meth c H locs cells slots Q (F0 m pc ls (.int (nI k) :: .int (nI 0) :: .ref a :: .int (nI 0) :: .ref a0 :: rest)) := by
  have e0 : (nI 0).toNatClampNeg = 0 := nI_clamp (by decide)
  have ek : (nI k).toNatClampNeg = k := nI_clamp h31
  refine va_copyi hexec hb hml hown hlink hnat hstat hini hK hP hD hS q0 q1 t0 t0 ha0 ha1 ht0 ht1 rfl nI0_nn nI0_nn (nI_pos h31) (by rw [e0, ek]; omega) (by rw [e0, ek]; omega) (fun i _ => hfit _) hframes hlocals hdg (fun H1 L1 h1 h2 h3 => ?_)
  rw [e0, ek] at h1 h2
  exact kk H1 L1 h1 h2 h3
/-- the first k of a static table over one of the world's rows -/
theorem xcopyT (hexec : p.tables.exec = Jvm.exec) (hb : c.code = cc) (hml : c.maxLocals = ls.size) {own : String} {index : Nat} (hown : s.vm.findClass own = some m.cls) (hlink : (Cond.methodLink own index arraycopyName).before args s = true) (hnat : (Cond.native arraycopyName).before args s = true) (hstat : (Cond.static arraycopyName).before args s = true) (hini : (Cond.initialized "java/lang/System").before args s = true)
    (hK : va_K D cl tys s) (hP : va_P D cl ws H) (hD : va_D A ws) (hS : va_S A s.heap H locs) {t N : Nat} {f : Nat → Int32} (hT : va_T .int t N (fun j => .int (f j)) A s s.heap) (q1 t1 : Nat) {c1 : ClassId} {n1 : Nat} {g : Nat → Int32} (ha1 : ws[q1]? = some (a, .inl (c1, n1, .inl g))) (ht1 : tys[t1]? = some (c1, .int))
    {k : Nat} (h4 : k ≤ N) (h5 : k ≤ n1) (h31 : k < 2 ^ 31)
    (hframes : 1 ≤ R.frames) (hlocals : (rest.map fun v => v.category).sum + (nativeFrameWords "java/lang/System" "arraycopy" 5 + 11) ≤ R.locals) (hdg : decode cc pc = .ok (.invokestatic index, 3))
    (kk : ∀ (H1 : Heap) (locs1 : List Loc), va_P D cl (ws.set q1 (a, .inl (c1, n1, .inl (va_cpy f g 0 0 k)))) H1 → va_D A (ws.set q1 (a, .inl (c1, n1, .inl (va_cpy f g 0 0 k)))) → va_S A s.heap H1 locs1 → W p l e R s m args below meth c H1 locs1 cells slots Q (F0 m (pc + 3) ls rest)) : W p l e R s m args below meth c H locs cells slots Q (F0 m pc ls (.int (nI k) :: .int (nI 0) :: .ref a :: .int (nI 0) :: .ref t :: rest)) := by
  have e0 : (nI 0).toNatClampNeg = 0 := nI_clamp (by decide)
  have ek : (nI k).toNatClampNeg = k := nI_clamp h31
  have i0 : (nI 0).toInt = 0 := by decide
  have ik : (nI k).toInt = (k : Int) := nI_toInt h31
  intro T hT0 X
  obtain ⟨cell, g1, ⟨g2, kx, g3, cmx, g4⟩, g5, g6, g7, g8, g9⟩ := hT
  have hc0 : H[t]? = some cell := by rw [hS.2.1 t (Array.getElem?_eq_some_iff.mp g1).1 g9]; exact g1
  have hc1 : H[a]? = some (vp_cell c1 (n1, .inl g)) := hP q1 _ ha1
  obtain ⟨-, k1, hk1, cm1, hkk1⟩ := (hK.2 t1 _ ht1).1 n1 (fun j => .int (g j))
  have hz1 : (vp_cell c1 (n1, .inl g)).slots.size = n1 := arrV_size c1 n1 (fun j => .int (g j))
  have hval : ∀ i, i < k → cell.slots.getD i .null = .int (f i) := fun i hi => by
    rw [Array.getD_eq_getD_getElem?, g8 i (by omega)]; rfl
  obtain ⟨vm', X', step⟩ := X.arraycopy hexec hown hlink hnat hstat hini (src := t) (dst := a) (cs := cell) (cd := vp_cell c1 (n1, .inl g)) (srcPos := nI 0) (destPos := nI 0) (n := nI k) (by rw [hT0]; exact hc0) (by rw [hT0]; exact hc1)
    g2 (fun _ h => by cases h) g5 (fun h => by cases h) g3 hk1 g4 hkk1 (by simp [refKind]) nI0_nn nI0_nn (nI_pos h31) (by rw [i0, ik]; omega) (by rw [i0, ik, hz1]; omega)
    (fun vm₁ _ i hi => by
      rw [ek] at hi
      rw [e0, Nat.zero_add, hval i hi]
      exact ⟨rfl, trivial⟩)
    (g := F0 m pc ls (.int (nI k) :: .int (nI 0) :: .ref a :: .int (nI 0) :: .ref t :: rest)) rfl (by rw [hml]) (rest := rest) rfl (by rw [hb]; exact hdg) hframes (by show 2 * 0 + _ + _ ≤ _; omega)
  have e1 : copied cell (vp_cell c1 (n1, .inl g)) (nI 0) (nI 0) (nI k) = vp_cell c1 (n1, .inl (va_cpy f g 0 0 k)) := by
    have e2 := va_copiedX (fun z => .int z) cell c1 (n0 := N) (n1 := n1) (sp := (nI 0).toNatClampNeg) (dp := (nI 0).toNatClampNeg) (n := (nI k).toNatClampNeg) f g g8 (by rw [e0, ek]; omega)
    rw [e0, ek] at e2
    rw [← vp_cell_i] at e2
    have e3 : copied cell (vp_cell c1 (n1, .inl g)) (nI 0) (nI 0) (nI k) = (vp_cell c1 (n1, .inl g)).storeRun (nI 0).toNatClampNeg (cell.stretch (nI 0).toNatClampNeg (nI k).toNatClampNeg) := rfl
    rw [e3, e0, ek]
    exact e2
  rw [e1] at X' step
  generalize hH1 : H.setIfInBounds a (vp_cell c1 (n1, .inl (va_cpy f g 0 0 k))) = H1 at *
  have hheap : ((T.setVm vm').setCell a (vp_cell c1 (n1, .inl (va_cpy f g 0 0 k)))).heap = H1 := by rw [← hH1, ← hT0]; rfl
  have oq : ∀ z : Nat, z ≠ a → H1[z]? = H[z]? := fun z hz => by rw [← hH1]; simp [Array.getElem?_setIfInBounds, Ne.symm hz]
  have hl : a < H.size := (Array.getElem?_eq_some_iff.mp hc1).1
  have hsz : H1.size = H.size := by rw [← hH1]; simp
  have hat : H1[a]? = some (vp_cell c1 (n1, .inl (va_cpy f g 0 0 k))) := by rw [← hH1]; simp [Array.getElem?_setIfInBounds, hl]
  obtain ⟨t2, b1, b2⟩ := kk H1 _ (hP.set hD ha1 hat oq) (hD.set ha1) ⟨by rw [hsz]; exact hS.1, fun z y1 y2 => by
      rw [oq z (fun w => y2 (by rw [w]; exact hD.2 q1 _ ha1))]; exact hS.2.1 z y1 y2, fun z hz => by
      rcases List.mem_append.mp hz with h | h
      · exact hS.2.2 z h
      · obtain ⟨y, -, hy⟩ := List.mem_map.mp h
        rw [← hy]
        exact hD.2 q1 _ ha1⟩ _ hheap X'
  exact ⟨t2, step t2 b1, b2⟩
end XCP
end
section
set_option maxHeartbeats 4000000 in
set_option maxRecDepth 100000 in
/-- put: one byte more -/
theorem c_D_put (l : Launch) (dC : Nat → ClassId) (dI : Nat → Nat → Nat) (cI cB : ClassId) (q : Nat → Nat) (sz : Nat) (L : Nat) (lim rdy kc alg opn mac rl : Int32) (key st buf wds fil res : Nat → Int32) (blk : Nat → Int32) (n : Nat) (b : Int32) (hn : n < 2 ^ 61) (h8 : R8 buf blk) : Met l y_D_put (k_D_put :: tT) ({ frames := 2, cells := 0, slots := 0, locals := 51 }) (va_Pc [.ref (q 0), .int b] (pD (dC, dI) cI cB sz (wD cI cB q L lim rdy kc alg (lN n) opn mac rl key st buf wds fil res))) (va_Qv (fun u : (Nat → Int32) × (Nat → Int32) × (Nat → Int32) => u.1 = (hput alg (b &&& nI 255) (st, blk, n)).1 ∧ R8 u.2.1 (hput alg (b &&& nI 255) (st, blk, n)).2.1) (fun u t => qD (dC, dI) cI cB (va_A (wD cI cB q L lim rdy kc alg (lN n) opn mac rl key st buf wds fil res) sz) (wD cI cB q L lim rdy kc alg (lN (n + 1)) opn mac rl key u.1 u.2.1 u.2.2 fil res) t) (va_A (wD cI cB q L lim rdy kc alg (lN n) opn mac rl key st buf wds fil res) sz)) 0 0 (va_A (wD cI cB q L lim rdy kc alg (lN n) opn mac rl key st buf wds fil res) sz) := by
  refine Met.ofW (cc := b_D_put) (maxL := 5) (ret := none) (by decide) rfl ?_
  intro p e s m args below meth c s₁ B hml hv
  obtain ⟨rfl, hsz, hP, hK, hD0, hST⟩ := hv
  have hx := B.exec
  have hb := B.bytes
  have hr := B.returns
  have hts : ∀ w ∈ tT, w.before _ s = true := fun w h => atoms_spec (ws := k_D_put :: tT) B.pre w (List.mem_cons_of_mem _ h)
  have hown : s.vm.findClass R_D = some m.cls := findClass_of_methodNamed B.named
  have hlocks := B.notSynchronized
  subst hsz
  have hD := hD0.self (sz := s.heap.size)
  generalize hAe : va_A (wD cI cB q L lim rdy kc alg (lN n) opn mac rl key st buf wds fil res) s.heap.size = A at hD hST ⊢
  have hA : ∀ q : Nat, s.heap.size ≤ q → A q := fun q h => by rw [← hAe]; exact Or.inr h
  have hS : va_S A s.heap s.heap [] := va_S.rf
  have hP : va_P (dC, dI) classes (wD cI cB q L lim rdy kc alg (lN n) opn mac rl key st buf wds fil res) s.heap := hP
  have hl := lv_entry ([.ref (q 0), .int b]) (n := 5) (Nat.le_of_ble_eq_true rfl)
  rw [lg_entry_eq]
  generalize (lg_sl ([.ref (q 0), .int b]) ++ List.replicate (5 - (lg_sl ([.ref (q 0), .int b])).length) Slot.unset).toArray = ls at hl ⊢
  have hl : lv_has ls 5 [(0, .ref (q 0)), (1, .int b)] := hl
  refine lv_aload_n (pc := 0) hx hb d_D_put_0 rfl (lv_at hl 0 rfl) ?_
  refine va_get (pc := 1) (D := (dC, dI)) (ci := 0) (v := .ref (q 3)) (C := R_D) (T := F_D) (N := 14) hx hb hts i_D hown hK hP 0 rfl rfl 6 (by decide) (hts _ fl_D_13) (fun _ h9 => h9) rfl d_D_put_1 ?_
  refine lv_aload_n (pc := 4) hx hb d_D_put_4 rfl (lv_at hl 0 rfl) ?_
  refine lv_dup (pc := 5) hx hb d_D_put_5 rfl ?_
  refine va_get (pc := 6) (D := (dC, dI)) (ci := 0) (v := .long (lN n)) (C := R_D) (T := F_D) (N := 14) hx hb hts i_D hown hK hP 0 rfl rfl 8 (by decide) (hts _ fl_D_45) (fun _ h9 => h9) rfl d_D_put_6 ?_
  refine lv_dup2_x1_2 (pc := 9) hx hb d_D_put_9 rfl rfl ?_
  refine lv_lconst (pc := 10) (v := (lN 1)) hx hb d_D_put_10 rfl ?_
  refine xl_add (pc := 11) hx hb d_D_put_11 ?_
  refine va_put (pc := 12) (D := (dC, dI)) (ci := 0) (v := .long (lN (n + 1))) (ty := .long) (C := R_D) (T := F_D) (N := 14) hx hb hts i_D t_D t_D_ok n_D hown hK hP hD hS 0 rfl rfl 8 (by decide) (hts _ fl_D_45) (fun _ h9 => h9) rfl (by decide +kernel) rfl rfl (Nat.le_of_ble_eq_true rfl) d_D_put_12 (fun H locs hP hD hS => ?_)
  have hP : va_P (dC, dI) classes (wD cI cB q L lim rdy kc alg (lN (n + 1)) opn mac rl key st buf wds fil res) H := hP
  have hD : va_D A (wD cI cB q L lim rdy kc alg (lN (n + 1)) opn mac rl key st buf wds fil res) := hD
  refine lv_ldc2 (pc := 15) hx hb hown (hts _ cn_D_58) d_D_put_15 ?_
  refine xs_l (y := (lN 64)) (rfl) ?_
  refine xl_rem (pc := 18) hx hb d_D_put_18 (by omega) (by decide) (by decide) ?_
  refine lv_l2i (pc := 19) (v := nI (n % 64)) hx hb d_D_put_19 (lN_i _) ?_
  refine lv_iload_n (pc := 20) hx hb d_D_put_20 rfl (lv_at hl 1 rfl) ?_
  refine lv_i2b (pc := 21) (v := b.toInt8.toInt32) hx hb d_D_put_21 rfl ?_
  refine xa_bast (pc := 22) (x := b.toInt8.toInt32) hx hb hK hP hD hS 3 1 rfl rfl (y := b.toInt8.toInt32) (pk_vb _) (by omega) (by decide) d_D_put_22 (fun H locs hP hD hS => ?_)
  have hP : va_P (dC, dI) classes (wD cI cB q L lim rdy kc alg (lN (n + 1)) opn mac rl key st (upd buf (n % 64) b.toInt8.toInt32) wds fil res) H := hP
  have hD : va_D A (wD cI cB q L lim rdy kc alg (lN (n + 1)) opn mac rl key st (upd buf (n % 64) b.toInt8.toInt32) wds fil res) := hD
  refine lv_aload_n (pc := 23) hx hb d_D_put_23 rfl (lv_at hl 0 rfl) ?_
  refine va_get (pc := 24) (D := (dC, dI)) (ci := 0) (v := .long (lN (n + 1))) (C := R_D) (T := F_D) (N := 14) hx hb hts i_D hown hK hP 0 rfl rfl 8 (by decide) (hts _ fl_D_45) (fun _ h9 => h9) rfl d_D_put_24 ?_
  refine lv_ldc2 (pc := 27) hx hb hown (hts _ cn_D_58) d_D_put_27 ?_
  refine xs_l (y := (lN 64)) (rfl) ?_
  refine xl_rem (pc := 30) hx hb d_D_put_30 (by omega) (by decide) (by decide) ?_
  refine lv_lconst (pc := 31) (v := (lN 0)) hx hb d_D_put_31 rfl ?_
  refine W.lcmp (pc := 32) hx hb d_D_put_32 ?_
  have h8 := h8.byte (n % 64) b
  refine lv_if_ne (pc := 33) (tgt := 137) hx hb d_D_put_33 (by decide) (fun c0 => ?_) (fun c0 => ?_)
  · have c1 : n % 64 ≠ 63 := fun z => c0 ((lc0 (by omega) (by decide)).mpr (by omega))
    exact W.vret hx hb hr (fun t ht hW => ⟨⟨(st, (upd buf (n % 64) b.toInt8.toInt32), wds), rfl, ⟨(hput_1 c1).symm, h8⟩, by rw [ht]; exact hP, va_K.moved hW.alike hK, hD⟩, hS.F ht⟩) hS.2.2 d_D_put_137
  · have c1 : (n + 1) % 64 = 0 := (lc0 (by omega) (by decide)).mp c0
    refine lv_iconst (pc := 36) (v := (nI 0)) hx hb d_D_put_36 (by decide) ?_
    refine lv_istore_n (pc := 37) (lv' := [(2, .int (nI 0)), (0, .ref (q 0)), (1, .int b)]) hx hb d_D_put_37 rfl hl (by decide) rfl (fun ls hl => ?_)
    refine lp (α := Nat × (Nat → Int32)) (fun x => 16 - x.1) (fun x H1 locs1 g => ∃ ls, g = F0 m 38 ls [] ∧ lv_has ls 5 [(0, .ref (q 0)), (1, .int b), (2, .int (nI x.1))] ∧ va_P (dC, dI) classes (wD cI cB q L lim rdy kc alg (lN (n + 1)) opn mac rl key st (upd buf (n % 64) b.toInt8.toInt32) x.2 fil res) H1 ∧ va_D A (wD cI cB q L lim rdy kc alg (lN (n + 1)) opn mac rl key st (upd buf (n % 64) b.toInt8.toInt32) x.2 fil res) ∧ va_S A s.heap H1 locs1 ∧ x.1 ≤ 16 ∧ ∀ j, j < x.1 → x.2 j = wof alg (upd blk (n % 64) (b &&& nI 255)) j) ?_ (0, wds) ⟨ls, rfl, lv_sub hl [1, 2, 0] rfl, hP, hD, hS, (show 0 ≤ 16 from by omega), (show ∀ j, j < 0 → wds j = wof alg (upd blk (n % 64) (b &&& nI 255)) j from fun j h => absurd h (Nat.not_lt_zero _))⟩
    rintro ⟨k, f⟩ H locs g ih ⟨ls, rfl, hl, hP, hD, hS, hk, hf⟩
    have hl : lv_has ls 5 [(0, .ref (q 0)), (1, .int b), (2, .int (nI k))] := hl
    have hP : va_P (dC, dI) classes (wD cI cB q L lim rdy kc alg (lN (n + 1)) opn mac rl key st (upd buf (n % 64) b.toInt8.toInt32) f fil res) H := hP
    have hD : va_D A (wD cI cB q L lim rdy kc alg (lN (n + 1)) opn mac rl key st (upd buf (n % 64) b.toInt8.toInt32) f fil res) := hD
    have hk : k ≤ 16 := hk
    have hf : ∀ j, j < k → f j = wof alg (upd blk (n % 64) (b &&& nI 255)) j := hf
    refine lv_iload_n (pc := 38) hx hb d_D_put_38 rfl (lv_at hl 2 rfl) ?_
    refine lv_bipush (pc := 39) (v := (nI 16)) hx hb d_D_put_39 (by decide) ?_
    refine xi_ge (pc := 41) (tgt := 119) hx hb d_D_put_41 (by decide) (by omega) (by omega) (fun c2 => ?_) (fun c2 => ?_)
    · have hs2 : k = 16 := by omega
      subst hs2
      refine lv_aload_n (pc := 119) hx hb d_D_put_119 rfl (lv_at hl 0 rfl) ?_
      refine va_get (pc := 120) (D := (dC, dI)) (ci := 0) (v := .int alg) (C := R_D) (T := F_D) (N := 14) hx hb hts i_D hown hK hP 0 rfl rfl 4 (by decide) (hts _ fl_D_42) (fun _ h9 => h9) rfl d_D_put_120 ?_
      refine lv_if_ne (pc := 123) (tgt := 133) hx hb d_D_put_123 (by decide) (fun c4 => ?_) (fun c4 => ?_)
      · refine lv_aload_n (pc := 133) hx hb d_D_put_133 rfl (lv_at hl 0 rfl) ?_
        refine kvG (pc := 134) (As := []) (rest := []) (wr := []) (ci := 0) ⟨hx, hb, hml, hown, hts⟩ (c_D_mixFive l dC dI cI cB q H.size L lim rdy kc alg opn mac rl (lN (n + 1)) key st (upd buf (n % 64) b.toInt8.toInt32) f fil res) (cwV 0 hts g_D_63 rfl rfl rfl hd_D_mixFive ⟨by decide, by decide⟩) hK hP hD hS hA hST [0, 1, 2, 3, 4, 5, 6] [] rfl rfl (by decide) (by decide) (by decide) rfl rfl rfl hl.1 rfl (Nat.le_of_ble_eq_true rfl) d_D_put_134 ⟨by decide, by decide⟩ (fun u H locs hw hP hD hS => ?_)
        obtain ⟨u1, u2⟩ := u
        have hP : va_P (dC, dI) classes (wD cI cB q L lim rdy kc alg (lN (n + 1)) opn mac rl key u1 (upd buf (n % 64) b.toInt8.toInt32) u2 fil res) H := hP
        have hD : va_D A (wD cI cB q L lim rdy kc alg (lN (n + 1)) opn mac rl key u1 (upd buf (n % 64) b.toInt8.toInt32) u2 fil res) := hD
        exact W.vret hx hb hr (fun t ht hW => ⟨⟨(u1, (upd buf (n % 64) b.toInt8.toInt32), u2), rfl, ⟨by rw [hput_2 (by omega)]; exact hw.trans (comp_1 c4 hf), h8⟩, by rw [ht]; exact hP, va_K.moved hW.alike hK, hD⟩, hS.F ht⟩) hS.2.2 d_D_put_137
      · refine lv_aload_n (pc := 126) hx hb d_D_put_126 rfl (lv_at hl 0 rfl) ?_
        refine kvG (pc := 127) (As := []) (rest := []) (wr := []) (ci := 0) ⟨hx, hb, hml, hown, hts⟩ (c_D_mixFour l dC dI cI cB q H.size L lim rdy kc alg opn mac rl (lN (n + 1)) key st (upd buf (n % 64) b.toInt8.toInt32) f fil res) (cwV 0 hts g_D_60 rfl rfl rfl hd_D_mixFour ⟨by decide, by decide⟩) hK hP hD hS hA hST [0, 1, 2, 3, 4, 5, 6] [] rfl rfl (by decide) (by decide) (by decide) rfl rfl rfl hl.1 rfl (Nat.le_of_ble_eq_true rfl) d_D_put_127 ⟨by decide, by decide⟩ (fun u H locs hw hP hD hS => ?_)
        have hP : va_P (dC, dI) classes (wD cI cB q L lim rdy kc alg (lN (n + 1)) opn mac rl key u (upd buf (n % 64) b.toInt8.toInt32) f fil res) H := hP
        have hD : va_D A (wD cI cB q L lim rdy kc alg (lN (n + 1)) opn mac rl key u (upd buf (n % 64) b.toInt8.toInt32) f fil res) := hD
        refine lv_goto (pc := 130) (tgt := 137) hx hb d_D_put_130 (by decide) ?_
        exact W.vret hx hb hr (fun t ht hW => ⟨⟨(u, (upd buf (n % 64) b.toInt8.toInt32), f), rfl, ⟨by rw [hput_2 (by omega)]; exact hw.trans (comp_0 c4 hf), h8⟩, by rw [ht]; exact hP, va_K.moved hW.alike hK, hD⟩, hS.F ht⟩) hS.2.2 d_D_put_137
    · refine lv_aload_n (pc := 44) hx hb d_D_put_44 rfl (lv_at hl 0 rfl) ?_
      refine va_get (pc := 45) (D := (dC, dI)) (ci := 0) (v := .ref (q 4)) (C := R_D) (T := F_D) (N := 14) hx hb hts i_D hown hK hP 0 rfl rfl 7 (by decide) (hts _ fl_D_17) (fun _ h9 => h9) rfl d_D_put_45 ?_
      refine lv_iload_n (pc := 48) hx hb d_D_put_48 rfl (lv_at hl 2 rfl) ?_
      refine lv_iconst (pc := 49) (v := (nI 0)) hx hb d_D_put_49 (by decide) ?_
      refine xa_iast (pc := 50) (x := (nI 0)) hx hb hK hP hD hS 4 0 rfl rfl (by omega) (by decide) d_D_put_50 (fun H locs hP hD hS => ?_)
      have hP : va_P (dC, dI) classes (wD cI cB q L lim rdy kc alg (lN (n + 1)) opn mac rl key st (upd buf (n % 64) b.toInt8.toInt32) (upd f k (nI 0)) fil res) H := hP
      have hD : va_D A (wD cI cB q L lim rdy kc alg (lN (n + 1)) opn mac rl key st (upd buf (n % 64) b.toInt8.toInt32) (upd f k (nI 0)) fil res) := hD
      refine lv_iconst (pc := 51) (v := (nI 0)) hx hb d_D_put_51 (by decide) ?_
      refine lv_istore_n (pc := 52) (lv' := [(3, .int (nI 0)), (0, .ref (q 0)), (1, .int b), (2, .int (nI k))]) hx hb d_D_put_52 rfl hl (by decide) rfl (fun ls hl => ?_)
      refine lp (α := Nat) (fun x => 4 - x) (fun x H1 locs1 g => ∃ ls, g = F0 m 53 ls [] ∧ lv_has ls 5 [(0, .ref (q 0)), (1, .int b), (2, .int (nI k)), (3, .int (nI x))] ∧ va_P (dC, dI) classes (wD cI cB q L lim rdy kc alg (lN (n + 1)) opn mac rl key st (upd buf (n % 64) b.toInt8.toInt32) (upd f k (wp alg (upd blk (n % 64) (b &&& nI 255)) k x)) fil res) H1 ∧ va_D A (wD cI cB q L lim rdy kc alg (lN (n + 1)) opn mac rl key st (upd buf (n % 64) b.toInt8.toInt32) (upd f k (wp alg (upd blk (n % 64) (b &&& nI 255)) k x)) fil res) ∧ va_S A s.heap H1 locs1 ∧ x ≤ 4) ?_ (0) ⟨ls, rfl, lv_sub hl [1, 2, 3, 0] rfl, hP, hD, hS, (show 0 ≤ 4 from by omega)⟩
      rintro i H locs g ih2 ⟨ls, rfl, hl, hP, hD, hS, hi⟩
      have hl : lv_has ls 5 [(0, .ref (q 0)), (1, .int b), (2, .int (nI k)), (3, .int (nI i))] := hl
      have hP : va_P (dC, dI) classes (wD cI cB q L lim rdy kc alg (lN (n + 1)) opn mac rl key st (upd buf (n % 64) b.toInt8.toInt32) (upd f k (wp alg (upd blk (n % 64) (b &&& nI 255)) k i)) fil res) H := hP
      have hD : va_D A (wD cI cB q L lim rdy kc alg (lN (n + 1)) opn mac rl key st (upd buf (n % 64) b.toInt8.toInt32) (upd f k (wp alg (upd blk (n % 64) (b &&& nI 255)) k i)) fil res) := hD
      have hi : i ≤ 4 := hi
      refine lv_iload_n (pc := 53) hx hb d_D_put_53 rfl (lv_at hl 3 rfl) ?_
      refine lv_iconst (pc := 54) (v := (nI 4)) hx hb d_D_put_54 (by decide) ?_
      refine xi_ge (pc := 55) (tgt := 113) hx hb d_D_put_55 (by decide) (by omega) (by omega) (fun c3 => ?_) (fun c3 => ?_)
      · have hs1 : i = 4 := by omega
        subst hs1
        refine lv_iinc (pc := 113) (v := (nI (k + 1))) (lv' := [(2, .int (nI (k + 1))), (0, .ref (q 0)), (1, .int b), (3, .int (nI 4))]) hx hb d_D_put_113 hl (k := 2) rfl (inc1 _) (by decide) rfl (fun ls hl => ?_)
        refine lv_goto (pc := 116) (tgt := 38) hx hb d_D_put_116 (by decide) ?_
        exact ih (k + 1, upd f k (wp alg (upd blk (n % 64) (b &&& nI 255)) k 4)) _ _ _ (by show 16 - (k + 1) < 16 - k; omega) ⟨ls, rfl, lv_sub hl [1, 2, 0] rfl, hP, hD, hS, (show (k + 1) ≤ 16 from by omega), (show ∀ j, j < (k + 1) → (upd f k (wp alg (upd blk (n % 64) (b &&& nI 255)) k 4)) j = wof alg (upd blk (n % 64) (b &&& nI 255)) j from upd_lt hf (wp_wof _ _ _))⟩
      · refine lv_aload_n (pc := 58) hx hb d_D_put_58 rfl (lv_at hl 0 rfl) ?_
        refine va_get (pc := 59) (D := (dC, dI)) (ci := 0) (v := .int alg) (C := R_D) (T := F_D) (N := 14) hx hb hts i_D hown hK hP 0 rfl rfl 4 (by decide) (hts _ fl_D_42) (fun _ h9 => h9) rfl d_D_put_59 ?_
        refine jn_i (fun s1 : Int32 => s1 = nI (wsh alg i)) 79 ls [] (fun s1 es1 => ?_) (fun J => ?_)
        · refine xs_i (y := (nI (wsh alg i))) (es1) ?_
          refine lv_istore (pc := 79) (lv' := [(4, .int (nI (wsh alg i))), (0, .ref (q 0)), (1, .int b), (2, .int (nI k)), (3, .int (nI i))]) hx hb d_D_put_79 hl (by decide) rfl (fun ls hl => ?_)
          refine lv_aload_n (pc := 81) hx hb d_D_put_81 rfl (lv_at hl 1 rfl) ?_
          refine va_get (pc := 82) (D := (dC, dI)) (ci := 0) (v := .ref (q 4)) (C := R_D) (T := F_D) (N := 14) hx hb hts i_D hown hK hP 0 rfl rfl 7 (by decide) (hts _ fl_D_17) (fun _ h9 => h9) rfl d_D_put_82 ?_
          refine lv_iload_n (pc := 85) hx hb d_D_put_85 rfl (lv_at hl 3 rfl) ?_
          refine lv_dup2_11 (pc := 86) hx hb d_D_put_86 rfl rfl ?_
          refine xa_iald (pc := 87) hx hb hK hP 4 0 rfl rfl (by omega) (by decide) d_D_put_87 ?_
          refine lv_aload_n (pc := 88) hx hb d_D_put_88 rfl (lv_at hl 1 rfl) ?_
          refine va_get (pc := 89) (D := (dC, dI)) (ci := 0) (v := .ref (q 3)) (C := R_D) (T := F_D) (N := 14) hx hb hts i_D hown hK hP 0 rfl rfl 6 (by decide) (hts _ fl_D_13) (fun _ h9 => h9) rfl d_D_put_89 ?_
          refine lv_iconst (pc := 92) (v := (nI 4)) hx hb d_D_put_92 (by decide) ?_
          refine lv_iload_n (pc := 93) hx hb d_D_put_93 rfl (lv_at hl 3 rfl) ?_
          refine xi_mul (pc := 94) hx hb d_D_put_94 ?_
          refine lv_iload_n (pc := 95) hx hb d_D_put_95 rfl (lv_at hl 4 rfl) ?_
          refine xi_add (pc := 96) hx hb d_D_put_96 ?_
          refine xa_bald (pc := 97) hx hb hK hP 3 1 rfl rfl (by omega) (by decide) d_D_put_97 ?_
          refine lv_sipush (pc := 98) (v := (nI 255)) hx hb d_D_put_98 (by decide) ?_
          refine lv_iand (pc := 101) hx hb d_D_put_101 ?_
          refine lv_iload (pc := 102) hx hb d_D_put_102 (lv_at hl 0 rfl) ?_
          refine lv_ishl (pc := 104) hx hb d_D_put_104 ?_
          refine lv_ior (pc := 105) hx hb d_D_put_105 ?_
          refine xa_iast (pc := 106) (x := (((upd f k (wp alg (upd blk (n % 64) (b &&& nI 255)) k i)) k) ||| ((((upd buf (n % 64) b.toInt8.toInt32) ((4 * k) + i)) &&& (nI 255)) <<< ((nI (wsh alg i)) &&& 31)))) hx hb hK hP hD hS 4 0 rfl rfl (by omega) (by decide) d_D_put_106 (fun H locs hP hD hS => ?_)
          have hP : va_P (dC, dI) classes (wD cI cB q L lim rdy kc alg (lN (n + 1)) opn mac rl key st (upd buf (n % 64) b.toInt8.toInt32) (upd (upd f k (wp alg (upd blk (n % 64) (b &&& nI 255)) k i)) k (((upd f k (wp alg (upd blk (n % 64) (b &&& nI 255)) k i)) k) ||| ((((upd buf (n % 64) b.toInt8.toInt32) ((4 * k) + i)) &&& (nI 255)) <<< ((nI (wsh alg i)) &&& 31)))) fil res) H := hP
          have hD : va_D A (wD cI cB q L lim rdy kc alg (lN (n + 1)) opn mac rl key st (upd buf (n % 64) b.toInt8.toInt32) (upd (upd f k (wp alg (upd blk (n % 64) (b &&& nI 255)) k i)) k (((upd f k (wp alg (upd blk (n % 64) (b &&& nI 255)) k i)) k) ||| ((((upd buf (n % 64) b.toInt8.toInt32) ((4 * k) + i)) &&& (nI 255)) <<< ((nI (wsh alg i)) &&& 31)))) fil res) := hD
          have eW : (upd (upd f k (wp alg (upd blk (n % 64) (b &&& nI 255)) k i)) k (((upd f k (wp alg (upd blk (n % 64) (b &&& nI 255)) k i)) k) ||| ((((upd buf (n % 64) b.toInt8.toInt32) ((4 * k) + i)) &&& (nI 255)) <<< ((nI (wsh alg i)) &&& 31)))) = upd f k (wp alg (upd blk (n % 64) (b &&& nI 255)) k (i + 1)) := by rw [upd_u, upd_s, h8]; rfl
          rw [eW] at hP hD
          have hP : va_P (dC, dI) classes (wD cI cB q L lim rdy kc alg (lN (n + 1)) opn mac rl key st (upd buf (n % 64) b.toInt8.toInt32) (upd f k (wp alg (upd blk (n % 64) (b &&& nI 255)) k (i + 1))) fil res) H := hP
          have hD : va_D A (wD cI cB q L lim rdy kc alg (lN (n + 1)) opn mac rl key st (upd buf (n % 64) b.toInt8.toInt32) (upd f k (wp alg (upd blk (n % 64) (b &&& nI 255)) k (i + 1))) fil res) := hD
          refine lv_iinc (pc := 107) (v := (nI (i + 1))) (lv' := [(3, .int (nI (i + 1))), (4, .int (nI (wsh alg i))), (0, .ref (q 0)), (1, .int b), (2, .int (nI k))]) hx hb d_D_put_107 hl (k := 4) rfl (inc1 _) (by decide) rfl (fun ls hl => ?_)
          refine lv_goto (pc := 110) (tgt := 53) hx hb d_D_put_110 (by decide) ?_
          exact ih2 (i + 1) _ _ _ (by show 4 - (i + 1) < 4 - i; omega) ⟨ls, rfl, lv_sub hl [2, 3, 4, 0] rfl, hP, hD, hS, (show (i + 1) ≤ 4 from by omega)⟩
        · refine lv_if_ne (pc := 62) (tgt := 72) hx hb d_D_put_62 (by decide) (fun c4 => ?_) (fun c4 => ?_)
          · refine lv_bipush (pc := 72) (v := (nI 24)) hx hb d_D_put_72 (by decide) ?_
            refine lv_bipush (pc := 74) (v := (nI 8)) hx hb d_D_put_74 (by decide) ?_
            refine lv_iload_n (pc := 76) hx hb d_D_put_76 rfl (lv_at hl 3 rfl) ?_
            refine xi_mul (pc := 77) hx hb d_D_put_77 ?_
            refine xi_sub (pc := 78) hx hb d_D_put_78 (by omega) ?_
            exact J _ (by rw [wsh, if_neg c4])
          · refine lv_bipush (pc := 65) (v := (nI 8)) hx hb d_D_put_65 (by decide) ?_
            refine lv_iload_n (pc := 67) hx hb d_D_put_67 rfl (lv_at hl 3 rfl) ?_
            refine xi_mul (pc := 68) hx hb d_D_put_68 ?_
            refine lv_goto (pc := 69) (tgt := 79) hx hb d_D_put_69 (by decide) ?_
            exact J _ (by rw [wsh, if_pos c4])
end
section
theorem hlen_le (alg : Int32) : hlen alg ≤ 20 := by unfold hlen; split <;> decide
theorem hlen_or (alg : Int32) : hlen alg = 16 ∨ hlen alg = 20 := by unfold hlen; split <;> simp
theorem e128 : nI 128 &&& nI 255 = nI 128 := by decide
theorem e0_255 : nI 0 &&& nI 255 = nI 0 := by decide
theorem hzn_end {n j : Nat} (hj : j ≤ hzn n) (h : (n + j) % 64 = 56) : j = hzn n := by unfold hzn at *; omega
theorem hzn_go {n j : Nat} (hj : j ≤ hzn n) (h : ¬ (n + j) % 64 = 56) : j < hzn n := by unfold hzn at *; omega
theorem dig8 (alg : Int32) (st : Nat → Int32) (k : Nat) : (st (k / 4) >>> (nI (dsh alg k) &&& 31)).toInt8.toInt32 &&& nI 255 = hdig alg st k := (b8 _).trans (sh8 _ _ (dsh_le alg k))
end
section
set_option maxHeartbeats 4000000 in
set_option maxRecDepth 100000 in
/-- begin: a hash begins -/
theorem c_D_begin (l : Launch) (dC : Nat → ClassId) (dI : Nat → Nat → Nat) (cI cB : ClassId) (q : Nat → Nat) (sz : Nat) (L : Nat) (lim rdy kc alg opn mac rl : Int32) (cnt : Int64) (key st buf wds fil res : Nat → Int32) (wh : Int32)  : Met l y_D_begin (k_D_begin :: tT) ({ frames := 1, cells := 0, slots := 0, locals := 40 }) (va_Pc [.ref (q 0), .int wh] (pD (dC, dI) cI cB sz (wD cI cB q L lim rdy kc alg cnt opn mac rl key st buf wds fil res))) (va_Qv (fun u : Unit => True) (fun u t => qD (dC, dI) cI cB (va_A (wD cI cB q L lim rdy kc alg cnt opn mac rl key st buf wds fil res) sz) (wD cI cB q L lim rdy kc wh (lN 0) opn mac rl key (hini st) buf wds fil res) t) (va_A (wD cI cB q L lim rdy kc alg cnt opn mac rl key st buf wds fil res) sz)) 0 0 (va_A (wD cI cB q L lim rdy kc alg cnt opn mac rl key st buf wds fil res) sz) := by
  refine Met.ofW (cc := b_D_begin) (maxL := 2) (ret := none) (by decide) rfl ?_
  intro p e s m args below meth c s₁ B hml hv
  obtain ⟨rfl, hsz, hP, hK, hD0, hST⟩ := hv
  have hx := B.exec
  have hb := B.bytes
  have hr := B.returns
  have hts : ∀ w ∈ tT, w.before _ s = true := fun w h => atoms_spec (ws := k_D_begin :: tT) B.pre w (List.mem_cons_of_mem _ h)
  have hown : s.vm.findClass R_D = some m.cls := findClass_of_methodNamed B.named
  have hlocks := B.notSynchronized
  subst hsz
  have hD := hD0.self (sz := s.heap.size)
  generalize hAe : va_A (wD cI cB q L lim rdy kc alg cnt opn mac rl key st buf wds fil res) s.heap.size = A at hD hST ⊢
  have hA : ∀ q : Nat, s.heap.size ≤ q → A q := fun q h => by rw [← hAe]; exact Or.inr h
  have hS : va_S A s.heap s.heap [] := va_S.rf
  have hP : va_P (dC, dI) classes (wD cI cB q L lim rdy kc alg cnt opn mac rl key st buf wds fil res) s.heap := hP
  have hl := lv_entry ([.ref (q 0), .int wh]) (n := 2) (Nat.le_of_ble_eq_true rfl)
  rw [lg_entry_eq]
  generalize (lg_sl ([.ref (q 0), .int wh]) ++ List.replicate (2 - (lg_sl ([.ref (q 0), .int wh])).length) Slot.unset).toArray = ls at hl ⊢
  have hl : lv_has ls 2 [(0, .ref (q 0)), (1, .int wh)] := hl
  refine lv_aload_n (pc := 0) hx hb d_D_begin_0 rfl (lv_at hl 0 rfl) ?_
  refine lv_iload_n (pc := 1) hx hb d_D_begin_1 rfl (lv_at hl 1 rfl) ?_
  refine va_put (pc := 2) (D := (dC, dI)) (ci := 0) (v := .int wh) (ty := .int) (C := R_D) (T := F_D) (N := 14) hx hb hts i_D t_D t_D_ok n_D hown hK hP hD hS 0 rfl rfl 4 (by decide) (hts _ fl_D_42) (fun _ h9 => h9) rfl (by decide +kernel) rfl rfl (Nat.le_of_ble_eq_true rfl) d_D_begin_2 (fun H locs hP hD hS => ?_)
  have hP : va_P (dC, dI) classes (wD cI cB q L lim rdy kc wh cnt opn mac rl key st buf wds fil res) H := hP
  have hD : va_D A (wD cI cB q L lim rdy kc wh cnt opn mac rl key st buf wds fil res) := hD
  refine lv_aload_n (pc := 5) hx hb d_D_begin_5 rfl (lv_at hl 0 rfl) ?_
  refine lv_lconst (pc := 6) (v := (lN 0)) hx hb d_D_begin_6 rfl ?_
  refine va_put (pc := 7) (D := (dC, dI)) (ci := 0) (v := .long (lN 0)) (ty := .long) (C := R_D) (T := F_D) (N := 14) hx hb hts i_D t_D t_D_ok n_D hown hK hP hD hS 0 rfl rfl 8 (by decide) (hts _ fl_D_45) (fun _ h9 => h9) rfl (by decide +kernel) rfl rfl (Nat.le_of_ble_eq_true rfl) d_D_begin_7 (fun H locs hP hD hS => ?_)
  have hP : va_P (dC, dI) classes (wD cI cB q L lim rdy kc wh (lN 0) opn mac rl key st buf wds fil res) H := hP
  have hD : va_D A (wD cI cB q L lim rdy kc wh (lN 0) opn mac rl key st buf wds fil res) := hD
  obtain ⟨t1, hz2, ht3⟩ := hST.1
  refine va_gets (pc := 10) hx hb hz2 hS hown (hts _ fl_D_49) (fun _ h9 => h9) d_D_begin_10 ?_
  refine lv_iconst (pc := 13) (v := (nI 0)) hx hb d_D_begin_13 (by decide) ?_
  refine lv_aload_n (pc := 14) hx hb d_D_begin_14 rfl (lv_at hl 0 rfl) ?_
  refine va_get (pc := 15) (D := (dC, dI)) (ci := 0) (v := .ref (q 2)) (C := R_D) (T := F_D) (N := 14) hx hb hts i_D hown hK hP 0 rfl rfl 5 (by decide) (hts _ fl_D_7) (fun _ h9 => h9) rfl d_D_begin_15 ?_
  refine lv_iconst (pc := 18) (v := (nI 0)) hx hb d_D_begin_18 (by decide) ?_
  refine lv_iconst (pc := 19) (v := (nI 5)) hx hb d_D_begin_19 (by decide) ?_
  refine xcopyT (pc := 20) (k := 5) hx hb (by rw [hml]; exact hl.1.symm) hown (hts _ ml_D_52) (hts _ nm_S_arraycopy) (hts _ sm_S_arraycopy) (hts _ in_S) hK hP hD hS ht3 2 0 rfl rfl (by decide) (by decide) (by decide) (by decide) (Nat.le_of_ble_eq_true rfl) d_D_begin_20 (fun H locs hP hD hS => ?_)
  rw [hini_cpy] at hP hD
  have hP : va_P (dC, dI) classes (wD cI cB q L lim rdy kc wh (lN 0) opn mac rl key (hini st) buf wds fil res) H := hP
  have hD : va_D A (wD cI cB q L lim rdy kc wh (lN 0) opn mac rl key (hini st) buf wds fil res) := hD
  exact W.vret hx hb hr (fun t ht hW => ⟨⟨(), rfl, trivial, by rw [ht]; exact hP, va_K.moved hW.alike hK, hD⟩, hS.F ht⟩) hS.2.2 d_D_begin_23
set_option maxHeartbeats 4000000 in
set_option maxRecDepth 100000 in
/-- end: the hash is closed, its bytes are laid into the row of the result -/
theorem c_D_end (l : Launch) (dC : Nat → ClassId) (dI : Nat → Nat → Nat) (cI cB : ClassId) (q : Nat → Nat) (sz : Nat) (L : Nat) (lim rdy kc alg opn mac rl : Int32) (key st buf wds fil res : Nat → Int32) (blk dg : Nat → Int32) (n : Nat) (hn : n < 2 ^ 60) (h8 : R8 buf blk) (r8 : R8 res dg) (fr : sb_Fit res) : Met l y_D_end (k_D_end :: tT) ({ frames := 3, cells := 0, slots := 0, locals := 75 }) (va_Pc [.ref (q 0)] (pD (dC, dI) cI cB sz (wD cI cB q L lim rdy kc alg (lN n) opn mac rl key st buf wds fil res))) (va_Qv (fun u : (Nat → Int32) × (Nat → Int32) × (Nat → Int32) × (Nat → Int32) => u.1 = (hend alg (st, blk, n)).1 ∧ R8 u.2.1 (hend alg (st, blk, n)).2.1 ∧ R8 u.2.2.2 (digU alg (hend alg (st, blk, n)).1 dg (hlen alg)) ∧ sb_Fit u.2.2.2) (fun u t => qD (dC, dI) cI cB (va_A (wD cI cB q L lim rdy kc alg (lN n) opn mac rl key st buf wds fil res) sz) (wD cI cB q L lim rdy kc alg (lN ((hend alg (st, blk, n)).2.2)) opn mac rl key u.1 u.2.1 u.2.2.1 fil u.2.2.2) t) (va_A (wD cI cB q L lim rdy kc alg (lN n) opn mac rl key st buf wds fil res) sz)) 0 0 (va_A (wD cI cB q L lim rdy kc alg (lN n) opn mac rl key st buf wds fil res) sz) := by
  refine Met.ofW (cc := b_D_end) (maxL := 5) (ret := none) (by decide) rfl ?_
  intro p e s m args below meth c s₁ B hml hv
  obtain ⟨rfl, hsz, hP, hK, hD0, hST⟩ := hv
  have hx := B.exec
  have hb := B.bytes
  have hr := B.returns
  have hts : ∀ w ∈ tT, w.before _ s = true := fun w h => atoms_spec (ws := k_D_end :: tT) B.pre w (List.mem_cons_of_mem _ h)
  have hown : s.vm.findClass R_D = some m.cls := findClass_of_methodNamed B.named
  have hlocks := B.notSynchronized
  subst hsz
  have hD := hD0.self (sz := s.heap.size)
  generalize hAe : va_A (wD cI cB q L lim rdy kc alg (lN n) opn mac rl key st buf wds fil res) s.heap.size = A at hD hST ⊢
  have hA : ∀ q : Nat, s.heap.size ≤ q → A q := fun q h => by rw [← hAe]; exact Or.inr h
  have hS : va_S A s.heap s.heap [] := va_S.rf
  have hP : va_P (dC, dI) classes (wD cI cB q L lim rdy kc alg (lN n) opn mac rl key st buf wds fil res) s.heap := hP
  have hl := lv_entry ([.ref (q 0)]) (n := 5) (Nat.le_of_ble_eq_true rfl)
  rw [lg_entry_eq]
  generalize (lg_sl ([.ref (q 0)]) ++ List.replicate (5 - (lg_sl ([.ref (q 0)])).length) Slot.unset).toArray = ls at hl ⊢
  have hl : lv_has ls 5 [(0, .ref (q 0))] := hl
  refine lv_ldc2 (pc := 0) hx hb hown (hts _ cn_D_84) d_D_end_0 ?_
  refine xs_l (y := (lN 8)) (rfl) ?_
  refine lv_aload_n (pc := 3) hx hb d_D_end_3 rfl (lv_at hl 0 rfl) ?_
  refine va_get (pc := 4) (D := (dC, dI)) (ci := 0) (v := .long (lN n)) (C := R_D) (T := F_D) (N := 14) hx hb hts i_D hown hK hP 0 rfl rfl 8 (by decide) (hts _ fl_D_45) (fun _ h9 => h9) rfl d_D_end_4 ?_
  refine xl_mul (pc := 7) hx hb d_D_end_7 ?_
  refine lv_lstore_n (pc := 8) (lv' := [(1, .long (lN (8 * n))), (0, .ref (q 0))]) hx hb d_D_end_8 rfl hl (by decide) rfl (fun ls hl => ?_)
  refine lv_aload_n (pc := 9) hx hb d_D_end_9 rfl (lv_at hl 1 rfl) ?_
  refine lv_sipush (pc := 10) (v := (nI 128)) hx hb d_D_end_10 (by decide) ?_
  refine kvG (pc := 13) (As := [.int (nI 128)]) (rest := []) (wr := []) (ci := 0) ⟨hx, hb, hml, hown, hts⟩ (c_D_put l dC dI cI cB q s.heap.size L lim rdy kc alg opn mac rl key st buf wds fil res blk n (nI 128) (by omega) h8) (cwV 1 hts g_D_86 rfl rfl rfl hd_D_put ⟨by decide, by decide⟩) hK hP hD hS hA hST [0, 1, 2, 3, 4, 5, 6] [] rfl rfl (by decide) (by decide) (by decide) rfl rfl rfl hl.1 rfl (Nat.le_of_ble_eq_true rfl) d_D_end_13 ⟨by decide, by decide⟩ (fun u H locs hw hP hD hS => ?_)
  obtain ⟨u1, u2, u3⟩ := u
  have hP : va_P (dC, dI) classes (wD cI cB q L lim rdy kc alg (lN (n + 1)) opn mac rl key u1 u2 u3 fil res) H := hP
  have hD : va_D A (wD cI cB q L lim rdy kc alg (lN (n + 1)) opn mac rl key u1 u2 u3 fil res) := hD
  rw [e128] at hw
  obtain ⟨hw1, h8⟩ := hw
  dsimp only at hw1 h8
  subst hw1
  refine lp (α := Nat × (Nat → Int32) × (Nat → Int32)) (fun x => 64 - x.1) (fun x H1 locs1 g => ∃ ls, g = F0 m 16 ls [] ∧ lv_has ls 5 [(0, .ref (q 0)), (1, .long (lN (8 * n)))] ∧ va_P (dC, dI) classes (wD cI cB q L lim rdy kc alg (lN ((hputs alg (fun _ => nI 0) (hend1 alg (st, blk, n)) x.1).2.2)) opn mac rl key ((hputs alg (fun _ => nI 0) (hend1 alg (st, blk, n)) x.1).1) x.2.1 x.2.2 fil res) H1 ∧ va_D A (wD cI cB q L lim rdy kc alg (lN ((hputs alg (fun _ => nI 0) (hend1 alg (st, blk, n)) x.1).2.2)) opn mac rl key ((hputs alg (fun _ => nI 0) (hend1 alg (st, blk, n)) x.1).1) x.2.1 x.2.2 fil res) ∧ va_S A s.heap H1 locs1 ∧ x.1 ≤ hzn (n + 1) ∧ R8 x.2.1 (hputs alg (fun _ => nI 0) (hend1 alg (st, blk, n)) x.1).2.1) ?_ (0, u2, u3) ⟨ls, rfl, lv_sub hl [1, 0] rfl, hP, hD, hS, (show 0 ≤ hzn (n + 1) from Nat.zero_le _), (show R8 u2 (hputs alg (fun _ => nI 0) (hend1 alg (st, blk, n)) 0).2.1 from h8)⟩
  rintro ⟨j, bf, wd⟩ H locs g ih ⟨ls, rfl, hl, hP, hD, hS, hj, h8⟩
  have hl : lv_has ls 5 [(0, .ref (q 0)), (1, .long (lN (8 * n)))] := hl
  have hP : va_P (dC, dI) classes (wD cI cB q L lim rdy kc alg (lN ((hputs alg (fun _ => nI 0) (hend1 alg (st, blk, n)) j).2.2)) opn mac rl key ((hputs alg (fun _ => nI 0) (hend1 alg (st, blk, n)) j).1) bf wd fil res) H := hP
  have hD : va_D A (wD cI cB q L lim rdy kc alg (lN ((hputs alg (fun _ => nI 0) (hend1 alg (st, blk, n)) j).2.2)) opn mac rl key ((hputs alg (fun _ => nI 0) (hend1 alg (st, blk, n)) j).1) bf wd fil res) := hD
  have hj : j ≤ hzn (n + 1) := hj
  have h8 : R8 bf (hputs alg (fun _ => nI 0) (hend1 alg (st, blk, n)) j).2.1 := h8
  have hz := hzn_le (n + 1)
  have hjn : (hputs alg (fun _ => nI 0) (hend1 alg (st, blk, n)) j).2.2 = n + 1 + j := hputs_n _ _ _ _
  refine lv_aload_n (pc := 16) hx hb d_D_end_16 rfl (lv_at hl 0 rfl) ?_
  refine va_get (pc := 17) (D := (dC, dI)) (ci := 0) (v := .long (lN ((hputs alg (fun _ => nI 0) (hend1 alg (st, blk, n)) j).2.2))) (C := R_D) (T := F_D) (N := 14) hx hb hts i_D hown hK hP 0 rfl rfl 8 (by decide) (hts _ fl_D_45) (fun _ h9 => h9) rfl d_D_end_17 ?_
  refine lv_ldc2 (pc := 20) hx hb hown (hts _ cn_D_58) d_D_end_20 ?_
  refine xs_l (y := (lN 64)) (rfl) ?_
  refine xl_rem (pc := 23) hx hb d_D_end_23 (by omega) (by decide) (by decide) ?_
  refine lv_ldc2 (pc := 24) hx hb hown (hts _ cn_D_90) d_D_end_24 ?_
  refine xs_l (y := (lN 56)) (rfl) ?_
  refine W.lcmp (pc := 27) hx hb d_D_end_27 ?_
  refine lv_if_eq (pc := 28) (tgt := 39) hx hb d_D_end_28 (by decide) (fun c0 => ?_) (fun c0 => ?_)
  · have c1 := hzn_end hj (by rw [← hjn]; exact (lc0 (by omega) (by decide)).mp c0)
    subst c1
    refine lv_iconst (pc := 39) (v := (nI 0)) hx hb d_D_end_39 (by decide) ?_
    refine lv_istore_n (pc := 40) (lv' := [(3, .int (nI 0)), (0, .ref (q 0)), (1, .long (lN (8 * n)))]) hx hb d_D_end_40 rfl hl (by decide) rfl (fun ls hl => ?_)
    refine lp (α := Nat × (Nat → Int32) × (Nat → Int32)) (fun x => 8 - x.1) (fun x H1 locs1 g => ∃ ls, g = F0 m 41 ls [] ∧ lv_has ls 5 [(0, .ref (q 0)), (1, .long (lN (8 * n))), (3, .int (nI x.1))] ∧ va_P (dC, dI) classes (wD cI cB q L lim rdy kc alg (lN ((hputs alg (bitb alg n) (hend2 alg (st, blk, n)) x.1).2.2)) opn mac rl key ((hputs alg (bitb alg n) (hend2 alg (st, blk, n)) x.1).1) x.2.1 x.2.2 fil res) H1 ∧ va_D A (wD cI cB q L lim rdy kc alg (lN ((hputs alg (bitb alg n) (hend2 alg (st, blk, n)) x.1).2.2)) opn mac rl key ((hputs alg (bitb alg n) (hend2 alg (st, blk, n)) x.1).1) x.2.1 x.2.2 fil res) ∧ va_S A s.heap H1 locs1 ∧ x.1 ≤ 8 ∧ R8 x.2.1 (hputs alg (bitb alg n) (hend2 alg (st, blk, n)) x.1).2.1) ?_ (0, bf, wd) ⟨ls, rfl, lv_sub hl [1, 2, 0] rfl, hP, hD, hS, (show 0 ≤ 8 from by decide), (show R8 bf (hputs alg (bitb alg n) (hend2 alg (st, blk, n)) 0).2.1 from h8)⟩
    rintro ⟨k, bf, wd⟩ H locs g ih2 ⟨ls, rfl, hl, hP, hD, hS, hk, h8⟩
    have hl : lv_has ls 5 [(0, .ref (q 0)), (1, .long (lN (8 * n))), (3, .int (nI k))] := hl
    have hP : va_P (dC, dI) classes (wD cI cB q L lim rdy kc alg (lN ((hputs alg (bitb alg n) (hend2 alg (st, blk, n)) k).2.2)) opn mac rl key ((hputs alg (bitb alg n) (hend2 alg (st, blk, n)) k).1) bf wd fil res) H := hP
    have hD : va_D A (wD cI cB q L lim rdy kc alg (lN ((hputs alg (bitb alg n) (hend2 alg (st, blk, n)) k).2.2)) opn mac rl key ((hputs alg (bitb alg n) (hend2 alg (st, blk, n)) k).1) bf wd fil res) := hD
    have hk : k ≤ 8 := hk
    have h8 : R8 bf (hputs alg (bitb alg n) (hend2 alg (st, blk, n)) k).2.1 := h8
    have hkn : (hputs alg (bitb alg n) (hend2 alg (st, blk, n)) k).2.2 = n + 1 + hzn (n + 1) + k := (hputs_n _ _ _ _).trans (by rw [show (hend2 alg (st, blk, n)).2.2 = n + 1 + hzn (n + 1) from hputs_n _ _ _ _])
    refine lv_iload_n (pc := 41) hx hb d_D_end_41 rfl (lv_at hl 2 rfl) ?_
    refine lv_bipush (pc := 42) (v := (nI 8)) hx hb d_D_end_42 (by decide) ?_
    refine xi_ge (pc := 44) (tgt := 81) hx hb d_D_end_44 (by decide) (by omega) (by omega) (fun c2 => ?_) (fun c2 => ?_)
    · have hs4 : k = 8 := by omega
      subst hs4
      refine lv_iconst (pc := 81) (v := (nI 0)) hx hb d_D_end_81 (by decide) ?_
      refine lv_istore_n (pc := 82) (lv' := [(3, .int (nI 0)), (0, .ref (q 0)), (1, .long (lN (8 * n)))]) hx hb d_D_end_82 rfl hl (by decide) rfl (fun ls hl => ?_)
      refine lp (α := Nat × (Nat → Int32)) (fun x => 20 - x.1) (fun x H1 locs1 g => ∃ ls, g = F0 m 83 ls [] ∧ lv_has ls 5 [(0, .ref (q 0)), (3, .int (nI x.1))] ∧ va_P (dC, dI) classes (wD cI cB q L lim rdy kc alg (lN ((hend alg (st, blk, n)).2.2)) opn mac rl key ((hend alg (st, blk, n)).1) bf wd fil x.2) H1 ∧ va_D A (wD cI cB q L lim rdy kc alg (lN ((hend alg (st, blk, n)).2.2)) opn mac rl key ((hend alg (st, blk, n)).1) bf wd fil x.2) ∧ va_S A s.heap H1 locs1 ∧ x.1 ≤ hlen alg ∧ R8 x.2 (digU alg (hend alg (st, blk, n)).1 dg x.1) ∧ sb_Fit x.2) ?_ (0, res) ⟨ls, rfl, lv_sub hl [1, 0] rfl, hP, hD, hS, (show 0 ≤ hlen alg from Nat.zero_le _), (show R8 res (digU alg (hend alg (st, blk, n)).1 dg 0) from r8), (show sb_Fit res from fr)⟩
      rintro ⟨k, rs⟩ H locs g ih3 ⟨ls, rfl, hl, hP, hD, hS, hk, r8, fr⟩
      have hl : lv_has ls 5 [(0, .ref (q 0)), (3, .int (nI k))] := hl
      have hP : va_P (dC, dI) classes (wD cI cB q L lim rdy kc alg (lN ((hend alg (st, blk, n)).2.2)) opn mac rl key ((hend alg (st, blk, n)).1) bf wd fil rs) H := hP
      have hD : va_D A (wD cI cB q L lim rdy kc alg (lN ((hend alg (st, blk, n)).2.2)) opn mac rl key ((hend alg (st, blk, n)).1) bf wd fil rs) := hD
      have hk : k ≤ hlen alg := hk
      have r8 : R8 rs (digU alg (hend alg (st, blk, n)).1 dg k) := r8
      have fr : sb_Fit rs := fr
      have hle := hlen_le alg
      refine lv_iload_n (pc := 83) hx hb d_D_end_83 rfl (lv_at hl 1 rfl) ?_
      refine lv_aload_n (pc := 84) hx hb d_D_end_84 rfl (lv_at hl 0 rfl) ?_
      refine va_get (pc := 85) (D := (dC, dI)) (ci := 0) (v := .int alg) (C := R_D) (T := F_D) (N := 14) hx hb hts i_D hown hK hP 0 rfl rfl 4 (by decide) (hts _ fl_D_42) (fun _ h9 => h9) rfl d_D_end_85 ?_
      refine ksi (pc := 88) (As := [.int alg]) (rest := [.int (nI k)]) ⟨hx, hb, hml, hown, hts⟩ (c_D_lengthOf l alg) (va_cwS 1 hts g_D_92 rfl rfl rfl hs_D_lengthOf ⟨by decide, by decide⟩) rfl hl.1 rfl (Nat.le_of_ble_eq_true rfl) d_D_end_88 ⟨by decide, by decide⟩ (fun r5 er6 => ?_)
      subst er6
      refine xi_ge (pc := 91) (tgt := 145) hx hb d_D_end_91 (by decide) (by omega) (by omega) (fun c5 => ?_) (fun c5 => ?_)
      · have hs7 : k = hlen alg := by omega
        subst hs7
        exact W.vret hx hb hr (fun t ht hW => ⟨⟨((hend alg (st, blk, n)).1, bf, wd, rs), rfl, ⟨rfl, h8, r8, fr⟩, by rw [ht]; exact hP, va_K.moved hW.alike hK, hD⟩, hS.F ht⟩) hS.2.2 d_D_end_145
      · refine lv_aload_n (pc := 94) hx hb d_D_end_94 rfl (lv_at hl 0 rfl) ?_
        refine va_get (pc := 95) (D := (dC, dI)) (ci := 0) (v := .int alg) (C := R_D) (T := F_D) (N := 14) hx hb hts i_D hown hK hP 0 rfl rfl 4 (by decide) (hts _ fl_D_42) (fun _ h9 => h9) rfl d_D_end_95 ?_
        refine jn_i (fun s1 : Int32 => s1 = nI (dsh alg k)) 119 ls [] (fun s1 es1 => ?_) (fun J => ?_)
        · refine xs_i (y := (nI (dsh alg k))) (es1) ?_
          refine lv_istore (pc := 119) (lv' := [(4, .int (nI (dsh alg k))), (0, .ref (q 0)), (3, .int (nI k))]) hx hb d_D_end_119 hl (by decide) rfl (fun ls hl => ?_)
          refine lv_aload_n (pc := 121) hx hb d_D_end_121 rfl (lv_at hl 1 rfl) ?_
          refine va_get (pc := 122) (D := (dC, dI)) (ci := 0) (v := .ref (q 6)) (C := R_D) (T := F_D) (N := 14) hx hb hts i_D hown hK hP 0 rfl rfl 12 (by decide) (hts _ fl_D_23) (fun _ h9 => h9) rfl d_D_end_122 ?_
          refine lv_iload_n (pc := 125) hx hb d_D_end_125 rfl (lv_at hl 2 rfl) ?_
          refine lv_aload_n (pc := 126) hx hb d_D_end_126 rfl (lv_at hl 1 rfl) ?_
          refine va_get (pc := 127) (D := (dC, dI)) (ci := 0) (v := .ref (q 2)) (C := R_D) (T := F_D) (N := 14) hx hb hts i_D hown hK hP 0 rfl rfl 5 (by decide) (hts _ fl_D_7) (fun _ h9 => h9) rfl d_D_end_127 ?_
          refine lv_iload_n (pc := 130) hx hb d_D_end_130 rfl (lv_at hl 2 rfl) ?_
          refine lv_iconst (pc := 131) (v := (nI 4)) hx hb d_D_end_131 (by decide) ?_
          refine xi_div (pc := 132) hx hb d_D_end_132 (by omega) (by decide) (by decide) ?_
          refine xa_iald (pc := 133) hx hb hK hP 2 0 rfl rfl (by omega) (by decide) d_D_end_133 ?_
          refine lv_iload (pc := 134) hx hb d_D_end_134 (lv_at hl 0 rfl) ?_
          refine lv_ishr (pc := 136) hx hb d_D_end_136 ?_
          refine lv_i2b (pc := 137) (v := ((((hend alg (st, blk, n)).1) (k / 4)) >>> ((nI (dsh alg k)) &&& 31)).toInt8.toInt32) hx hb d_D_end_137 rfl ?_
          refine xa_bast (pc := 138) (x := (((((hend alg (st, blk, n)).1) (k / 4)) >>> ((nI (dsh alg k)) &&& 31)).toInt8.toInt32)) hx hb hK hP hD hS 6 1 rfl rfl (y := (((((hend alg (st, blk, n)).1) (k / 4)) >>> ((nI (dsh alg k)) &&& 31)).toInt8.toInt32)) (pk_vb _) (by omega) (by decide) d_D_end_138 (fun H locs hP hD hS => ?_)
          have hP : va_P (dC, dI) classes (wD cI cB q L lim rdy kc alg (lN ((hend alg (st, blk, n)).2.2)) opn mac rl key ((hend alg (st, blk, n)).1) bf wd fil (upd rs k (((((hend alg (st, blk, n)).1) (k / 4)) >>> ((nI (dsh alg k)) &&& 31)).toInt8.toInt32))) H := hP
          have hD : va_D A (wD cI cB q L lim rdy kc alg (lN ((hend alg (st, blk, n)).2.2)) opn mac rl key ((hend alg (st, blk, n)).1) bf wd fil (upd rs k (((((hend alg (st, blk, n)).1) (k / 4)) >>> ((nI (dsh alg k)) &&& 31)).toInt8.toInt32))) := hD
          refine lv_iinc (pc := 139) (v := (nI (k + 1))) (lv' := [(3, .int (nI (k + 1))), (4, .int (nI (dsh alg k))), (0, .ref (q 0))]) hx hb d_D_end_139 hl (k := 2) rfl (inc1 _) (by decide) rfl (fun ls hl => ?_)
          refine lv_goto (pc := 142) (tgt := 83) hx hb d_D_end_142 (by decide) ?_
          exact ih3 (k + 1, (upd rs k (((((hend alg (st, blk, n)).1) (k / 4)) >>> ((nI (dsh alg k)) &&& 31)).toInt8.toInt32))) _ _ _ (by show 20 - (k + 1) < 20 - k; omega) ⟨ls, rfl, lv_sub hl [2, 0] rfl, hP, hD, hS, (show (k + 1) ≤ hlen alg from by omega), (show R8 (upd rs k (((((hend alg (st, blk, n)).1) (k / 4)) >>> ((nI (dsh alg k)) &&& 31)).toInt8.toInt32)) (digU alg (hend alg (st, blk, n)).1 dg (k + 1)) from r8.set k (dig8 alg _ k)), (show sb_Fit (upd rs k (((((hend alg (st, blk, n)).1) (k / 4)) >>> ((nI (dsh alg k)) &&& 31)).toInt8.toInt32)) from sb_fitU fr (pk_fb _))⟩
        · refine lv_if_ne (pc := 98) (tgt := 110) hx hb d_D_end_98 (by decide) (fun c6 => ?_) (fun c6 => ?_)
          · refine lv_bipush (pc := 110) (v := (nI 24)) hx hb d_D_end_110 (by decide) ?_
            refine lv_bipush (pc := 112) (v := (nI 8)) hx hb d_D_end_112 (by decide) ?_
            refine lv_iload_n (pc := 114) hx hb d_D_end_114 rfl (lv_at hl 1 rfl) ?_
            refine lv_iconst (pc := 115) (v := (nI 4)) hx hb d_D_end_115 (by decide) ?_
            refine xi_rem (pc := 116) hx hb d_D_end_116 (by omega) (by decide) (by decide) ?_
            refine xi_mul (pc := 117) hx hb d_D_end_117 ?_
            refine xi_sub (pc := 118) hx hb d_D_end_118 (by omega) ?_
            exact J _ (by rw [dsh, if_neg c6])
          · refine lv_bipush (pc := 101) (v := (nI 8)) hx hb d_D_end_101 (by decide) ?_
            refine lv_iload_n (pc := 103) hx hb d_D_end_103 rfl (lv_at hl 1 rfl) ?_
            refine lv_iconst (pc := 104) (v := (nI 4)) hx hb d_D_end_104 (by decide) ?_
            refine xi_rem (pc := 105) hx hb d_D_end_105 (by omega) (by decide) (by decide) ?_
            refine xi_mul (pc := 106) hx hb d_D_end_106 ?_
            refine lv_goto (pc := 107) (tgt := 119) hx hb d_D_end_107 (by decide) ?_
            exact J _ (by rw [dsh, if_pos c6])
    · refine lv_aload_n (pc := 47) hx hb d_D_end_47 rfl (lv_at hl 0 rfl) ?_
      refine lv_lload_n (pc := 48) hx hb d_D_end_48 rfl (lv_at hl 1 rfl) ?_
      refine lv_aload_n (pc := 49) hx hb d_D_end_49 rfl (lv_at hl 0 rfl) ?_
      refine va_get (pc := 50) (D := (dC, dI)) (ci := 0) (v := .int alg) (C := R_D) (T := F_D) (N := 14) hx hb hts i_D hown hK hP 0 rfl rfl 4 (by decide) (hts _ fl_D_42) (fun _ h9 => h9) rfl d_D_end_50 ?_
      refine jn_i (fun s1 : Int32 => s1 = nI (bsh alg k)) 70 ls [.long (lN (8 * n)), .ref (q 0)] (fun s1 es1 => ?_) (fun J => ?_)
      · refine xs_i (y := (nI (bsh alg k))) (es1) ?_
        refine lv_lshr (pc := 70) (v := (lN (8 * n)) >>> ((nI (bsh alg k)).toInt64 &&& 63)) hx hb d_D_end_70 rfl ?_
        refine lv_l2i (pc := 71) (v := ((lN (8 * n)) >>> ((nI (bsh alg k)).toInt64 &&& 63)).toInt32) hx hb d_D_end_71 rfl ?_
        refine kvG (pc := 72) (As := [.int (((lN (8 * n)) >>> ((nI (bsh alg k)).toInt64 &&& 63)).toInt32)]) (rest := []) (wr := []) (ci := 0) ⟨hx, hb, hml, hown, hts⟩ (c_D_put l dC dI cI cB q H.size L lim rdy kc alg opn mac rl key ((hputs alg (bitb alg n) (hend2 alg (st, blk, n)) k).1) bf wd fil res (hputs alg (bitb alg n) (hend2 alg (st, blk, n)) k).2.1 (hputs alg (bitb alg n) (hend2 alg (st, blk, n)) k).2.2 (((lN (8 * n)) >>> ((nI (bsh alg k)).toInt64 &&& 63)).toInt32) (by omega) h8) (cwV 1 hts g_D_86 rfl rfl rfl hd_D_put ⟨by decide, by decide⟩) hK hP hD hS hA hST [0, 1, 2, 3, 4, 5, 6] [] rfl rfl (by decide) (by decide) (by decide) rfl rfl rfl hl.1 rfl (Nat.le_of_ble_eq_true rfl) d_D_end_72 ⟨by decide, by decide⟩ (fun u H locs hw hP hD hS => ?_)
        obtain ⟨u1, u2, u3⟩ := u
        have hP : va_P (dC, dI) classes (wD cI cB q L lim rdy kc alg (lN ((hputs alg (bitb alg n) (hend2 alg (st, blk, n)) k).2.2 + 1)) opn mac rl key u1 u2 u3 fil res) H := hP
        have hD : va_D A (wD cI cB q L lim rdy kc alg (lN ((hputs alg (bitb alg n) (hend2 alg (st, blk, n)) k).2.2 + 1)) opn mac rl key u1 u2 u3 fil res) := hD
        obtain ⟨hw1, h8⟩ := hw
        dsimp only at hw1 h8
        subst hw1
        refine lv_iinc (pc := 75) (v := (nI (k + 1))) (lv' := [(3, .int (nI (k + 1))), (0, .ref (q 0)), (1, .long (lN (8 * n)))]) hx hb d_D_end_75 hl (k := 2) rfl (inc1 _) (by decide) rfl (fun ls hl => ?_)
        refine lv_goto (pc := 78) (tgt := 41) hx hb d_D_end_78 (by decide) ?_
        exact ih2 (k + 1, u2, u3) _ _ _ (by show 8 - (k + 1) < 8 - k; omega) ⟨ls, rfl, lv_sub hl [1, 2, 0] rfl, hP, hD, hS, (show (k + 1) ≤ 8 from by omega), (show R8 u2 (hputs alg (bitb alg n) (hend2 alg (st, blk, n)) (k + 1)).2.1 from h8)⟩
      · refine lv_if_ne (pc := 53) (tgt := 63) hx hb d_D_end_53 (by decide) (fun c4 => ?_) (fun c4 => ?_)
        · refine lv_bipush (pc := 63) (v := (nI 56)) hx hb d_D_end_63 (by decide) ?_
          refine lv_bipush (pc := 65) (v := (nI 8)) hx hb d_D_end_65 (by decide) ?_
          refine lv_iload_n (pc := 67) hx hb d_D_end_67 rfl (lv_at hl 2 rfl) ?_
          refine xi_mul (pc := 68) hx hb d_D_end_68 ?_
          refine xi_sub (pc := 69) hx hb d_D_end_69 (by omega) ?_
          exact J _ (by rw [bsh, if_neg c4])
        · refine lv_bipush (pc := 56) (v := (nI 8)) hx hb d_D_end_56 (by decide) ?_
          refine lv_iload_n (pc := 58) hx hb d_D_end_58 rfl (lv_at hl 2 rfl) ?_
          refine xi_mul (pc := 59) hx hb d_D_end_59 ?_
          refine lv_goto (pc := 60) (tgt := 70) hx hb d_D_end_60 (by decide) ?_
          exact J _ (by rw [bsh, if_pos c4])
  · have c1 := hzn_go hj (fun z => c0 ((lc0 (by omega) (by decide)).mpr (by rw [hjn]; exact z)))
    refine lv_aload_n (pc := 31) hx hb d_D_end_31 rfl (lv_at hl 0 rfl) ?_
    refine lv_iconst (pc := 32) (v := (nI 0)) hx hb d_D_end_32 (by decide) ?_
    refine kvG (pc := 33) (As := [.int (nI 0)]) (rest := []) (wr := []) (ci := 0) ⟨hx, hb, hml, hown, hts⟩ (c_D_put l dC dI cI cB q H.size L lim rdy kc alg opn mac rl key ((hputs alg (fun _ => nI 0) (hend1 alg (st, blk, n)) j).1) bf wd fil res (hputs alg (fun _ => nI 0) (hend1 alg (st, blk, n)) j).2.1 (hputs alg (fun _ => nI 0) (hend1 alg (st, blk, n)) j).2.2 (nI 0) (by omega) h8) (cwV 1 hts g_D_86 rfl rfl rfl hd_D_put ⟨by decide, by decide⟩) hK hP hD hS hA hST [0, 1, 2, 3, 4, 5, 6] [] rfl rfl (by decide) (by decide) (by decide) rfl rfl rfl hl.1 rfl (Nat.le_of_ble_eq_true rfl) d_D_end_33 ⟨by decide, by decide⟩ (fun u H locs hw hP hD hS => ?_)
    obtain ⟨u1, u2, u3⟩ := u
    have hP : va_P (dC, dI) classes (wD cI cB q L lim rdy kc alg (lN ((hputs alg (fun _ => nI 0) (hend1 alg (st, blk, n)) j).2.2 + 1)) opn mac rl key u1 u2 u3 fil res) H := hP
    have hD : va_D A (wD cI cB q L lim rdy kc alg (lN ((hputs alg (fun _ => nI 0) (hend1 alg (st, blk, n)) j).2.2 + 1)) opn mac rl key u1 u2 u3 fil res) := hD
    rw [e0_255] at hw
    obtain ⟨hw1, h8⟩ := hw
    dsimp only at hw1 h8
    subst hw1
    refine lv_goto (pc := 36) (tgt := 16) hx hb d_D_end_36 (by decide) ?_
    exact ih (j + 1, u2, u3) _ _ _ (by show 64 - (j + 1) < 64 - j; omega) ⟨ls, rfl, lv_sub hl [0, 1] rfl, hP, hD, hS, (show (j + 1) ≤ hzn (n + 1) from c1), (show R8 u2 (hputs alg (fun _ => nI 0) (hend1 alg (st, blk, n)) (j + 1)).2.1 from h8)⟩
end
section
-- what the public methods do, as mathematics
def mayS (rdy wh : Int32) : Int32 := if rdy = 0 then nI 0 else if wh = 0 then nI 1 else if wh = nI 1 then nI 1 else nI 0
def kbOK (rdy : Int32) (closed : Prop) (b : Int32) (kn L : Nat) : Prop := ¬ rdy = 0 ∧ closed ∧ ¬ b < 0 ∧ ¬ nI 255 < b ∧ kn ≠ L
def fillH (wh : Int32) (kn : Nat) (kf : Nat → Int32) (h : HS) : HS := if 64 < kn then hend wh (hputs wh kf (hini h.1, h.2.1, 0) kn) else h
def fillD (wh : Int32) (kn : Nat) (kf : Nat → Int32) (h : HS) (dg : Nat → Int32) : Nat → Int32 := if 64 < kn then digU wh (fillH wh kn kf h).1 dg (hlen wh) else dg
def fillP (wh : Int32) (kn : Nat) (kf : Nat → Int32) (h : HS) (dg : Nat → Int32) (k : Nat) : Int32 := if 64 < kn then (if k < hlen wh then fillD wh kn kf h dg k else nI 0) else if k < kn then kf k else nI 0
def macH (wh : Int32) (pad : Nat → Int32) (h : HS) : HS := hputs wh (fun k => pad k ^^^ nI 54) (hini h.1, h.2.1, 0) 64
def upOK (closed : Prop) (b : Int32) : Prop := ¬ closed ∧ ¬ b < 0 ∧ ¬ nI 255 < b
def poOK (closed : Prop) (n ag : Int32) : Prop := ¬ closed ∧ ¬ n < 0 ∧ ¬ nI 12 < n ∧ ¬ ag < nI 1 ∧ ¬ nI 1000 < ag
def pourX (a b c : Int32) (k : Nat) : Int32 := if k < 4 then a else if k < 8 then b else c
def pourB (a b c : Int32) (k : Nat) : Int32 := (pourX a b c k >>> (nI (24 - 8 * (k % 4)) &&& 31)) &&& nI 255
def pourH (alg : Int32) (f : Nat → Int32) (m : Nat) (h : HS) : Nat → HS
  | 0 => h
  | t + 1 => hputs alg f (pourH alg f m h t) m
def finD1 (alg : Int32) (h : HS) (dg : Nat → Int32) : Nat → Int32 := digU alg (hend alg h).1 dg (hlen alg)
def finH2 (alg : Int32) (pad : Nat → Int32) (h : HS) : HS := hputs alg (fun k => pad k ^^^ nI 92) (hini (hend alg h).1, (hend alg h).2.1, 0) 64
def finH3 (alg : Int32) (pad : Nat → Int32) (h : HS) (dg : Nat → Int32) : HS := hputs alg (finD1 alg h dg) (finH2 alg pad h) (hlen alg)
def finH (alg mac : Int32) (pad : Nat → Int32) (h : HS) (dg : Nat → Int32) : HS := if mac = 0 then hend alg h else hend alg (finH3 alg pad h dg)
def finD (alg mac : Int32) (pad : Nat → Int32) (h : HS) (dg : Nat → Int32) : Nat → Int32 := if mac = 0 then finD1 alg h dg else digU alg (finH alg mac pad h dg).1 (finD1 alg h dg) (hlen alg)
def outV (rn : Nat) (dg : Nat → Int32) (i : Int32) : Int32 := if i < 0 then -1 else if i < nI rn then dg i.toNatClampNeg else -1
theorem pourH_n (alg : Int32) (f : Nat → Int32) (m : Nat) (h : HS) : ∀ t, (pourH alg f m h t).2.2 = h.2.2 + m * t
  | 0 => rfl
  | t + 1 => by
    show (hputs alg f (pourH alg f m h t) m).2.2 = _
    rw [hputs_n, pourH_n alg f m h t, Nat.mul_succ]; omega
theorem e54 : nI 54 &&& nI 255 = nI 54 := by decide
theorem e92 : nI 92 &&& nI 255 = nI 92 := by decide
theorem nar0 : vp_nar .byte (nI 0) = nI 0 := by decide
end
section
set_option maxHeartbeats 4000000 in
set_option maxRecDepth 100000 in
theorem c_D_init (l : Launch) (dC : Nat → ClassId) (dI : Nat → Nat → Nat) (cI cB : ClassId) (q : Nat → Nat) (sz : Nat) (L : Nat) (lim rdy kc alg opn mac rl : Int32) (cnt : Int64) (key st buf wds fil res : Nat → Int32)  : Met l y_D_init (k_D_init :: tT) ({ frames := 0, cells := 0, slots := 0, locals := 0 }) (va_Pc [.ref (q 0)] (pD (dC, dI) cI cB sz (wD cI cB q L lim rdy kc alg cnt opn mac rl key st buf wds fil res))) (va_Qv (fun u : Unit => True) (fun u t => qD (dC, dI) cI cB (va_A (wD cI cB q L lim rdy kc alg cnt opn mac rl key st buf wds fil res) sz) (wD cI cB q L lim (nI 1) (nI 0) alg cnt (nI 0) mac (nI 0) key st buf wds fil res) t) (va_A (wD cI cB q L lim rdy kc alg cnt opn mac rl key st buf wds fil res) sz)) 0 0 (va_A (wD cI cB q L lim rdy kc alg cnt opn mac rl key st buf wds fil res) sz) := by
  refine Met.ofW (cc := b_D_init) (maxL := 1) (ret := none) (by decide) rfl ?_
  intro p e s m args below meth c s₁ B hml hv
  obtain ⟨rfl, hsz, hP, hK, hD0, hST⟩ := hv
  have hx := B.exec
  have hb := B.bytes
  have hr := B.returns
  have hts : ∀ w ∈ tT, w.before _ s = true := fun w h => atoms_spec (ws := k_D_init :: tT) B.pre w (List.mem_cons_of_mem _ h)
  have hown : s.vm.findClass R_D = some m.cls := findClass_of_methodNamed B.named
  have hlocks := B.notSynchronized
  subst hsz
  have hD := hD0.self (sz := s.heap.size)
  generalize hAe : va_A (wD cI cB q L lim rdy kc alg cnt opn mac rl key st buf wds fil res) s.heap.size = A at hD hST ⊢
  have hA : ∀ q : Nat, s.heap.size ≤ q → A q := fun q h => by rw [← hAe]; exact Or.inr h
  have hS : va_S A s.heap s.heap [] := va_S.rf
  have hP : va_P (dC, dI) classes (wD cI cB q L lim rdy kc alg cnt opn mac rl key st buf wds fil res) s.heap := hP
  have hl := lv_entry ([.ref (q 0)]) (n := 1) (Nat.le_of_ble_eq_true rfl)
  rw [lg_entry_eq]
  generalize (lg_sl ([.ref (q 0)]) ++ List.replicate (1 - (lg_sl ([.ref (q 0)])).length) Slot.unset).toArray = ls at hl ⊢
  have hl : lv_has ls 1 [(0, .ref (q 0))] := hl
  refine lv_aload_n (pc := 0) hx hb d_D_init_0 rfl (lv_at hl 0 rfl) ?_
  refine lv_iconst (pc := 1) (v := (nI 1)) hx hb d_D_init_1 (by decide) ?_
  refine va_put (pc := 2) (D := (dC, dI)) (ci := 0) (v := .int (nI 1)) (ty := .boolean) (C := R_D) (T := F_D) (N := 14) hx hb hts i_D t_D t_D_ok n_D hown hK hP hD hS 0 rfl rfl 1 (by decide) (hts _ fl_D_96) (fun _ h9 => h9) rfl (by decide +kernel) rfl rfl (Nat.le_of_ble_eq_true rfl) d_D_init_2 (fun H locs hP hD hS => ?_)
  have hP : va_P (dC, dI) classes (wD cI cB q L lim (nI 1) kc alg cnt opn mac rl key st buf wds fil res) H := hP
  have hD : va_D A (wD cI cB q L lim (nI 1) kc alg cnt opn mac rl key st buf wds fil res) := hD
  refine lv_aload_n (pc := 5) hx hb d_D_init_5 rfl (lv_at hl 0 rfl) ?_
  refine lv_iconst (pc := 6) (v := (nI 0)) hx hb d_D_init_6 (by decide) ?_
  refine va_put (pc := 7) (D := (dC, dI)) (ci := 0) (v := .int (nI 0)) (ty := .int) (C := R_D) (T := F_D) (N := 14) hx hb hts i_D t_D t_D_ok n_D hown hK hP hD hS 0 rfl rfl 3 (by decide) (hts _ fl_D_100) (fun _ h9 => h9) rfl (by decide +kernel) rfl rfl (Nat.le_of_ble_eq_true rfl) d_D_init_7 (fun H locs hP hD hS => ?_)
  have hP : va_P (dC, dI) classes (wD cI cB q L lim (nI 1) (nI 0) alg cnt opn mac rl key st buf wds fil res) H := hP
  have hD : va_D A (wD cI cB q L lim (nI 1) (nI 0) alg cnt opn mac rl key st buf wds fil res) := hD
  refine lv_aload_n (pc := 10) hx hb d_D_init_10 rfl (lv_at hl 0 rfl) ?_
  refine lv_iconst (pc := 11) (v := (nI 0)) hx hb d_D_init_11 (by decide) ?_
  refine va_put (pc := 12) (D := (dC, dI)) (ci := 0) (v := .int (nI 0)) (ty := .boolean) (C := R_D) (T := F_D) (N := 14) hx hb hts i_D t_D t_D_ok n_D hown hK hP hD hS 0 rfl rfl 9 (by decide) (hts _ fl_D_103) (fun _ h9 => h9) rfl (by decide +kernel) rfl rfl (Nat.le_of_ble_eq_true rfl) d_D_init_12 (fun H locs hP hD hS => ?_)
  have hP : va_P (dC, dI) classes (wD cI cB q L lim (nI 1) (nI 0) alg cnt (nI 0) mac rl key st buf wds fil res) H := hP
  have hD : va_D A (wD cI cB q L lim (nI 1) (nI 0) alg cnt (nI 0) mac rl key st buf wds fil res) := hD
  refine lv_aload_n (pc := 15) hx hb d_D_init_15 rfl (lv_at hl 0 rfl) ?_
  refine lv_iconst (pc := 16) (v := (nI 0)) hx hb d_D_init_16 (by decide) ?_
  refine va_put (pc := 17) (D := (dC, dI)) (ci := 0) (v := .int (nI 0)) (ty := .int) (C := R_D) (T := F_D) (N := 14) hx hb hts i_D t_D t_D_ok n_D hown hK hP hD hS 0 rfl rfl 13 (by decide) (hts _ fl_D_106) (fun _ h9 => h9) rfl (by decide +kernel) rfl rfl (Nat.le_of_ble_eq_true rfl) d_D_init_17 (fun H locs hP hD hS => ?_)
  have hP : va_P (dC, dI) classes (wD cI cB q L lim (nI 1) (nI 0) alg cnt (nI 0) mac (nI 0) key st buf wds fil res) H := hP
  have hD : va_D A (wD cI cB q L lim (nI 1) (nI 0) alg cnt (nI 0) mac (nI 0) key st buf wds fil res) := hD
  exact W.vret hx hb hr (fun t ht hW => ⟨⟨(), rfl, trivial, by rw [ht]; exact hP, va_K.moved hW.alike hK, hD⟩, hS.F ht⟩) hS.2.2 d_D_init_20
set_option maxHeartbeats 4000000 in
set_option maxRecDepth 100000 in
theorem c_D_mayStart (l : Launch) (dC : Nat → ClassId) (dI : Nat → Nat → Nat) (cI cB : ClassId) (q : Nat → Nat) (sz : Nat) (L : Nat) (lim rdy kc alg opn mac rl : Int32) (cnt : Int64) (key st buf wds fil res : Nat → Int32) (wh : Int32)  : Met l y_D_mayStart (k_D_mayStart :: tT) ({ frames := 0, cells := 0, slots := 0, locals := 0 }) (va_Pc [.ref (q 0), .int wh] (pD (dC, dI) cI cB sz (wD cI cB q L lim rdy kc alg cnt opn mac rl key st buf wds fil res))) (va_Qi (fun (rr : Int32) (u : Unit) => rr = mayS rdy wh) (fun u t => qD (dC, dI) cI cB (va_A (wD cI cB q L lim rdy kc alg cnt opn mac rl key st buf wds fil res) sz) (wD cI cB q L lim rdy kc alg cnt opn mac rl key st buf wds fil res) t) (va_A (wD cI cB q L lim rdy kc alg cnt opn mac rl key st buf wds fil res) sz)) 0 0 (va_A (wD cI cB q L lim rdy kc alg cnt opn mac rl key st buf wds fil res) sz) := by
  refine Met.ofW (cc := b_D_mayStart) (maxL := 2) (ret := (some .boolean)) (by decide) rfl ?_
  intro p e s m args below meth c s₁ B hml hv
  obtain ⟨rfl, hsz, hP, hK, hD0, hST⟩ := hv
  have hx := B.exec
  have hb := B.bytes
  have hr := B.returns
  have hts : ∀ w ∈ tT, w.before _ s = true := fun w h => atoms_spec (ws := k_D_mayStart :: tT) B.pre w (List.mem_cons_of_mem _ h)
  have hown : s.vm.findClass R_D = some m.cls := findClass_of_methodNamed B.named
  have hlocks := B.notSynchronized
  subst hsz
  have hD := hD0.self (sz := s.heap.size)
  generalize hAe : va_A (wD cI cB q L lim rdy kc alg cnt opn mac rl key st buf wds fil res) s.heap.size = A at hD hST ⊢
  have hA : ∀ q : Nat, s.heap.size ≤ q → A q := fun q h => by rw [← hAe]; exact Or.inr h
  have hS : va_S A s.heap s.heap [] := va_S.rf
  have hP : va_P (dC, dI) classes (wD cI cB q L lim rdy kc alg cnt opn mac rl key st buf wds fil res) s.heap := hP
  have hl := lv_entry ([.ref (q 0), .int wh]) (n := 2) (Nat.le_of_ble_eq_true rfl)
  rw [lg_entry_eq]
  generalize (lg_sl ([.ref (q 0), .int wh]) ++ List.replicate (2 - (lg_sl ([.ref (q 0), .int wh])).length) Slot.unset).toArray = ls at hl ⊢
  have hl : lv_has ls 2 [(0, .ref (q 0)), (1, .int wh)] := hl
  refine lv_aload_n (pc := 0) hx hb d_D_mayStart_0 rfl (lv_at hl 0 rfl) ?_
  refine va_get (pc := 1) (D := (dC, dI)) (ci := 0) (v := .int rdy) (C := R_D) (T := F_D) (N := 14) hx hb hts i_D hown hK hP 0 rfl rfl 1 (by decide) (hts _ fl_D_96) (fun _ h9 => h9) rfl d_D_mayStart_1 ?_
  refine lv_if_eq (pc := 4) (tgt := 20) hx hb d_D_mayStart_4 (by decide) (fun c0 => ?_) (fun c0 => ?_)
  · refine lv_iconst (pc := 20) (v := (nI 0)) hx hb d_D_mayStart_20 (by decide) ?_
    exact W.zret (v := (nI 0)) hx hb hr rfl (fun t ht hW => ⟨⟨(nI 0), (), rfl, by rw [mayS, if_pos c0], by rw [ht]; exact hP, va_K.moved hW.alike hK, hD⟩, hS.F ht⟩) hS.2.2 d_D_mayStart_21
  · refine lv_iload_n (pc := 7) hx hb d_D_mayStart_7 rfl (lv_at hl 1 rfl) ?_
    refine lv_if_eq (pc := 8) (tgt := 16) hx hb d_D_mayStart_8 (by decide) (fun c1 => ?_) (fun c1 => ?_)
    · refine lv_iconst (pc := 16) (v := (nI 1)) hx hb d_D_mayStart_16 (by decide) ?_
      refine lv_goto (pc := 17) (tgt := 21) hx hb d_D_mayStart_17 (by decide) ?_
      exact W.zret (v := (nI 1)) hx hb hr rfl (fun t ht hW => ⟨⟨(nI 1), (), rfl, by rw [mayS, if_neg c0, if_pos c1], by rw [ht]; exact hP, va_K.moved hW.alike hK, hD⟩, hS.F ht⟩) hS.2.2 d_D_mayStart_21
    · refine lv_iload_n (pc := 11) hx hb d_D_mayStart_11 rfl (lv_at hl 1 rfl) ?_
      refine lv_iconst (pc := 12) (v := (nI 1)) hx hb d_D_mayStart_12 (by decide) ?_
      refine lv_icmp_ne (pc := 13) (tgt := 20) hx hb d_D_mayStart_13 (by decide) (fun c2 => ?_) (fun c2 => ?_)
      · refine lv_iconst (pc := 20) (v := (nI 0)) hx hb d_D_mayStart_20 (by decide) ?_
        exact W.zret (v := (nI 0)) hx hb hr rfl (fun t ht hW => ⟨⟨(nI 0), (), rfl, by rw [mayS, if_neg c0, if_neg c1, if_neg c2], by rw [ht]; exact hP, va_K.moved hW.alike hK, hD⟩, hS.F ht⟩) hS.2.2 d_D_mayStart_21
      · refine lv_iconst (pc := 16) (v := (nI 1)) hx hb d_D_mayStart_16 (by decide) ?_
        refine lv_goto (pc := 17) (tgt := 21) hx hb d_D_mayStart_17 (by decide) ?_
        exact W.zret (v := (nI 1)) hx hb hr rfl (fun t ht hW => ⟨⟨(nI 1), (), rfl, by rw [mayS, if_neg c0, if_neg c1, if_pos c2], by rw [ht]; exact hP, va_K.moved hW.alike hK, hD⟩, hS.F ht⟩) hS.2.2 d_D_mayStart_21
set_option maxHeartbeats 4000000 in
set_option maxRecDepth 100000 in
theorem c_D_start (l : Launch) (dC : Nat → ClassId) (dI : Nat → Nat → Nat) (cI cB : ClassId) (q : Nat → Nat) (sz : Nat) (L : Nat) (lim rdy kc alg opn mac rl : Int32) (cnt : Int64) (key st buf wds fil res : Nat → Int32) (wh : Int32)  : Met l y_D_start (k_D_start :: tT) ({ frames := 2, cells := 0, slots := 0, locals := 61 }) (va_Pc [.ref (q 0), .int wh] (pD (dC, dI) cI cB sz (wD cI cB q L lim rdy kc alg cnt opn mac rl key st buf wds fil res))) (va_Qi (fun (rr : Int32) (u : Int32 × Int64 × (Nat → Int32) × Int32 × Int32 × Int32) => (rr = nI 0 ∧ mayS rdy wh = 0 ∧ u = (alg, cnt, st, opn, mac, rl)) ∨ (rr = nI 1 ∧ ¬ mayS rdy wh = 0 ∧ u = (wh, lN 0, hini st, nI 1, nI 0, nI 0))) (fun u t => qD (dC, dI) cI cB (va_A (wD cI cB q L lim rdy kc alg cnt opn mac rl key st buf wds fil res) sz) (wD cI cB q L lim rdy kc u.1 u.2.1 u.2.2.2.1 u.2.2.2.2.1 u.2.2.2.2.2 key u.2.2.1 buf wds fil res) t) (va_A (wD cI cB q L lim rdy kc alg cnt opn mac rl key st buf wds fil res) sz)) 0 0 (va_A (wD cI cB q L lim rdy kc alg cnt opn mac rl key st buf wds fil res) sz) := by
  refine Met.ofW (cc := b_D_start) (maxL := 2) (ret := (some .boolean)) (by decide) rfl ?_
  intro p e s m args below meth c s₁ B hml hv
  obtain ⟨rfl, hsz, hP, hK, hD0, hST⟩ := hv
  have hx := B.exec
  have hb := B.bytes
  have hr := B.returns
  have hts : ∀ w ∈ tT, w.before _ s = true := fun w h => atoms_spec (ws := k_D_start :: tT) B.pre w (List.mem_cons_of_mem _ h)
  have hown : s.vm.findClass R_D = some m.cls := findClass_of_methodNamed B.named
  have hlocks := B.notSynchronized
  subst hsz
  have hD := hD0.self (sz := s.heap.size)
  generalize hAe : va_A (wD cI cB q L lim rdy kc alg cnt opn mac rl key st buf wds fil res) s.heap.size = A at hD hST ⊢
  have hA : ∀ q : Nat, s.heap.size ≤ q → A q := fun q h => by rw [← hAe]; exact Or.inr h
  have hS : va_S A s.heap s.heap [] := va_S.rf
  have hP : va_P (dC, dI) classes (wD cI cB q L lim rdy kc alg cnt opn mac rl key st buf wds fil res) s.heap := hP
  have hl := lv_entry ([.ref (q 0), .int wh]) (n := 2) (Nat.le_of_ble_eq_true rfl)
  rw [lg_entry_eq]
  generalize (lg_sl ([.ref (q 0), .int wh]) ++ List.replicate (2 - (lg_sl ([.ref (q 0), .int wh])).length) Slot.unset).toArray = ls at hl ⊢
  have hl : lv_has ls 2 [(0, .ref (q 0)), (1, .int wh)] := hl
  refine lv_aload_n (pc := 0) hx hb d_D_start_0 rfl (lv_at hl 0 rfl) ?_
  refine lv_iload_n (pc := 1) hx hb d_D_start_1 rfl (lv_at hl 1 rfl) ?_
  refine kiG (pc := 2) (As := [.int wh]) (rest := []) (wr := []) (ci := 0) ⟨hx, hb, hml, hown, hts⟩ (c_D_mayStart l dC dI cI cB q s.heap.size L lim rdy kc alg opn mac rl cnt key st buf wds fil res wh) (cwV 1 hts g_D_109 rfl rfl rfl hd_D_mayStart ⟨by decide, by decide⟩) hK hP hD hS hA hST [0, 1, 2, 3, 4, 5, 6] [] rfl rfl (by decide) (by decide) (by decide) rfl rfl rfl hl.1 rfl (Nat.le_of_ble_eq_true rfl) d_D_start_2 ⟨by decide, by decide⟩ (fun rr u H locs hw hP hD hS => ?_)
  have hP : va_P (dC, dI) classes (wD cI cB q L lim rdy kc alg cnt opn mac rl key st buf wds fil res) H := hP
  have hD : va_D A (wD cI cB q L lim rdy kc alg cnt opn mac rl key st buf wds fil res) := hD
  subst hw
  refine lv_if_ne (pc := 5) (tgt := 10) hx hb d_D_start_5 (by decide) (fun c0 => ?_) (fun c0 => ?_)
  · refine lv_aload_n (pc := 10) hx hb d_D_start_10 rfl (lv_at hl 0 rfl) ?_
    refine lv_iload_n (pc := 11) hx hb d_D_start_11 rfl (lv_at hl 1 rfl) ?_
    refine kvG (pc := 12) (As := [.int wh]) (rest := []) (wr := []) (ci := 0) ⟨hx, hb, hml, hown, hts⟩ (c_D_begin l dC dI cI cB q H.size L lim rdy kc alg opn mac rl cnt key st buf wds fil res wh) (cwV 1 hts g_D_113 rfl rfl rfl hd_D_begin ⟨by decide, by decide⟩) hK hP hD hS hA hST [0, 1, 2, 3, 4, 5, 6] [] rfl rfl (by decide) (by decide) (by decide) rfl rfl rfl hl.1 rfl (Nat.le_of_ble_eq_true rfl) d_D_start_12 ⟨by decide, by decide⟩ (fun u H locs hw hP hD hS => ?_)
    have hP : va_P (dC, dI) classes (wD cI cB q L lim rdy kc wh (lN 0) opn mac rl key (hini st) buf wds fil res) H := hP
    have hD : va_D A (wD cI cB q L lim rdy kc wh (lN 0) opn mac rl key (hini st) buf wds fil res) := hD
    refine lv_aload_n (pc := 15) hx hb d_D_start_15 rfl (lv_at hl 0 rfl) ?_
    refine lv_iconst (pc := 16) (v := (nI 1)) hx hb d_D_start_16 (by decide) ?_
    refine va_put (pc := 17) (D := (dC, dI)) (ci := 0) (v := .int (nI 1)) (ty := .boolean) (C := R_D) (T := F_D) (N := 14) hx hb hts i_D t_D t_D_ok n_D hown hK hP hD hS 0 rfl rfl 9 (by decide) (hts _ fl_D_103) (fun _ h9 => h9) rfl (by decide +kernel) rfl rfl (Nat.le_of_ble_eq_true rfl) d_D_start_17 (fun H locs hP hD hS => ?_)
    have hP : va_P (dC, dI) classes (wD cI cB q L lim rdy kc wh (lN 0) (nI 1) mac rl key (hini st) buf wds fil res) H := hP
    have hD : va_D A (wD cI cB q L lim rdy kc wh (lN 0) (nI 1) mac rl key (hini st) buf wds fil res) := hD
    refine lv_aload_n (pc := 20) hx hb d_D_start_20 rfl (lv_at hl 0 rfl) ?_
    refine lv_iconst (pc := 21) (v := (nI 0)) hx hb d_D_start_21 (by decide) ?_
    refine va_put (pc := 22) (D := (dC, dI)) (ci := 0) (v := .int (nI 0)) (ty := .boolean) (C := R_D) (T := F_D) (N := 14) hx hb hts i_D t_D t_D_ok n_D hown hK hP hD hS 0 rfl rfl 10 (by decide) (hts _ fl_D_116) (fun _ h9 => h9) rfl (by decide +kernel) rfl rfl (Nat.le_of_ble_eq_true rfl) d_D_start_22 (fun H locs hP hD hS => ?_)
    have hP : va_P (dC, dI) classes (wD cI cB q L lim rdy kc wh (lN 0) (nI 1) (nI 0) rl key (hini st) buf wds fil res) H := hP
    have hD : va_D A (wD cI cB q L lim rdy kc wh (lN 0) (nI 1) (nI 0) rl key (hini st) buf wds fil res) := hD
    refine lv_aload_n (pc := 25) hx hb d_D_start_25 rfl (lv_at hl 0 rfl) ?_
    refine lv_iconst (pc := 26) (v := (nI 0)) hx hb d_D_start_26 (by decide) ?_
    refine va_put (pc := 27) (D := (dC, dI)) (ci := 0) (v := .int (nI 0)) (ty := .int) (C := R_D) (T := F_D) (N := 14) hx hb hts i_D t_D t_D_ok n_D hown hK hP hD hS 0 rfl rfl 13 (by decide) (hts _ fl_D_106) (fun _ h9 => h9) rfl (by decide +kernel) rfl rfl (Nat.le_of_ble_eq_true rfl) d_D_start_27 (fun H locs hP hD hS => ?_)
    have hP : va_P (dC, dI) classes (wD cI cB q L lim rdy kc wh (lN 0) (nI 1) (nI 0) (nI 0) key (hini st) buf wds fil res) H := hP
    have hD : va_D A (wD cI cB q L lim rdy kc wh (lN 0) (nI 1) (nI 0) (nI 0) key (hini st) buf wds fil res) := hD
    refine lv_iconst (pc := 30) (v := (nI 1)) hx hb d_D_start_30 (by decide) ?_
    exact W.zret (v := (nI 1)) hx hb hr rfl (fun t ht hW => ⟨⟨(nI 1), (wh, lN 0, hini st, nI 1, nI 0, nI 0), rfl, Or.inr ⟨rfl, c0, rfl⟩, by rw [ht]; exact hP, va_K.moved hW.alike hK, hD⟩, hS.F ht⟩) hS.2.2 d_D_start_31
  · refine lv_iconst (pc := 8) (v := (nI 0)) hx hb d_D_start_8 (by decide) ?_
    exact W.zret (v := (nI 0)) hx hb hr rfl (fun t ht hW => ⟨⟨(nI 0), (alg, cnt, st, opn, mac, rl), rfl, Or.inl ⟨rfl, c0, rfl⟩, by rw [ht]; exact hP, va_K.moved hW.alike hK, hD⟩, hS.F ht⟩) hS.2.2 d_D_start_9
set_option maxHeartbeats 4000000 in
set_option maxRecDepth 100000 in
theorem c_D_keyByte (l : Launch) (dC : Nat → ClassId) (dI : Nat → Nat → Nat) (cI cB : ClassId) (q : Nat → Nat) (sz : Nat) (L : Nat) (rdy alg opn mac rl : Int32) (cnt : Int64) (key st buf wds fil res : Nat → Int32) (kn : Nat) (b : Int32) (hL : L ≤ 300) (hkn : kn ≤ L) : Met l y_D_keyByte (k_D_keyByte :: tT) ({ frames := 0, cells := 0, slots := 0, locals := 0 }) (va_Pc [.ref (q 0), .int b] (pD (dC, dI) cI cB sz (wD cI cB q L (nI L) rdy (nI kn) alg cnt opn mac rl key st buf wds fil res))) (va_Qi (fun (rr : Int32) (u : Nat × (Nat → Int32)) => (rr = nI 0 ∧ ¬ kbOK rdy (opn = 0) b kn L ∧ u = (kn, key)) ∨ (rr = nI 1 ∧ kbOK rdy (opn = 0) b kn L ∧ u = (kn + 1, upd key kn b.toInt8.toInt32))) (fun u t => qD (dC, dI) cI cB (va_A (wD cI cB q L (nI L) rdy (nI kn) alg cnt opn mac rl key st buf wds fil res) sz) (wD cI cB q L (nI L) rdy (nI u.1) alg cnt opn mac rl u.2 st buf wds fil res) t) (va_A (wD cI cB q L (nI L) rdy (nI kn) alg cnt opn mac rl key st buf wds fil res) sz)) 0 0 (va_A (wD cI cB q L (nI L) rdy (nI kn) alg cnt opn mac rl key st buf wds fil res) sz) := by
  refine Met.ofW (cc := b_D_keyByte) (maxL := 2) (ret := (some .boolean)) (by decide) rfl ?_
  intro p e s m args below meth c s₁ B hml hv
  obtain ⟨rfl, hsz, hP, hK, hD0, hST⟩ := hv
  have hx := B.exec
  have hb := B.bytes
  have hr := B.returns
  have hts : ∀ w ∈ tT, w.before _ s = true := fun w h => atoms_spec (ws := k_D_keyByte :: tT) B.pre w (List.mem_cons_of_mem _ h)
  have hown : s.vm.findClass R_D = some m.cls := findClass_of_methodNamed B.named
  have hlocks := B.notSynchronized
  subst hsz
  have hD := hD0.self (sz := s.heap.size)
  generalize hAe : va_A (wD cI cB q L (nI L) rdy (nI kn) alg cnt opn mac rl key st buf wds fil res) s.heap.size = A at hD hST ⊢
  have hA : ∀ q : Nat, s.heap.size ≤ q → A q := fun q h => by rw [← hAe]; exact Or.inr h
  have hS : va_S A s.heap s.heap [] := va_S.rf
  have hP : va_P (dC, dI) classes (wD cI cB q L (nI L) rdy (nI kn) alg cnt opn mac rl key st buf wds fil res) s.heap := hP
  have hl := lv_entry ([.ref (q 0), .int b]) (n := 2) (Nat.le_of_ble_eq_true rfl)
  rw [lg_entry_eq]
  generalize (lg_sl ([.ref (q 0), .int b]) ++ List.replicate (2 - (lg_sl ([.ref (q 0), .int b])).length) Slot.unset).toArray = ls at hl ⊢
  have hl : lv_has ls 2 [(0, .ref (q 0)), (1, .int b)] := hl
  refine lv_aload_n (pc := 0) hx hb d_D_keyByte_0 rfl (lv_at hl 0 rfl) ?_
  refine va_get (pc := 1) (D := (dC, dI)) (ci := 0) (v := .int rdy) (C := R_D) (T := F_D) (N := 14) hx hb hts i_D hown hK hP 0 rfl rfl 1 (by decide) (hts _ fl_D_96) (fun _ h9 => h9) rfl d_D_keyByte_1 ?_
  refine lv_if_eq (pc := 4) (tgt := 36) hx hb d_D_keyByte_4 (by decide) (fun c0 => ?_) (fun c0 => ?_)
  · refine lv_iconst (pc := 36) (v := (nI 0)) hx hb d_D_keyByte_36 (by decide) ?_
    exact W.zret (v := (nI 0)) hx hb hr rfl (fun t ht hW => ⟨⟨(nI 0), (kn, key), rfl, Or.inl ⟨rfl, fun z => z.1 c0, rfl⟩, by rw [ht]; exact hP, va_K.moved hW.alike hK, hD⟩, hS.F ht⟩) hS.2.2 d_D_keyByte_37
  · refine lv_aload_n (pc := 7) hx hb d_D_keyByte_7 rfl (lv_at hl 0 rfl) ?_
    refine va_get (pc := 8) (D := (dC, dI)) (ci := 0) (v := .int opn) (C := R_D) (T := F_D) (N := 14) hx hb hts i_D hown hK hP 0 rfl rfl 9 (by decide) (hts _ fl_D_103) (fun _ h9 => h9) rfl d_D_keyByte_8 ?_
    refine lv_if_ne (pc := 11) (tgt := 36) hx hb d_D_keyByte_11 (by decide) (fun c1 => ?_) (fun c1 => ?_)
    · refine lv_iconst (pc := 36) (v := (nI 0)) hx hb d_D_keyByte_36 (by decide) ?_
      exact W.zret (v := (nI 0)) hx hb hr rfl (fun t ht hW => ⟨⟨(nI 0), (kn, key), rfl, Or.inl ⟨rfl, fun z => c1 z.2.1, rfl⟩, by rw [ht]; exact hP, va_K.moved hW.alike hK, hD⟩, hS.F ht⟩) hS.2.2 d_D_keyByte_37
    · refine lv_iload_n (pc := 14) hx hb d_D_keyByte_14 rfl (lv_at hl 1 rfl) ?_
      refine lv_if_lt (pc := 15) (tgt := 36) hx hb d_D_keyByte_15 (by decide) (fun c2 => ?_) (fun c2 => ?_)
      · refine lv_iconst (pc := 36) (v := (nI 0)) hx hb d_D_keyByte_36 (by decide) ?_
        exact W.zret (v := (nI 0)) hx hb hr rfl (fun t ht hW => ⟨⟨(nI 0), (kn, key), rfl, Or.inl ⟨rfl, fun z => z.2.2.1 c2, rfl⟩, by rw [ht]; exact hP, va_K.moved hW.alike hK, hD⟩, hS.F ht⟩) hS.2.2 d_D_keyByte_37
      · refine lv_iload_n (pc := 18) hx hb d_D_keyByte_18 rfl (lv_at hl 1 rfl) ?_
        refine lv_sipush (pc := 19) (v := (nI 255)) hx hb d_D_keyByte_19 (by decide) ?_
        refine lv_icmp_gt (pc := 22) (tgt := 36) hx hb d_D_keyByte_22 (by decide) (fun c3 => ?_) (fun c3 => ?_)
        · refine lv_iconst (pc := 36) (v := (nI 0)) hx hb d_D_keyByte_36 (by decide) ?_
          exact W.zret (v := (nI 0)) hx hb hr rfl (fun t ht hW => ⟨⟨(nI 0), (kn, key), rfl, Or.inl ⟨rfl, fun z => z.2.2.2.1 c3, rfl⟩, by rw [ht]; exact hP, va_K.moved hW.alike hK, hD⟩, hS.F ht⟩) hS.2.2 d_D_keyByte_37
        · refine lv_aload_n (pc := 25) hx hb d_D_keyByte_25 rfl (lv_at hl 0 rfl) ?_
          refine va_get (pc := 26) (D := (dC, dI)) (ci := 0) (v := .int (nI kn)) (C := R_D) (T := F_D) (N := 14) hx hb hts i_D hown hK hP 0 rfl rfl 3 (by decide) (hts _ fl_D_100) (fun _ h9 => h9) rfl d_D_keyByte_26 ?_
          refine lv_aload_n (pc := 29) hx hb d_D_keyByte_29 rfl (lv_at hl 0 rfl) ?_
          refine va_get (pc := 30) (D := (dC, dI)) (ci := 0) (v := .int (nI L)) (C := R_D) (T := F_D) (N := 14) hx hb hts i_D hown hK hP 0 rfl rfl 0 (by decide) (hts _ fl_D_35) (fun _ h9 => h9) rfl d_D_keyByte_30 ?_
          refine xi_ne (pc := 33) (tgt := 38) hx hb d_D_keyByte_33 (by decide) (by omega) (by omega) (fun c4 => ?_) (fun c4 => ?_)
          · refine lv_aload_n (pc := 38) hx hb d_D_keyByte_38 rfl (lv_at hl 0 rfl) ?_
            refine va_get (pc := 39) (D := (dC, dI)) (ci := 0) (v := .ref (q 1)) (C := R_D) (T := F_D) (N := 14) hx hb hts i_D hown hK hP 0 rfl rfl 2 (by decide) (hts _ fl_D_39) (fun _ h9 => h9) rfl d_D_keyByte_39 ?_
            refine lv_aload_n (pc := 42) hx hb d_D_keyByte_42 rfl (lv_at hl 0 rfl) ?_
            refine lv_dup (pc := 43) hx hb d_D_keyByte_43 rfl ?_
            refine va_get (pc := 44) (D := (dC, dI)) (ci := 0) (v := .int (nI kn)) (C := R_D) (T := F_D) (N := 14) hx hb hts i_D hown hK hP 0 rfl rfl 3 (by decide) (hts _ fl_D_100) (fun _ h9 => h9) rfl d_D_keyByte_44 ?_
            refine lv_dup_x1 (pc := 47) hx hb d_D_keyByte_47 rfl rfl ?_
            refine lv_iconst (pc := 48) (v := (nI 1)) hx hb d_D_keyByte_48 (by decide) ?_
            refine xi_add (pc := 49) hx hb d_D_keyByte_49 ?_
            refine va_put (pc := 50) (D := (dC, dI)) (ci := 0) (v := .int (nI (kn + 1))) (ty := .int) (C := R_D) (T := F_D) (N := 14) hx hb hts i_D t_D t_D_ok n_D hown hK hP hD hS 0 rfl rfl 3 (by decide) (hts _ fl_D_100) (fun _ h9 => h9) rfl (by decide +kernel) rfl rfl (Nat.le_of_ble_eq_true rfl) d_D_keyByte_50 (fun H locs hP hD hS => ?_)
            have hP : va_P (dC, dI) classes (wD cI cB q L (nI L) rdy (nI (kn + 1)) alg cnt opn mac rl key st buf wds fil res) H := hP
            have hD : va_D A (wD cI cB q L (nI L) rdy (nI (kn + 1)) alg cnt opn mac rl key st buf wds fil res) := hD
            refine lv_iload_n (pc := 53) hx hb d_D_keyByte_53 rfl (lv_at hl 1 rfl) ?_
            refine lv_i2b (pc := 54) (v := b.toInt8.toInt32) hx hb d_D_keyByte_54 rfl ?_
            refine xa_bast (pc := 55) (x := b.toInt8.toInt32) hx hb hK hP hD hS 1 1 rfl rfl (y := b.toInt8.toInt32) (pk_vb _) (by omega) (by omega) d_D_keyByte_55 (fun H locs hP hD hS => ?_)
            have hP : va_P (dC, dI) classes (wD cI cB q L (nI L) rdy (nI (kn + 1)) alg cnt opn mac rl (upd key kn b.toInt8.toInt32) st buf wds fil res) H := hP
            have hD : va_D A (wD cI cB q L (nI L) rdy (nI (kn + 1)) alg cnt opn mac rl (upd key kn b.toInt8.toInt32) st buf wds fil res) := hD
            refine lv_iconst (pc := 56) (v := (nI 1)) hx hb d_D_keyByte_56 (by decide) ?_
            exact W.zret (v := (nI 1)) hx hb hr rfl (fun t ht hW => ⟨⟨(nI 1), (kn + 1, upd key kn b.toInt8.toInt32), rfl, Or.inr ⟨rfl, ⟨c0, c1, c2, c3, c4⟩, rfl⟩, by rw [ht]; exact hP, va_K.moved hW.alike hK, hD⟩, hS.F ht⟩) hS.2.2 d_D_keyByte_57
          · refine lv_iconst (pc := 36) (v := (nI 0)) hx hb d_D_keyByte_36 (by decide) ?_
            exact W.zret (v := (nI 0)) hx hb hr rfl (fun t ht hW => ⟨⟨(nI 0), (kn, key), rfl, Or.inl ⟨rfl, fun z => z.2.2.2.2 c4, rfl⟩, by rw [ht]; exact hP, va_K.moved hW.alike hK, hD⟩, hS.F ht⟩) hS.2.2 d_D_keyByte_37
set_option maxHeartbeats 4000000 in
set_option maxRecDepth 100000 in
theorem c_D_update (l : Launch) (dC : Nat → ClassId) (dI : Nat → Nat → Nat) (cI cB : ClassId) (q : Nat → Nat) (sz : Nat) (L : Nat) (lim rdy kc alg opn mac rl : Int32) (key st buf wds fil res : Nat → Int32) (blk : Nat → Int32) (n : Nat) (b : Int32) (hn : n < 2 ^ 60) (h8 : R8 buf blk) : Met l y_D_update (k_D_update :: tT) ({ frames := 3, cells := 0, slots := 0, locals := 75 }) (va_Pc [.ref (q 0), .int b] (pD (dC, dI) cI cB sz (wD cI cB q L lim rdy kc alg (lN n) opn mac rl key st buf wds fil res))) (va_Qi (fun (rr : Int32) (u : (Nat → Int32) × (Nat → Int32) × (Nat → Int32) × Nat) => (rr = nI 0 ∧ ¬ upOK (opn = 0) b ∧ u = (st, buf, wds, n)) ∨ (rr = nI 1 ∧ upOK (opn = 0) b ∧ u.1 = (hput alg b (st, blk, n)).1 ∧ R8 u.2.1 (hput alg b (st, blk, n)).2.1 ∧ u.2.2.2 = n + 1)) (fun u t => qD (dC, dI) cI cB (va_A (wD cI cB q L lim rdy kc alg (lN n) opn mac rl key st buf wds fil res) sz) (wD cI cB q L lim rdy kc alg (lN u.2.2.2) opn mac rl key u.1 u.2.1 u.2.2.1 fil res) t) (va_A (wD cI cB q L lim rdy kc alg (lN n) opn mac rl key st buf wds fil res) sz)) 0 0 (va_A (wD cI cB q L lim rdy kc alg (lN n) opn mac rl key st buf wds fil res) sz) := by
  refine Met.ofW (cc := b_D_update) (maxL := 2) (ret := (some .boolean)) (by decide) rfl ?_
  intro p e s m args below meth c s₁ B hml hv
  obtain ⟨rfl, hsz, hP, hK, hD0, hST⟩ := hv
  have hx := B.exec
  have hb := B.bytes
  have hr := B.returns
  have hts : ∀ w ∈ tT, w.before _ s = true := fun w h => atoms_spec (ws := k_D_update :: tT) B.pre w (List.mem_cons_of_mem _ h)
  have hown : s.vm.findClass R_D = some m.cls := findClass_of_methodNamed B.named
  have hlocks := B.notSynchronized
  subst hsz
  have hD := hD0.self (sz := s.heap.size)
  generalize hAe : va_A (wD cI cB q L lim rdy kc alg (lN n) opn mac rl key st buf wds fil res) s.heap.size = A at hD hST ⊢
  have hA : ∀ q : Nat, s.heap.size ≤ q → A q := fun q h => by rw [← hAe]; exact Or.inr h
  have hS : va_S A s.heap s.heap [] := va_S.rf
  have hP : va_P (dC, dI) classes (wD cI cB q L lim rdy kc alg (lN n) opn mac rl key st buf wds fil res) s.heap := hP
  have hl := lv_entry ([.ref (q 0), .int b]) (n := 2) (Nat.le_of_ble_eq_true rfl)
  rw [lg_entry_eq]
  generalize (lg_sl ([.ref (q 0), .int b]) ++ List.replicate (2 - (lg_sl ([.ref (q 0), .int b])).length) Slot.unset).toArray = ls at hl ⊢
  have hl : lv_has ls 2 [(0, .ref (q 0)), (1, .int b)] := hl
  refine lv_aload_n (pc := 0) hx hb d_D_update_0 rfl (lv_at hl 0 rfl) ?_
  refine va_get (pc := 1) (D := (dC, dI)) (ci := 0) (v := .int opn) (C := R_D) (T := F_D) (N := 14) hx hb hts i_D hown hK hP 0 rfl rfl 9 (by decide) (hts _ fl_D_103) (fun _ h9 => h9) rfl d_D_update_1 ?_
  refine lv_if_eq (pc := 4) (tgt := 18) hx hb d_D_update_4 (by decide) (fun c0 => ?_) (fun c0 => ?_)
  · refine lv_iconst (pc := 18) (v := (nI 0)) hx hb d_D_update_18 (by decide) ?_
    exact W.zret (v := (nI 0)) hx hb hr rfl (fun t ht hW => ⟨⟨(nI 0), (st, buf, wds, n), rfl, Or.inl ⟨rfl, fun z => z.1 c0, rfl⟩, by rw [ht]; exact hP, va_K.moved hW.alike hK, hD⟩, hS.F ht⟩) hS.2.2 d_D_update_19
  · refine lv_iload_n (pc := 7) hx hb d_D_update_7 rfl (lv_at hl 1 rfl) ?_
    refine lv_if_lt (pc := 8) (tgt := 18) hx hb d_D_update_8 (by decide) (fun c1 => ?_) (fun c1 => ?_)
    · refine lv_iconst (pc := 18) (v := (nI 0)) hx hb d_D_update_18 (by decide) ?_
      exact W.zret (v := (nI 0)) hx hb hr rfl (fun t ht hW => ⟨⟨(nI 0), (st, buf, wds, n), rfl, Or.inl ⟨rfl, fun z => z.2.1 c1, rfl⟩, by rw [ht]; exact hP, va_K.moved hW.alike hK, hD⟩, hS.F ht⟩) hS.2.2 d_D_update_19
    · refine lv_iload_n (pc := 11) hx hb d_D_update_11 rfl (lv_at hl 1 rfl) ?_
      refine lv_sipush (pc := 12) (v := (nI 255)) hx hb d_D_update_12 (by decide) ?_
      refine lv_icmp_le (pc := 15) (tgt := 20) hx hb d_D_update_15 (by decide) (fun c2 => ?_) (fun c2 => ?_)
      · have c3 : ¬ nI 255 < b := Int32.not_lt.mpr c2
        refine lv_aload_n (pc := 20) hx hb d_D_update_20 rfl (lv_at hl 0 rfl) ?_
        refine lv_iload_n (pc := 21) hx hb d_D_update_21 rfl (lv_at hl 1 rfl) ?_
        refine kvG (pc := 22) (As := [.int b]) (rest := []) (wr := []) (ci := 0) ⟨hx, hb, hml, hown, hts⟩ (c_D_put l dC dI cI cB q s.heap.size L lim rdy kc alg opn mac rl key st buf wds fil res blk n b (by omega) h8) (cwV 1 hts g_D_86 rfl rfl rfl hd_D_put ⟨by decide, by decide⟩) hK hP hD hS hA hST [0, 1, 2, 3, 4, 5, 6] [] rfl rfl (by decide) (by decide) (by decide) rfl rfl rfl hl.1 rfl (Nat.le_of_ble_eq_true rfl) d_D_update_22 ⟨by decide, by decide⟩ (fun u H locs hw hP hD hS => ?_)
        obtain ⟨u1, u2, u3⟩ := u
        have hP : va_P (dC, dI) classes (wD cI cB q L lim rdy kc alg (lN (n + 1)) opn mac rl key u1 u2 u3 fil res) H := hP
        have hD : va_D A (wD cI cB q L lim rdy kc alg (lN (n + 1)) opn mac rl key u1 u2 u3 fil res) := hD
        rw [byte_in c1 c3] at hw
        refine lv_iconst (pc := 25) (v := (nI 1)) hx hb d_D_update_25 (by decide) ?_
        exact W.zret (v := (nI 1)) hx hb hr rfl (fun t ht hW => ⟨⟨(nI 1), (u1, u2, u3, n + 1), rfl, Or.inr ⟨rfl, ⟨c0, c1, c3⟩, hw.1, hw.2, rfl⟩, by rw [ht]; exact hP, va_K.moved hW.alike hK, hD⟩, hS.F ht⟩) hS.2.2 d_D_update_26
      · refine lv_iconst (pc := 18) (v := (nI 0)) hx hb d_D_update_18 (by decide) ?_
        exact W.zret (v := (nI 0)) hx hb hr rfl (fun t ht hW => ⟨⟨(nI 0), (st, buf, wds, n), rfl, Or.inl ⟨rfl, fun z => z.2.2 (Int32.not_le.mp c2), rfl⟩, by rw [ht]; exact hP, va_K.moved hW.alike hK, hD⟩, hS.F ht⟩) hS.2.2 d_D_update_19
set_option maxHeartbeats 4000000 in
set_option maxRecDepth 100000 in
theorem c_D_out (l : Launch) (dC : Nat → ClassId) (dI : Nat → Nat → Nat) (cI cB : ClassId) (q : Nat → Nat) (sz : Nat) (L : Nat) (lim rdy kc alg opn mac : Int32) (cnt : Int64) (key st buf wds fil res : Nat → Int32) (rn : Nat) (dg : Nat → Int32) (i : Int32) (hrn : rn ≤ 20) (r8 : R8 res dg) : Met l y_D_out (k_D_out :: tT) ({ frames := 0, cells := 0, slots := 0, locals := 0 }) (va_Pc [.ref (q 0), .int i] (pD (dC, dI) cI cB sz (wD cI cB q L lim rdy kc alg cnt opn mac (nI rn) key st buf wds fil res))) (va_Qi (fun (rr : Int32) (u : Unit) => rr = outV rn dg i) (fun u t => qD (dC, dI) cI cB (va_A (wD cI cB q L lim rdy kc alg cnt opn mac (nI rn) key st buf wds fil res) sz) (wD cI cB q L lim rdy kc alg cnt opn mac (nI rn) key st buf wds fil res) t) (va_A (wD cI cB q L lim rdy kc alg cnt opn mac (nI rn) key st buf wds fil res) sz)) 0 0 (va_A (wD cI cB q L lim rdy kc alg cnt opn mac (nI rn) key st buf wds fil res) sz) := by
  refine Met.ofW (cc := b_D_out) (maxL := 2) (ret := (some .int)) (by decide) rfl ?_
  intro p e s m args below meth c s₁ B hml hv
  obtain ⟨rfl, hsz, hP, hK, hD0, hST⟩ := hv
  have hx := B.exec
  have hb := B.bytes
  have hr := B.returns
  have hts : ∀ w ∈ tT, w.before _ s = true := fun w h => atoms_spec (ws := k_D_out :: tT) B.pre w (List.mem_cons_of_mem _ h)
  have hown : s.vm.findClass R_D = some m.cls := findClass_of_methodNamed B.named
  have hlocks := B.notSynchronized
  subst hsz
  have hD := hD0.self (sz := s.heap.size)
  generalize hAe : va_A (wD cI cB q L lim rdy kc alg cnt opn mac (nI rn) key st buf wds fil res) s.heap.size = A at hD hST ⊢
  have hA : ∀ q : Nat, s.heap.size ≤ q → A q := fun q h => by rw [← hAe]; exact Or.inr h
  have hS : va_S A s.heap s.heap [] := va_S.rf
  have hP : va_P (dC, dI) classes (wD cI cB q L lim rdy kc alg cnt opn mac (nI rn) key st buf wds fil res) s.heap := hP
  have hl := lv_entry ([.ref (q 0), .int i]) (n := 2) (Nat.le_of_ble_eq_true rfl)
  rw [lg_entry_eq]
  generalize (lg_sl ([.ref (q 0), .int i]) ++ List.replicate (2 - (lg_sl ([.ref (q 0), .int i])).length) Slot.unset).toArray = ls at hl ⊢
  have hl : lv_has ls 2 [(0, .ref (q 0)), (1, .int i)] := hl
  refine lv_iload_n (pc := 0) hx hb d_D_out_0 rfl (lv_at hl 1 rfl) ?_
  refine lv_if_lt (pc := 1) (tgt := 12) hx hb d_D_out_1 (by decide) (fun c0 => ?_) (fun c0 => ?_)
  · refine lv_iconst (pc := 12) (v := (-1)) hx hb d_D_out_12 (by decide) ?_
    refine lv_goto (pc := 13) (tgt := 26) hx hb d_D_out_13 (by decide) ?_
    exact W.iret (v := (-1)) hx hb hr (fun t ht hW => ⟨⟨(-1), (), rfl, by rw [outV, if_pos c0], by rw [ht]; exact hP, va_K.moved hW.alike hK, hD⟩, hS.F ht⟩) hS.2.2 d_D_out_26
  · refine lv_iload_n (pc := 4) hx hb d_D_out_4 rfl (lv_at hl 1 rfl) ?_
    refine lv_aload_n (pc := 5) hx hb d_D_out_5 rfl (lv_at hl 0 rfl) ?_
    refine va_get (pc := 6) (D := (dC, dI)) (ci := 0) (v := .int (nI rn)) (C := R_D) (T := F_D) (N := 14) hx hb hts i_D hown hK hP 0 rfl rfl 13 (by decide) (hts _ fl_D_106) (fun _ h9 => h9) rfl d_D_out_6 ?_
    refine lv_icmp_lt (pc := 9) (tgt := 16) hx hb d_D_out_9 (by decide) (fun c1 => ?_) (fun c1 => ?_)
    · obtain ⟨j, hj, ej⟩ := nI_of c0
      subst ej
      have c2 : j < rn := (nI_ltI hj (by omega)).mp c1
      refine lv_aload_n (pc := 16) hx hb d_D_out_16 rfl (lv_at hl 0 rfl) ?_
      refine va_get (pc := 17) (D := (dC, dI)) (ci := 0) (v := .ref (q 6)) (C := R_D) (T := F_D) (N := 14) hx hb hts i_D hown hK hP 0 rfl rfl 12 (by decide) (hts _ fl_D_23) (fun _ h9 => h9) rfl d_D_out_17 ?_
      refine lv_iload_n (pc := 20) hx hb d_D_out_20 rfl (lv_at hl 1 rfl) ?_
      refine xa_bald (pc := 21) hx hb hK hP 6 1 rfl rfl (by omega) (by decide) d_D_out_21 ?_
      refine lv_sipush (pc := 22) (v := (nI 255)) hx hb d_D_out_22 (by decide) ?_
      refine lv_iand (pc := 25) hx hb d_D_out_25 ?_
      exact W.iret (v := ((res j) &&& (nI 255))) hx hb hr (fun t ht hW => ⟨⟨((res j) &&& (nI 255)), (), rfl, by rw [outV, if_neg c0, if_pos c1, r8, nI_clamp hj], by rw [ht]; exact hP, va_K.moved hW.alike hK, hD⟩, hS.F ht⟩) hS.2.2 d_D_out_26
    · refine lv_iconst (pc := 12) (v := (-1)) hx hb d_D_out_12 (by decide) ?_
      refine lv_goto (pc := 13) (tgt := 26) hx hb d_D_out_13 (by decide) ?_
      exact W.iret (v := (-1)) hx hb hr (fun t ht hW => ⟨⟨(-1), (), rfl, by rw [outV, if_neg c0, if_neg c1], by rw [ht]; exact hP, va_K.moved hW.alike hK, hD⟩, hS.F ht⟩) hS.2.2 d_D_out_26
set_option maxHeartbeats 4000000 in
set_option maxRecDepth 100000 in
theorem c_D_outLen (l : Launch) (dC : Nat → ClassId) (dI : Nat → Nat → Nat) (cI cB : ClassId) (q : Nat → Nat) (sz : Nat) (L : Nat) (lim rdy kc alg opn mac rl : Int32) (cnt : Int64) (key st buf wds fil res : Nat → Int32)  : Met l y_D_outLen (k_D_outLen :: tT) ({ frames := 0, cells := 0, slots := 0, locals := 0 }) (va_Pc [.ref (q 0)] (pD (dC, dI) cI cB sz (wD cI cB q L lim rdy kc alg cnt opn mac rl key st buf wds fil res))) (va_Qi (fun (rr : Int32) (u : Unit) => rr = rl) (fun u t => qD (dC, dI) cI cB (va_A (wD cI cB q L lim rdy kc alg cnt opn mac rl key st buf wds fil res) sz) (wD cI cB q L lim rdy kc alg cnt opn mac rl key st buf wds fil res) t) (va_A (wD cI cB q L lim rdy kc alg cnt opn mac rl key st buf wds fil res) sz)) 0 0 (va_A (wD cI cB q L lim rdy kc alg cnt opn mac rl key st buf wds fil res) sz) := by
  refine Met.ofW (cc := b_D_outLen) (maxL := 1) (ret := (some .int)) (by decide) rfl ?_
  intro p e s m args below meth c s₁ B hml hv
  obtain ⟨rfl, hsz, hP, hK, hD0, hST⟩ := hv
  have hx := B.exec
  have hb := B.bytes
  have hr := B.returns
  have hts : ∀ w ∈ tT, w.before _ s = true := fun w h => atoms_spec (ws := k_D_outLen :: tT) B.pre w (List.mem_cons_of_mem _ h)
  have hown : s.vm.findClass R_D = some m.cls := findClass_of_methodNamed B.named
  have hlocks := B.notSynchronized
  subst hsz
  have hD := hD0.self (sz := s.heap.size)
  generalize hAe : va_A (wD cI cB q L lim rdy kc alg cnt opn mac rl key st buf wds fil res) s.heap.size = A at hD hST ⊢
  have hA : ∀ q : Nat, s.heap.size ≤ q → A q := fun q h => by rw [← hAe]; exact Or.inr h
  have hS : va_S A s.heap s.heap [] := va_S.rf
  have hP : va_P (dC, dI) classes (wD cI cB q L lim rdy kc alg cnt opn mac rl key st buf wds fil res) s.heap := hP
  have hl := lv_entry ([.ref (q 0)]) (n := 1) (Nat.le_of_ble_eq_true rfl)
  rw [lg_entry_eq]
  generalize (lg_sl ([.ref (q 0)]) ++ List.replicate (1 - (lg_sl ([.ref (q 0)])).length) Slot.unset).toArray = ls at hl ⊢
  have hl : lv_has ls 1 [(0, .ref (q 0))] := hl
  refine lv_aload_n (pc := 0) hx hb d_D_outLen_0 rfl (lv_at hl 0 rfl) ?_
  refine va_get (pc := 1) (D := (dC, dI)) (ci := 0) (v := .int rl) (C := R_D) (T := F_D) (N := 14) hx hb hts i_D hown hK hP 0 rfl rfl 13 (by decide) (hts _ fl_D_106) (fun _ h9 => h9) rfl d_D_outLen_1 ?_
  exact W.iret (v := rl) hx hb hr (fun t ht hW => ⟨⟨rl, (), rfl, rfl, by rw [ht]; exact hP, va_K.moved hW.alike hK, hD⟩, hS.F ht⟩) hS.2.2 d_D_outLen_4
set_option maxHeartbeats 4000000 in
set_option maxRecDepth 100000 in
theorem c_D_keyLen (l : Launch) (dC : Nat → ClassId) (dI : Nat → Nat → Nat) (cI cB : ClassId) (q : Nat → Nat) (sz : Nat) (L : Nat) (lim rdy kc alg opn mac rl : Int32) (cnt : Int64) (key st buf wds fil res : Nat → Int32)  : Met l y_D_keyLen (k_D_keyLen :: tT) ({ frames := 0, cells := 0, slots := 0, locals := 0 }) (va_Pc [.ref (q 0)] (pD (dC, dI) cI cB sz (wD cI cB q L lim rdy kc alg cnt opn mac rl key st buf wds fil res))) (va_Qi (fun (rr : Int32) (u : Unit) => rr = kc) (fun u t => qD (dC, dI) cI cB (va_A (wD cI cB q L lim rdy kc alg cnt opn mac rl key st buf wds fil res) sz) (wD cI cB q L lim rdy kc alg cnt opn mac rl key st buf wds fil res) t) (va_A (wD cI cB q L lim rdy kc alg cnt opn mac rl key st buf wds fil res) sz)) 0 0 (va_A (wD cI cB q L lim rdy kc alg cnt opn mac rl key st buf wds fil res) sz) := by
  refine Met.ofW (cc := b_D_keyLen) (maxL := 1) (ret := (some .int)) (by decide) rfl ?_
  intro p e s m args below meth c s₁ B hml hv
  obtain ⟨rfl, hsz, hP, hK, hD0, hST⟩ := hv
  have hx := B.exec
  have hb := B.bytes
  have hr := B.returns
  have hts : ∀ w ∈ tT, w.before _ s = true := fun w h => atoms_spec (ws := k_D_keyLen :: tT) B.pre w (List.mem_cons_of_mem _ h)
  have hown : s.vm.findClass R_D = some m.cls := findClass_of_methodNamed B.named
  have hlocks := B.notSynchronized
  subst hsz
  have hD := hD0.self (sz := s.heap.size)
  generalize hAe : va_A (wD cI cB q L lim rdy kc alg cnt opn mac rl key st buf wds fil res) s.heap.size = A at hD hST ⊢
  have hA : ∀ q : Nat, s.heap.size ≤ q → A q := fun q h => by rw [← hAe]; exact Or.inr h
  have hS : va_S A s.heap s.heap [] := va_S.rf
  have hP : va_P (dC, dI) classes (wD cI cB q L lim rdy kc alg cnt opn mac rl key st buf wds fil res) s.heap := hP
  have hl := lv_entry ([.ref (q 0)]) (n := 1) (Nat.le_of_ble_eq_true rfl)
  rw [lg_entry_eq]
  generalize (lg_sl ([.ref (q 0)]) ++ List.replicate (1 - (lg_sl ([.ref (q 0)])).length) Slot.unset).toArray = ls at hl ⊢
  have hl : lv_has ls 1 [(0, .ref (q 0))] := hl
  refine lv_aload_n (pc := 0) hx hb d_D_keyLen_0 rfl (lv_at hl 0 rfl) ?_
  refine va_get (pc := 1) (D := (dC, dI)) (ci := 0) (v := .int kc) (C := R_D) (T := F_D) (N := 14) hx hb hts i_D hown hK hP 0 rfl rfl 3 (by decide) (hts _ fl_D_100) (fun _ h9 => h9) rfl d_D_keyLen_1 ?_
  exact W.iret (v := kc) hx hb hr (fun t ht hW => ⟨⟨kc, (), rfl, rfl, by rw [ht]; exact hP, va_K.moved hW.alike hK, hD⟩, hS.F ht⟩) hS.2.2 d_D_keyLen_4
set_option maxHeartbeats 4000000 in
set_option maxRecDepth 100000 in
theorem c_D_length (l : Launch) (dC : Nat → ClassId) (dI : Nat → Nat → Nat) (cI cB : ClassId) (q : Nat → Nat) (sz : Nat) (L : Nat) (lim rdy kc alg opn mac rl : Int32) (key st buf wds fil res : Nat → Int32) (n : Nat) (hm : ¬ opn = 0 → ¬ mac = 0 → 64 ≤ n) : Met l y_D_length (k_D_length :: tT) ({ frames := 0, cells := 0, slots := 0, locals := 0 }) (va_Pc [.ref (q 0)] (pD (dC, dI) cI cB sz (wD cI cB q L lim rdy kc alg (lN n) opn mac rl key st buf wds fil res))) (va_Ql (fun (rr : Int64) (u : Unit) => rr = if opn = 0 then -1 else if mac = 0 then lN n else lN (n - 64)) (fun u t => qD (dC, dI) cI cB (va_A (wD cI cB q L lim rdy kc alg (lN n) opn mac rl key st buf wds fil res) sz) (wD cI cB q L lim rdy kc alg (lN n) opn mac rl key st buf wds fil res) t) (va_A (wD cI cB q L lim rdy kc alg (lN n) opn mac rl key st buf wds fil res) sz)) 0 0 (va_A (wD cI cB q L lim rdy kc alg (lN n) opn mac rl key st buf wds fil res) sz) := by
  refine Met.ofW (cc := b_D_length) (maxL := 1) (ret := (some .long)) (by decide) rfl ?_
  intro p e s m args below meth c s₁ B hml hv
  obtain ⟨rfl, hsz, hP, hK, hD0, hST⟩ := hv
  have hx := B.exec
  have hb := B.bytes
  have hr := B.returns
  have hts : ∀ w ∈ tT, w.before _ s = true := fun w h => atoms_spec (ws := k_D_length :: tT) B.pre w (List.mem_cons_of_mem _ h)
  have hown : s.vm.findClass R_D = some m.cls := findClass_of_methodNamed B.named
  have hlocks := B.notSynchronized
  subst hsz
  have hD := hD0.self (sz := s.heap.size)
  generalize hAe : va_A (wD cI cB q L lim rdy kc alg (lN n) opn mac rl key st buf wds fil res) s.heap.size = A at hD hST ⊢
  have hA : ∀ q : Nat, s.heap.size ≤ q → A q := fun q h => by rw [← hAe]; exact Or.inr h
  have hS : va_S A s.heap s.heap [] := va_S.rf
  have hP : va_P (dC, dI) classes (wD cI cB q L lim rdy kc alg (lN n) opn mac rl key st buf wds fil res) s.heap := hP
  have hl := lv_entry ([.ref (q 0)]) (n := 1) (Nat.le_of_ble_eq_true rfl)
  rw [lg_entry_eq]
  generalize (lg_sl ([.ref (q 0)]) ++ List.replicate (1 - (lg_sl ([.ref (q 0)])).length) Slot.unset).toArray = ls at hl ⊢
  have hl : lv_has ls 1 [(0, .ref (q 0))] := hl
  refine lv_aload_n (pc := 0) hx hb d_D_length_0 rfl (lv_at hl 0 rfl) ?_
  refine va_get (pc := 1) (D := (dC, dI)) (ci := 0) (v := .int opn) (C := R_D) (T := F_D) (N := 14) hx hb hts i_D hown hK hP 0 rfl rfl 9 (by decide) (hts _ fl_D_103) (fun _ h9 => h9) rfl d_D_length_1 ?_
  refine lv_if_ne (pc := 4) (tgt := 13) hx hb d_D_length_4 (by decide) (fun c0 => ?_) (fun c0 => ?_)
  · refine lv_aload_n (pc := 13) hx hb d_D_length_13 rfl (lv_at hl 0 rfl) ?_
    refine va_get (pc := 14) (D := (dC, dI)) (ci := 0) (v := .int mac) (C := R_D) (T := F_D) (N := 14) hx hb hts i_D hown hK hP 0 rfl rfl 10 (by decide) (hts _ fl_D_116) (fun _ h9 => h9) rfl d_D_length_14 ?_
    refine lv_if_eq (pc := 17) (tgt := 31) hx hb d_D_length_17 (by decide) (fun c1 => ?_) (fun c1 => ?_)
    · refine lv_aload_n (pc := 31) hx hb d_D_length_31 rfl (lv_at hl 0 rfl) ?_
      refine va_get (pc := 32) (D := (dC, dI)) (ci := 0) (v := .long (lN n)) (C := R_D) (T := F_D) (N := 14) hx hb hts i_D hown hK hP 0 rfl rfl 8 (by decide) (hts _ fl_D_45) (fun _ h9 => h9) rfl d_D_length_32 ?_
      exact W.lret (v := (lN n)) hx hb hr (fun t ht hW => ⟨⟨(lN n), (), rfl, by rw [if_neg c0, if_pos c1], by rw [ht]; exact hP, va_K.moved hW.alike hK, hD⟩, hS.F ht⟩) hS.2.2 d_D_length_35
    · have hm2 := hm c0 c1
      refine lv_aload_n (pc := 20) hx hb d_D_length_20 rfl (lv_at hl 0 rfl) ?_
      refine va_get (pc := 21) (D := (dC, dI)) (ci := 0) (v := .long (lN n)) (C := R_D) (T := F_D) (N := 14) hx hb hts i_D hown hK hP 0 rfl rfl 8 (by decide) (hts _ fl_D_45) (fun _ h9 => h9) rfl d_D_length_21 ?_
      refine lv_ldc2 (pc := 24) hx hb hown (hts _ cn_D_58) d_D_length_24 ?_
      refine xs_l (y := (lN 64)) (rfl) ?_
      refine xl_sub (pc := 27) hx hb d_D_length_27 (by omega) ?_
      refine lv_goto (pc := 28) (tgt := 35) hx hb d_D_length_28 (by decide) ?_
      exact W.lret (v := (lN (n - 64))) hx hb hr (fun t ht hW => ⟨⟨(lN (n - 64)), (), rfl, by rw [if_neg c0, if_neg c1], by rw [ht]; exact hP, va_K.moved hW.alike hK, hD⟩, hS.F ht⟩) hS.2.2 d_D_length_35
  · refine lv_ldc2 (pc := 7) hx hb hown (hts _ cn_D_125) d_D_length_7 ?_
    refine lv_goto (pc := 10) (tgt := 35) hx hb d_D_length_10 (by decide) ?_
    exact W.lret (v := (-1 : Int64)) hx hb hr (fun t ht hW => ⟨⟨(-1 : Int64), (), rfl, by rw [if_pos c0], by rw [ht]; exact hP, va_K.moved hW.alike hK, hD⟩, hS.F ht⟩) hS.2.2 d_D_length_35
end
section
theorem cpy_lt {f g : Nat → Int32} {n : Nat} : ∀ j, j < n → va_cpy f g 0 0 n j = (fun j => if j < n then f j else nI 0) j := by
  intro j hj
  rw [va_cpy, if_pos ⟨Nat.zero_le _, by omega⟩]
  show f (0 + (j - 0)) = if j < n then f j else nI 0
  rw [if_pos hj, Nat.sub_zero, Nat.zero_add]
theorem fill_long {wh : Int32} {kn : Nat} {kf : Nat → Int32} {h : HS} (c : 64 < kn) : fillH wh kn kf h = hend wh (hputs wh kf (hini h.1, h.2.1, 0) kn) := if_pos c
theorem fill_short {wh : Int32} {kn : Nat} {kf : Nat → Int32} {h : HS} (c : ¬ 64 < kn) : fillH wh kn kf h = h := if_neg c
theorem fillD_long {wh : Int32} {kn : Nat} {kf : Nat → Int32} {h : HS} {dg : Nat → Int32} (c : 64 < kn) : fillD wh kn kf h dg = digU wh (hend wh (hputs wh kf (hini h.1, h.2.1, 0) kn)).1 dg (hlen wh) := by rw [fillD, if_pos c, fill_long c]
theorem fillD_short {wh : Int32} {kn : Nat} {kf : Nat → Int32} {h : HS} {dg : Nat → Int32} (c : ¬ 64 < kn) : fillD wh kn kf h dg = dg := if_neg c
theorem fillP_long {wh : Int32} {kn : Nat} {kf : Nat → Int32} {h : HS} {dg rs : Nat → Int32} (c : 64 < kn) (r : R8 rs (fillD wh kn kf h dg)) {k : Nat} : (if k < hlen wh then rs k else nI 0) &&& nI 255 = fillP wh kn kf h dg k := by
  rw [fillP, if_pos c]
  by_cases z : k < hlen wh
  · rw [if_pos z, if_pos z, r]
  · rw [if_neg z, if_neg z]; decide
theorem fillP_short {wh : Int32} {kn : Nat} {kf key : Nat → Int32} {h : HS} {dg : Nat → Int32} (c : ¬ 64 < kn) (r : R8 key kf) {k : Nat} : (if k < kn then key k else nI 0) &&& nI 255 = fillP wh kn kf h dg k := by
  rw [fillP, if_neg c]
  by_cases z : k < kn
  · rw [if_pos z, if_pos z, r]
  · rw [if_neg z, if_neg z]; decide
theorem fillH_n {wh : Int32} {kn : Nat} {kf : Nat → Int32} {h : HS} (hk : kn ≤ 300) (hn : h.2.2 < 2 ^ 50) : (fillH wh kn kf h).2.2 < 2 ^ 51 := by
  by_cases c : 64 < kn
  · rw [fill_long c, hend_n, hputs_n]
    have := hzn_le ((hini h.1, h.2.1, 0) : HS).2.2
    have h2 := hzn_le ((hini h.1, h.2.1, 0).2.2 + kn + 1)
    show 0 + kn + 1 + _ + 8 < _
    have h3 := hzn_le (0 + kn + 1)
    have h4 : hzn (((hini h.1, h.2.1, 0) : HS).2.2 + kn + 1) < 64 := hzn_le _
    omega
  · rw [fill_short c]; omega
end
section
set_option maxHeartbeats 4000000 in
set_option maxRecDepth 100000 in
/-- fill: the key as it is used -/
theorem c_D_fill (l : Launch) (dC : Nat → ClassId) (dI : Nat → Nat → Nat) (cI cB : ClassId) (q : Nat → Nat) (sz : Nat) (L : Nat) (lim rdy alg opn mac rl : Int32) (key st buf wds fil res : Nat → Int32) (blk dg kf : Nat → Int32) (n kn : Nat) (wh : Int32) (hL : L ≤ 300) (hkn : kn ≤ L) (hn : n < 2 ^ 50) (h8 : R8 buf blk) (r8 : R8 res dg) (k8 : R8 key kf) (fk : sb_Fit key) (fr : sb_Fit res) : Met l y_D_fill (k_D_fill :: tT) ({ frames := 4, cells := 0, slots := 0, locals := 99 }) (va_Pc [.ref (q 0), .int wh] (pD (dC, dI) cI cB sz (wD cI cB q L lim rdy (nI kn) alg (lN n) opn mac rl key st buf wds fil res))) (va_Qv (fun u : Int32 × Nat × (Nat → Int32) × (Nat → Int32) × (Nat → Int32) × (Nat → Int32) × (Nat → Int32) => u.2.2.1 = (fillH wh kn kf (st, blk, n)).1 ∧ R8 u.2.2.2.1 (fillH wh kn kf (st, blk, n)).2.1 ∧ (∀ k, k < 64 → u.2.2.2.2.2.1 k &&& nI 255 = (fillP wh kn kf (st, blk, n) dg) k) ∧ R8 u.2.2.2.2.2.2 (fillD wh kn kf (st, blk, n) dg) ∧ sb_Fit u.2.2.2.2.2.2) (fun u t => qD (dC, dI) cI cB (va_A (wD cI cB q L lim rdy (nI kn) alg (lN n) opn mac rl key st buf wds fil res) sz) (wD cI cB q L lim rdy (nI kn) u.1 (lN u.2.1) opn mac rl key u.2.2.1 u.2.2.2.1 u.2.2.2.2.1 u.2.2.2.2.2.1 u.2.2.2.2.2.2) t) (va_A (wD cI cB q L lim rdy (nI kn) alg (lN n) opn mac rl key st buf wds fil res) sz)) 0 0 (va_A (wD cI cB q L lim rdy (nI kn) alg (lN n) opn mac rl key st buf wds fil res) sz) := by
  refine Met.ofW (cc := b_D_fill) (maxL := 4) (ret := none) (by decide) rfl ?_
  intro p e s m args below meth c s₁ B hml hv
  obtain ⟨rfl, hsz, hP, hK, hD0, hST⟩ := hv
  have hx := B.exec
  have hb := B.bytes
  have hr := B.returns
  have hts : ∀ w ∈ tT, w.before _ s = true := fun w h => atoms_spec (ws := k_D_fill :: tT) B.pre w (List.mem_cons_of_mem _ h)
  have hown : s.vm.findClass R_D = some m.cls := findClass_of_methodNamed B.named
  have hlocks := B.notSynchronized
  subst hsz
  have hD := hD0.self (sz := s.heap.size)
  generalize hAe : va_A (wD cI cB q L lim rdy (nI kn) alg (lN n) opn mac rl key st buf wds fil res) s.heap.size = A at hD hST ⊢
  have hA : ∀ q : Nat, s.heap.size ≤ q → A q := fun q h => by rw [← hAe]; exact Or.inr h
  have hS : va_S A s.heap s.heap [] := va_S.rf
  have hP : va_P (dC, dI) classes (wD cI cB q L lim rdy (nI kn) alg (lN n) opn mac rl key st buf wds fil res) s.heap := hP
  have hl := lv_entry ([.ref (q 0), .int wh]) (n := 4) (Nat.le_of_ble_eq_true rfl)
  rw [lg_entry_eq]
  generalize (lg_sl ([.ref (q 0), .int wh]) ++ List.replicate (4 - (lg_sl ([.ref (q 0), .int wh])).length) Slot.unset).toArray = ls at hl ⊢
  have hl : lv_has ls 4 [(0, .ref (q 0)), (1, .int wh)] := hl
  refine lv_aload_n (pc := 0) hx hb d_D_fill_0 rfl (lv_at hl 0 rfl) ?_
  refine va_get (pc := 1) (D := (dC, dI)) (ci := 0) (v := .int (nI kn)) (C := R_D) (T := F_D) (N := 14) hx hb hts i_D hown hK hP 0 rfl rfl 3 (by decide) (hts _ fl_D_100) (fun _ h9 => h9) rfl d_D_fill_1 ?_
  refine lv_istore_n (pc := 4) (lv' := [(2, .int (nI kn)), (0, .ref (q 0)), (1, .int wh)]) hx hb d_D_fill_4 rfl hl (by decide) rfl (fun ls hl => ?_)
  refine lv_iload_n (pc := 5) hx hb d_D_fill_5 rfl (lv_at hl 0 rfl) ?_
  refine lv_bipush (pc := 6) (v := (nI 64)) hx hb d_D_fill_6 (by decide) ?_
  refine xi_le (pc := 8) (tgt := 65) hx hb d_D_fill_8 (by decide) (by omega) (by omega) (fun c0 => ?_) (fun c0 => ?_)
  · refine lv_aload_n (pc := 65) hx hb d_D_fill_65 rfl (lv_at hl 1 rfl) ?_
    refine va_get (pc := 66) (D := (dC, dI)) (ci := 0) (v := .ref (q 1)) (C := R_D) (T := F_D) (N := 14) hx hb hts i_D hown hK hP 0 rfl rfl 2 (by decide) (hts _ fl_D_39) (fun _ h9 => h9) rfl d_D_fill_66 ?_
    refine lv_iconst (pc := 69) (v := (nI 0)) hx hb d_D_fill_69 (by decide) ?_
    refine lv_aload_n (pc := 70) hx hb d_D_fill_70 rfl (lv_at hl 1 rfl) ?_
    refine va_get (pc := 71) (D := (dC, dI)) (ci := 0) (v := .ref (q 5)) (C := R_D) (T := F_D) (N := 14) hx hb hts i_D hown hK hP 0 rfl rfl 11 (by decide) (hts _ fl_D_20) (fun _ h9 => h9) rfl d_D_fill_71 ?_
    refine lv_iconst (pc := 74) (v := (nI 0)) hx hb d_D_fill_74 (by decide) ?_
    refine lv_iload_n (pc := 75) hx hb d_D_fill_75 rfl (lv_at hl 0 rfl) ?_
    refine xcopyB (pc := 76) (k := kn) hx hb (by rw [hml]; exact hl.1.symm) hown (hts _ ml_D_52) (hts _ nm_S_arraycopy) (hts _ sm_S_arraycopy) (hts _ in_S) hK hP hD hS 1 5 1 rfl rfl rfl rfl (by omega) (by omega) (by omega) fk (by decide) (Nat.le_of_ble_eq_true rfl) d_D_fill_76 (fun H locs hP hD hS => ?_)
    have hP : va_P (dC, dI) classes (wD cI cB q L lim rdy (nI kn) alg (lN n) opn mac rl key st buf wds (va_cpy key fil 0 0 kn) res) H := hP
    have hD : va_D A (wD cI cB q L lim rdy (nI kn) alg (lN n) opn mac rl key st buf wds (va_cpy key fil 0 0 kn) res) := hD
    refine lv_iload_n (pc := 79) hx hb d_D_fill_79 rfl (lv_at hl 0 rfl) ?_
    refine lv_istore_n (pc := 80) (lv' := [(3, .int (nI kn)), (2, .int (nI kn)), (0, .ref (q 0)), (1, .int wh)]) hx hb d_D_fill_80 rfl hl (by decide) rfl (fun ls hl => ?_)
    refine lp (α := Nat × (Nat → Int32)) (fun x => 64 - x.1) (fun x H1 locs1 g => ∃ ls, g = F0 m 81 ls [] ∧ lv_has ls 4 [(0, .ref (q 0)), (3, .int (nI x.1))] ∧ va_P (dC, dI) classes (wD cI cB q L lim rdy (nI kn) alg (lN n) opn mac rl key st buf wds x.2 res) H1 ∧ va_D A (wD cI cB q L lim rdy (nI kn) alg (lN n) opn mac rl key st buf wds x.2 res) ∧ va_S A s.heap H1 locs1 ∧ (x.1 ≤ 64) ∧ (∀ j, j < x.1 → x.2 j = (fun j => if j < kn then key j else nI 0) j) ∧ (kn ≤ x.1)) ?_ (kn, (va_cpy key fil 0 0 kn)) ⟨ls, rfl, lv_sub hl [2, 0] rfl, hP, hD, hS, (show kn ≤ 64 from by omega), (show ∀ j, j < kn → (va_cpy key fil 0 0 kn) j = (fun j => if j < kn then key j else nI 0) j from cpy_lt), (show kn ≤ kn from Nat.le_refl _)⟩
    rintro ⟨k, fl⟩ H locs g ihT ⟨ls, rfl, hl, hP, hD, hS, hk, hG, hk2⟩
    have hl : lv_has ls 4 [(0, .ref (q 0)), (3, .int (nI k))] := hl
    have hP : va_P (dC, dI) classes (wD cI cB q L lim rdy (nI kn) alg (lN n) opn mac rl key st buf wds fl res) H := hP
    have hD : va_D A (wD cI cB q L lim rdy (nI kn) alg (lN n) opn mac rl key st buf wds fl res) := hD
    have hk : k ≤ 64 := hk
    have hG : ∀ j, j < k → fl j = (fun j => if j < kn then key j else nI 0) j := hG
    have hk2 : kn ≤ k := hk2
    refine lv_iload_n (pc := 81) hx hb d_D_fill_81 rfl (lv_at hl 1 rfl) ?_
    refine lv_bipush (pc := 82) (v := (nI 64)) hx hb d_D_fill_82 (by decide) ?_
    refine xi_ge (pc := 84) (tgt := 100) hx hb d_D_fill_84 (by decide) (by omega) (by omega) (fun cT => ?_) (fun cT => ?_)
    · have hs1 : k = 64 := by omega
      subst hs1
      exact W.vret hx hb hr (fun t ht hW => ⟨⟨(alg, n, st, buf, wds, fl, res), rfl, ⟨by rw [fill_short (by omega)], by rw [fill_short (by omega)]; exact h8, fun k hk => by show fl k &&& nI 255 = _; rw [hG k hk]; exact fillP_short (by omega) k8, by rw [fillD_short (by omega)]; exact r8, fr⟩, by rw [ht]; exact hP, va_K.moved hW.alike hK, hD⟩, hS.F ht⟩) hS.2.2 d_D_fill_100
    · refine lv_aload_n (pc := 87) hx hb d_D_fill_87 rfl (lv_at hl 0 rfl) ?_
      refine va_get (pc := 88) (D := (dC, dI)) (ci := 0) (v := .ref (q 5)) (C := R_D) (T := F_D) (N := 14) hx hb hts i_D hown hK hP 0 rfl rfl 11 (by decide) (hts _ fl_D_20) (fun _ h9 => h9) rfl d_D_fill_88 ?_
      refine lv_iload_n (pc := 91) hx hb d_D_fill_91 rfl (lv_at hl 1 rfl) ?_
      refine lv_iconst (pc := 92) (v := (nI 0)) hx hb d_D_fill_92 (by decide) ?_
      refine xa_bast (pc := 93) (x := (nI 0)) hx hb hK hP hD hS 5 1 rfl rfl (y := (nI 0)) (nar0) (by omega) (by decide) d_D_fill_93 (fun H locs hP hD hS => ?_)
      have hP : va_P (dC, dI) classes (wD cI cB q L lim rdy (nI kn) alg (lN n) opn mac rl key st buf wds (upd fl k (nI 0)) res) H := hP
      have hD : va_D A (wD cI cB q L lim rdy (nI kn) alg (lN n) opn mac rl key st buf wds (upd fl k (nI 0)) res) := hD
      refine lv_iinc (pc := 94) (v := (nI (k + 1))) (lv' := [(3, .int (nI (k + 1))), (0, .ref (q 0))]) hx hb d_D_fill_94 hl (k := 1) rfl (inc1 _) (by decide) rfl (fun ls hl => ?_)
      refine lv_goto (pc := 97) (tgt := 81) hx hb d_D_fill_97 (by decide) ?_
      exact ihT (k + 1, upd fl k (nI 0)) _ _ _ (by show 64 - (k + 1) < 64 - k; omega) ⟨ls, rfl, lv_sub hl [1, 0] rfl, hP, hD, hS, (show (k + 1) ≤ 64 from by omega), (show ∀ j, j < (k + 1) → (upd fl k (nI 0)) j = (fun j => if j < kn then key j else nI 0) j from upd_lt hG (by show nI 0 = if k < kn then _ else nI 0; rw [if_neg (by omega)])), (show kn ≤ (k + 1) from by omega)⟩
  · refine lv_aload_n (pc := 11) hx hb d_D_fill_11 rfl (lv_at hl 1 rfl) ?_
    refine lv_iload_n (pc := 12) hx hb d_D_fill_12 rfl (lv_at hl 2 rfl) ?_
    refine kvG (pc := 13) (As := [.int wh]) (rest := []) (wr := []) (ci := 0) ⟨hx, hb, hml, hown, hts⟩ (c_D_begin l dC dI cI cB q s.heap.size L lim rdy (nI kn) alg opn mac rl (lN n) key st buf wds fil res wh) (cwV 1 hts g_D_113 rfl rfl rfl hd_D_begin ⟨by decide, by decide⟩) hK hP hD hS hA hST [0, 1, 2, 3, 4, 5, 6] [] rfl rfl (by decide) (by decide) (by decide) rfl rfl rfl hl.1 rfl (Nat.le_of_ble_eq_true rfl) d_D_fill_13 ⟨by decide, by decide⟩ (fun u H locs hw hP hD hS => ?_)
    have hP : va_P (dC, dI) classes (wD cI cB q L lim rdy (nI kn) wh (lN 0) opn mac rl key (hini st) buf wds fil res) H := hP
    have hD : va_D A (wD cI cB q L lim rdy (nI kn) wh (lN 0) opn mac rl key (hini st) buf wds fil res) := hD
    refine lv_iconst (pc := 16) (v := (nI 0)) hx hb d_D_fill_16 (by decide) ?_
    refine lv_istore_n (pc := 17) (lv' := [(3, .int (nI 0)), (2, .int (nI kn)), (0, .ref (q 0)), (1, .int wh)]) hx hb d_D_fill_17 rfl hl (by decide) rfl (fun ls hl => ?_)
    refine lp (α := Nat × (Nat → Int32) × (Nat → Int32)) (fun x => kn - x.1) (fun x H1 locs1 g => ∃ ls, g = F0 m 18 ls [] ∧ lv_has ls 4 [(0, .ref (q 0)), (1, .int wh), (2, .int (nI kn)), (3, .int (nI x.1))] ∧ va_P (dC, dI) classes (wD cI cB q L lim rdy (nI kn) wh (lN ((hputs wh kf (hini st, blk, 0) x.1).2.2)) opn mac rl key ((hputs wh kf (hini st, blk, 0) x.1).1) x.2.1 x.2.2 fil res) H1 ∧ va_D A (wD cI cB q L lim rdy (nI kn) wh (lN ((hputs wh kf (hini st, blk, 0) x.1).2.2)) opn mac rl key ((hputs wh kf (hini st, blk, 0) x.1).1) x.2.1 x.2.2 fil res) ∧ va_S A s.heap H1 locs1 ∧ (x.1 ≤ kn) ∧ (R8 x.2.1 (hputs wh kf (hini st, blk, 0) x.1).2.1)) ?_ (0, buf, wds) ⟨ls, rfl, lv_sub hl [2, 3, 1, 0] rfl, hP, hD, hS, (show 0 ≤ kn from Nat.zero_le _), (show R8 buf (hputs wh kf (hini st, blk, 0) 0).2.1 from h8)⟩
    rintro ⟨k, bf, wd⟩ H locs g ih ⟨ls, rfl, hl, hP, hD, hS, hk, h8⟩
    have hl : lv_has ls 4 [(0, .ref (q 0)), (1, .int wh), (2, .int (nI kn)), (3, .int (nI k))] := hl
    have hP : va_P (dC, dI) classes (wD cI cB q L lim rdy (nI kn) wh (lN ((hputs wh kf (hini st, blk, 0) k).2.2)) opn mac rl key ((hputs wh kf (hini st, blk, 0) k).1) bf wd fil res) H := hP
    have hD : va_D A (wD cI cB q L lim rdy (nI kn) wh (lN ((hputs wh kf (hini st, blk, 0) k).2.2)) opn mac rl key ((hputs wh kf (hini st, blk, 0) k).1) bf wd fil res) := hD
    have hk : k ≤ kn := hk
    have h8 : R8 bf (hputs wh kf (hini st, blk, 0) k).2.1 := h8
    have hkn2 : (hputs wh kf (hini st, blk, 0) k).2.2 = 0 + k := hputs_n _ _ _ _
    refine lv_iload_n (pc := 18) hx hb d_D_fill_18 rfl (lv_at hl 3 rfl) ?_
    refine lv_iload_n (pc := 19) hx hb d_D_fill_19 rfl (lv_at hl 2 rfl) ?_
    refine xi_ge (pc := 20) (tgt := 39) hx hb d_D_fill_20 (by decide) (by omega) (by omega) (fun c1 => ?_) (fun c1 => ?_)
    · have hs2 : kn = k := by omega
      subst hs2
      refine lv_aload_n (pc := 39) hx hb d_D_fill_39 rfl (lv_at hl 0 rfl) ?_
      refine kvG (pc := 40) (As := []) (rest := []) (wr := []) (ci := 0) ⟨hx, hb, hml, hown, hts⟩ (c_D_end l dC dI cI cB q H.size L lim rdy (nI kn) wh opn mac rl key ((hputs wh kf (hini st, blk, 0) kn).1) bf wd fil res (hputs wh kf (hini st, blk, 0) kn).2.1 dg (hputs wh kf (hini st, blk, 0) kn).2.2 (by omega) h8 r8 fr) (cwV 0 hts g_D_122 rfl rfl rfl hd_D_end ⟨by decide, by decide⟩) hK hP hD hS hA hST [0, 1, 2, 3, 4, 5, 6] [] rfl rfl (by decide) (by decide) (by decide) rfl rfl rfl hl.1 rfl (Nat.le_of_ble_eq_true rfl) d_D_fill_40 ⟨by decide, by decide⟩ (fun u H locs hw hP hD hS => ?_)
      obtain ⟨u1, u2, u3, u4⟩ := u
      have hP : va_P (dC, dI) classes (wD cI cB q L lim rdy (nI kn) wh (lN ((hend wh (hputs wh kf (hini st, blk, 0) kn)).2.2)) opn mac rl key u1 u2 u3 fil u4) H := hP
      have hD : va_D A (wD cI cB q L lim rdy (nI kn) wh (lN ((hend wh (hputs wh kf (hini st, blk, 0) kn)).2.2)) opn mac rl key u1 u2 u3 fil u4) := hD
      obtain ⟨hw1, h8, r8, fr⟩ := hw
      dsimp only at hw1 h8 r8 fr
      refine lv_iload_n (pc := 43) hx hb d_D_fill_43 rfl (lv_at hl 1 rfl) ?_
      refine ksi (pc := 44) (As := [.int wh]) (rest := []) ⟨hx, hb, hml, hown, hts⟩ (c_D_lengthOf l wh) (va_cwS 1 hts g_D_92 rfl rfl rfl hs_D_lengthOf ⟨by decide, by decide⟩) rfl hl.1 rfl (Nat.le_of_ble_eq_true rfl) d_D_fill_44 ⟨by decide, by decide⟩ (fun r3 er4 => ?_)
      subst er4
      have hle := hlen_le wh
      refine lv_istore_n (pc := 47) (lv' := [(2, .int (nI (hlen wh))), (0, .ref (q 0)), (1, .int wh), (3, .int (nI kn))]) hx hb d_D_fill_47 rfl hl (by decide) rfl (fun ls hl => ?_)
      refine lv_aload_n (pc := 48) hx hb d_D_fill_48 rfl (lv_at hl 1 rfl) ?_
      refine va_get (pc := 49) (D := (dC, dI)) (ci := 0) (v := .ref (q 6)) (C := R_D) (T := F_D) (N := 14) hx hb hts i_D hown hK hP 0 rfl rfl 12 (by decide) (hts _ fl_D_23) (fun _ h9 => h9) rfl d_D_fill_49 ?_
      refine lv_iconst (pc := 52) (v := (nI 0)) hx hb d_D_fill_52 (by decide) ?_
      refine lv_aload_n (pc := 53) hx hb d_D_fill_53 rfl (lv_at hl 1 rfl) ?_
      refine va_get (pc := 54) (D := (dC, dI)) (ci := 0) (v := .ref (q 5)) (C := R_D) (T := F_D) (N := 14) hx hb hts i_D hown hK hP 0 rfl rfl 11 (by decide) (hts _ fl_D_20) (fun _ h9 => h9) rfl d_D_fill_54 ?_
      refine lv_iconst (pc := 57) (v := (nI 0)) hx hb d_D_fill_57 (by decide) ?_
      refine lv_iload_n (pc := 58) hx hb d_D_fill_58 rfl (lv_at hl 0 rfl) ?_
      refine xcopyB (pc := 59) (k := hlen wh) hx hb (by rw [hml]; exact hl.1.symm) hown (hts _ ml_D_52) (hts _ nm_S_arraycopy) (hts _ sm_S_arraycopy) (hts _ in_S) hK hP hD hS 6 5 1 rfl rfl rfl rfl (by omega) (by omega) (by omega) fr (by decide) (Nat.le_of_ble_eq_true rfl) d_D_fill_59 (fun H locs hP hD hS => ?_)
      have hP : va_P (dC, dI) classes (wD cI cB q L lim rdy (nI kn) wh (lN ((hend wh (hputs wh kf (hini st, blk, 0) kn)).2.2)) opn mac rl key u1 u2 u3 (va_cpy u4 fil 0 0 (hlen wh)) u4) H := hP
      have hD : va_D A (wD cI cB q L lim rdy (nI kn) wh (lN ((hend wh (hputs wh kf (hini st, blk, 0) kn)).2.2)) opn mac rl key u1 u2 u3 (va_cpy u4 fil 0 0 (hlen wh)) u4) := hD
      refine lv_goto (pc := 62) (tgt := 79) hx hb d_D_fill_62 (by decide) ?_
      refine lv_iload_n (pc := 79) hx hb d_D_fill_79 rfl (lv_at hl 0 rfl) ?_
      refine lv_istore_n (pc := 80) (lv' := [(3, .int (nI (hlen wh))), (2, .int (nI (hlen wh))), (0, .ref (q 0)), (1, .int wh)]) hx hb d_D_fill_80 rfl hl (by decide) rfl (fun ls hl => ?_)
      refine lp (α := Nat × (Nat → Int32)) (fun x => 64 - x.1) (fun x H1 locs1 g => ∃ ls, g = F0 m 81 ls [] ∧ lv_has ls 4 [(0, .ref (q 0)), (3, .int (nI x.1))] ∧ va_P (dC, dI) classes (wD cI cB q L lim rdy (nI kn) wh (lN ((hend wh (hputs wh kf (hini st, blk, 0) kn)).2.2)) opn mac rl key u1 u2 u3 x.2 u4) H1 ∧ va_D A (wD cI cB q L lim rdy (nI kn) wh (lN ((hend wh (hputs wh kf (hini st, blk, 0) kn)).2.2)) opn mac rl key u1 u2 u3 x.2 u4) ∧ va_S A s.heap H1 locs1 ∧ (x.1 ≤ 64) ∧ (∀ j, j < x.1 → x.2 j = (fun j => if j < (hlen wh) then u4 j else nI 0) j) ∧ ((hlen wh) ≤ x.1)) ?_ ((hlen wh), (va_cpy u4 fil 0 0 (hlen wh))) ⟨ls, rfl, lv_sub hl [2, 0] rfl, hP, hD, hS, (show (hlen wh) ≤ 64 from by omega), (show ∀ j, j < (hlen wh) → (va_cpy u4 fil 0 0 (hlen wh)) j = (fun j => if j < (hlen wh) then u4 j else nI 0) j from cpy_lt), (show (hlen wh) ≤ (hlen wh) from Nat.le_refl _)⟩
      rintro ⟨k, fl⟩ H locs g ihT ⟨ls, rfl, hl, hP, hD, hS, hk, hG, hk2⟩
      have hl : lv_has ls 4 [(0, .ref (q 0)), (3, .int (nI k))] := hl
      have hP : va_P (dC, dI) classes (wD cI cB q L lim rdy (nI kn) wh (lN ((hend wh (hputs wh kf (hini st, blk, 0) kn)).2.2)) opn mac rl key u1 u2 u3 fl u4) H := hP
      have hD : va_D A (wD cI cB q L lim rdy (nI kn) wh (lN ((hend wh (hputs wh kf (hini st, blk, 0) kn)).2.2)) opn mac rl key u1 u2 u3 fl u4) := hD
      have hk : k ≤ 64 := hk
      have hG : ∀ j, j < k → fl j = (fun j => if j < (hlen wh) then u4 j else nI 0) j := hG
      have hk2 : (hlen wh) ≤ k := hk2
      refine lv_iload_n (pc := 81) hx hb d_D_fill_81 rfl (lv_at hl 1 rfl) ?_
      refine lv_bipush (pc := 82) (v := (nI 64)) hx hb d_D_fill_82 (by decide) ?_
      refine xi_ge (pc := 84) (tgt := 100) hx hb d_D_fill_84 (by decide) (by omega) (by omega) (fun cT => ?_) (fun cT => ?_)
      · have hs5 : k = 64 := by omega
        subst hs5
        exact W.vret hx hb hr (fun t ht hW => ⟨⟨(wh, (hend wh (hputs wh kf (hini st, blk, 0) kn)).2.2, u1, u2, u3, fl, u4), rfl, ⟨by rw [fill_long c0]; exact hw1, by rw [fill_long c0]; exact h8, fun k hk => by show fl k &&& nI 255 = _; rw [hG k hk]; exact fillP_long c0 (by rw [fillD_long c0]; exact r8), by rw [fillD_long c0]; exact r8, fr⟩, by rw [ht]; exact hP, va_K.moved hW.alike hK, hD⟩, hS.F ht⟩) hS.2.2 d_D_fill_100
      · refine lv_aload_n (pc := 87) hx hb d_D_fill_87 rfl (lv_at hl 0 rfl) ?_
        refine va_get (pc := 88) (D := (dC, dI)) (ci := 0) (v := .ref (q 5)) (C := R_D) (T := F_D) (N := 14) hx hb hts i_D hown hK hP 0 rfl rfl 11 (by decide) (hts _ fl_D_20) (fun _ h9 => h9) rfl d_D_fill_88 ?_
        refine lv_iload_n (pc := 91) hx hb d_D_fill_91 rfl (lv_at hl 1 rfl) ?_
        refine lv_iconst (pc := 92) (v := (nI 0)) hx hb d_D_fill_92 (by decide) ?_
        refine xa_bast (pc := 93) (x := (nI 0)) hx hb hK hP hD hS 5 1 rfl rfl (y := (nI 0)) (nar0) (by omega) (by decide) d_D_fill_93 (fun H locs hP hD hS => ?_)
        have hP : va_P (dC, dI) classes (wD cI cB q L lim rdy (nI kn) wh (lN ((hend wh (hputs wh kf (hini st, blk, 0) kn)).2.2)) opn mac rl key u1 u2 u3 (upd fl k (nI 0)) u4) H := hP
        have hD : va_D A (wD cI cB q L lim rdy (nI kn) wh (lN ((hend wh (hputs wh kf (hini st, blk, 0) kn)).2.2)) opn mac rl key u1 u2 u3 (upd fl k (nI 0)) u4) := hD
        refine lv_iinc (pc := 94) (v := (nI (k + 1))) (lv' := [(3, .int (nI (k + 1))), (0, .ref (q 0))]) hx hb d_D_fill_94 hl (k := 1) rfl (inc1 _) (by decide) rfl (fun ls hl => ?_)
        refine lv_goto (pc := 97) (tgt := 81) hx hb d_D_fill_97 (by decide) ?_
        exact ihT (k + 1, upd fl k (nI 0)) _ _ _ (by show 64 - (k + 1) < 64 - k; omega) ⟨ls, rfl, lv_sub hl [1, 0] rfl, hP, hD, hS, (show (k + 1) ≤ 64 from by omega), (show ∀ j, j < (k + 1) → (upd fl k (nI 0)) j = (fun j => if j < (hlen wh) then u4 j else nI 0) j from upd_lt hG (by show nI 0 = if k < (hlen wh) then _ else nI 0; rw [if_neg (by omega)])), (show (hlen wh) ≤ (k + 1) from by omega)⟩
    · refine lv_aload_n (pc := 23) hx hb d_D_fill_23 rfl (lv_at hl 0 rfl) ?_
      refine lv_aload_n (pc := 24) hx hb d_D_fill_24 rfl (lv_at hl 0 rfl) ?_
      refine va_get (pc := 25) (D := (dC, dI)) (ci := 0) (v := .ref (q 1)) (C := R_D) (T := F_D) (N := 14) hx hb hts i_D hown hK hP 0 rfl rfl 2 (by decide) (hts _ fl_D_39) (fun _ h9 => h9) rfl d_D_fill_25 ?_
      refine lv_iload_n (pc := 28) hx hb d_D_fill_28 rfl (lv_at hl 3 rfl) ?_
      refine xa_bald (pc := 29) hx hb hK hP 1 1 rfl rfl (by omega) (by omega) d_D_fill_29 ?_
      refine kvG (pc := 30) (As := [.int (key k)]) (rest := []) (wr := []) (ci := 0) ⟨hx, hb, hml, hown, hts⟩ (c_D_put l dC dI cI cB q H.size L lim rdy (nI kn) wh opn mac rl key ((hputs wh kf (hini st, blk, 0) k).1) bf wd fil res (hputs wh kf (hini st, blk, 0) k).2.1 (hputs wh kf (hini st, blk, 0) k).2.2 (key k) (by omega) h8) (cwV 1 hts g_D_86 rfl rfl rfl hd_D_put ⟨by decide, by decide⟩) hK hP hD hS hA hST [0, 1, 2, 3, 4, 5, 6] [] rfl rfl (by decide) (by decide) (by decide) rfl rfl rfl hl.1 rfl (Nat.le_of_ble_eq_true rfl) d_D_fill_30 ⟨by decide, by decide⟩ (fun u H locs hw hP hD hS => ?_)
      obtain ⟨u1, u2, u3⟩ := u
      have hP : va_P (dC, dI) classes (wD cI cB q L lim rdy (nI kn) wh (lN ((hputs wh kf (hini st, blk, 0) k).2.2 + 1)) opn mac rl key u1 u2 u3 fil res) H := hP
      have hD : va_D A (wD cI cB q L lim rdy (nI kn) wh (lN ((hputs wh kf (hini st, blk, 0) k).2.2 + 1)) opn mac rl key u1 u2 u3 fil res) := hD
      rw [k8] at hw
      obtain ⟨hw1, h8⟩ := hw
      dsimp only at hw1 h8
      subst hw1
      refine lv_iinc (pc := 33) (v := (nI (k + 1))) (lv' := [(3, .int (nI (k + 1))), (0, .ref (q 0)), (1, .int wh), (2, .int (nI kn))]) hx hb d_D_fill_33 hl (k := 3) rfl (inc1 _) (by decide) rfl (fun ls hl => ?_)
      refine lv_goto (pc := 36) (tgt := 18) hx hb d_D_fill_36 (by decide) ?_
      exact ih (k + 1, u2, u3) _ _ _ (by show kn - (k + 1) < kn - k; omega) ⟨ls, rfl, lv_sub hl [1, 2, 3, 0] rfl, hP, hD, hS, (show (k + 1) ≤ kn from by omega), (show R8 u2 (hputs wh kf (hini st, blk, 0) (k + 1)).2.1 from h8)⟩
set_option maxHeartbeats 4000000 in
set_option maxRecDepth 100000 in
theorem c_D_startMac (l : Launch) (dC : Nat → ClassId) (dI : Nat → Nat → Nat) (cI cB : ClassId) (q : Nat → Nat) (sz : Nat) (L : Nat) (lim rdy alg opn mac rl : Int32) (key st buf wds fil res : Nat → Int32) (blk dg kf : Nat → Int32) (n kn : Nat) (wh : Int32) (hL : L ≤ 300) (hkn : kn ≤ L) (hn : n < 2 ^ 50) (h8 : R8 buf blk) (r8 : R8 res dg) (k8 : R8 key kf) (fk : sb_Fit key) (fr : sb_Fit res) : Met l y_D_startMac (k_D_startMac :: tT) ({ frames := 5, cells := 0, slots := 0, locals := 122 }) (va_Pc [.ref (q 0), .int wh] (pD (dC, dI) cI cB sz (wD cI cB q L lim rdy (nI kn) alg (lN n) opn mac rl key st buf wds fil res))) (va_Qi (fun (rr : Int32) (u : Int32 × Nat × (Nat → Int32) × (Nat → Int32) × (Nat → Int32) × (Nat → Int32) × (Nat → Int32) × Int32 × Int32 × Int32) => (rr = nI 0 ∧ mayS rdy wh = 0 ∧ u = (alg, n, st, buf, wds, fil, res, opn, mac, rl)) ∨ (rr = nI 1 ∧ ¬ mayS rdy wh = 0 ∧ u.1 = wh ∧ u.2.1 = (macH wh (fillP wh kn kf (st, blk, n) dg) (fillH wh kn kf (st, blk, n))).2.2 ∧ u.2.2.1 = (macH wh (fillP wh kn kf (st, blk, n) dg) (fillH wh kn kf (st, blk, n))).1 ∧ R8 u.2.2.2.1 (macH wh (fillP wh kn kf (st, blk, n) dg) (fillH wh kn kf (st, blk, n))).2.1 ∧ (∀ k, k < 64 → u.2.2.2.2.2.1 k &&& nI 255 = (fillP wh kn kf (st, blk, n) dg) k) ∧ R8 u.2.2.2.2.2.2.1 (fillD wh kn kf (st, blk, n) dg) ∧ sb_Fit u.2.2.2.2.2.2.1 ∧ u.2.2.2.2.2.2.2.1 = nI 1 ∧ u.2.2.2.2.2.2.2.2.1 = nI 1 ∧ u.2.2.2.2.2.2.2.2.2 = nI 0)) (fun u t => qD (dC, dI) cI cB (va_A (wD cI cB q L lim rdy (nI kn) alg (lN n) opn mac rl key st buf wds fil res) sz) (wD cI cB q L lim rdy (nI kn) u.1 (lN u.2.1) u.2.2.2.2.2.2.2.1 u.2.2.2.2.2.2.2.2.1 u.2.2.2.2.2.2.2.2.2 key u.2.2.1 u.2.2.2.1 u.2.2.2.2.1 u.2.2.2.2.2.1 u.2.2.2.2.2.2.1) t) (va_A (wD cI cB q L lim rdy (nI kn) alg (lN n) opn mac rl key st buf wds fil res) sz)) 0 0 (va_A (wD cI cB q L lim rdy (nI kn) alg (lN n) opn mac rl key st buf wds fil res) sz) := by
  refine Met.ofW (cc := b_D_startMac) (maxL := 6) (ret := (some .boolean)) (by decide) rfl ?_
  intro p e s m args below meth c s₁ B hml hv
  obtain ⟨rfl, hsz, hP, hK, hD0, hST⟩ := hv
  have hx := B.exec
  have hb := B.bytes
  have hr := B.returns
  have hts : ∀ w ∈ tT, w.before _ s = true := fun w h => atoms_spec (ws := k_D_startMac :: tT) B.pre w (List.mem_cons_of_mem _ h)
  have hown : s.vm.findClass R_D = some m.cls := findClass_of_methodNamed B.named
  have hlocks := B.notSynchronized
  subst hsz
  have hD := hD0.self (sz := s.heap.size)
  generalize hAe : va_A (wD cI cB q L lim rdy (nI kn) alg (lN n) opn mac rl key st buf wds fil res) s.heap.size = A at hD hST ⊢
  have hA : ∀ q : Nat, s.heap.size ≤ q → A q := fun q h => by rw [← hAe]; exact Or.inr h
  have hS : va_S A s.heap s.heap [] := va_S.rf
  have hP : va_P (dC, dI) classes (wD cI cB q L lim rdy (nI kn) alg (lN n) opn mac rl key st buf wds fil res) s.heap := hP
  have hl := lv_entry ([.ref (q 0), .int wh]) (n := 6) (Nat.le_of_ble_eq_true rfl)
  rw [lg_entry_eq]
  generalize (lg_sl ([.ref (q 0), .int wh]) ++ List.replicate (6 - (lg_sl ([.ref (q 0), .int wh])).length) Slot.unset).toArray = ls at hl ⊢
  have hl : lv_has ls 6 [(0, .ref (q 0)), (1, .int wh)] := hl
  refine lv_aload_n (pc := 0) hx hb d_D_startMac_0 rfl (lv_at hl 0 rfl) ?_
  refine lv_iload_n (pc := 1) hx hb d_D_startMac_1 rfl (lv_at hl 1 rfl) ?_
  refine kiG (pc := 2) (As := [.int wh]) (rest := []) (wr := []) (ci := 0) ⟨hx, hb, hml, hown, hts⟩ (c_D_mayStart l dC dI cI cB q s.heap.size L lim rdy (nI kn) alg opn mac rl (lN n) key st buf wds fil res wh) (cwV 1 hts g_D_109 rfl rfl rfl hd_D_mayStart ⟨by decide, by decide⟩) hK hP hD hS hA hST [0, 1, 2, 3, 4, 5, 6] [] rfl rfl (by decide) (by decide) (by decide) rfl rfl rfl hl.1 rfl (Nat.le_of_ble_eq_true rfl) d_D_startMac_2 ⟨by decide, by decide⟩ (fun rr u H locs hw hP hD hS => ?_)
  have hP : va_P (dC, dI) classes (wD cI cB q L lim rdy (nI kn) alg (lN n) opn mac rl key st buf wds fil res) H := hP
  have hD : va_D A (wD cI cB q L lim rdy (nI kn) alg (lN n) opn mac rl key st buf wds fil res) := hD
  subst hw
  refine lv_if_ne (pc := 5) (tgt := 10) hx hb d_D_startMac_5 (by decide) (fun c0 => ?_) (fun c0 => ?_)
  · refine lv_aload_n (pc := 10) hx hb d_D_startMac_10 rfl (lv_at hl 0 rfl) ?_
    refine lv_iload_n (pc := 11) hx hb d_D_startMac_11 rfl (lv_at hl 1 rfl) ?_
    refine kvG (pc := 12) (As := [.int wh]) (rest := []) (wr := []) (ci := 0) ⟨hx, hb, hml, hown, hts⟩ (c_D_fill l dC dI cI cB q H.size L lim rdy alg opn mac rl key st buf wds fil res blk dg kf n kn wh hL hkn hn h8 r8 k8 fk fr) (cwV 1 hts g_D_119 rfl rfl rfl hd_D_fill ⟨by decide, by decide⟩) hK hP hD hS hA hST [0, 1, 2, 3, 4, 5, 6] [] rfl rfl (by decide) (by decide) (by decide) rfl rfl rfl hl.1 rfl (Nat.le_of_ble_eq_true rfl) d_D_startMac_12 ⟨by decide, by decide⟩ (fun u H locs hw hP hD hS => ?_)
    obtain ⟨u1, u2, u3, u4, u5, u6, u7⟩ := u
    have hP : va_P (dC, dI) classes (wD cI cB q L lim rdy (nI kn) u1 (lN u2) opn mac rl key u3 u4 u5 u6 u7) H := hP
    have hD : va_D A (wD cI cB q L lim rdy (nI kn) u1 (lN u2) opn mac rl key u3 u4 u5 u6 u7) := hD
    obtain ⟨hw1, h8, p8, r8, fr⟩ := hw
    dsimp only at hw1 h8 p8 r8 fr
    subst hw1
    refine lv_aload_n (pc := 15) hx hb d_D_startMac_15 rfl (lv_at hl 0 rfl) ?_
    refine lv_iload_n (pc := 16) hx hb d_D_startMac_16 rfl (lv_at hl 1 rfl) ?_
    refine kvG (pc := 17) (As := [.int wh]) (rest := []) (wr := []) (ci := 0) ⟨hx, hb, hml, hown, hts⟩ (c_D_begin l dC dI cI cB q H.size L lim rdy (nI kn) u1 opn mac rl (lN u2) key ((fillH wh kn kf (st, blk, n)).1) u4 u5 u6 u7 wh) (cwV 1 hts g_D_113 rfl rfl rfl hd_D_begin ⟨by decide, by decide⟩) hK hP hD hS hA hST [0, 1, 2, 3, 4, 5, 6] [] rfl rfl (by decide) (by decide) (by decide) rfl rfl rfl hl.1 rfl (Nat.le_of_ble_eq_true rfl) d_D_startMac_17 ⟨by decide, by decide⟩ (fun u H locs hw hP hD hS => ?_)
    have hP : va_P (dC, dI) classes (wD cI cB q L lim rdy (nI kn) wh (lN 0) opn mac rl key (hini (fillH wh kn kf (st, blk, n)).1) u4 u5 u6 u7) H := hP
    have hD : va_D A (wD cI cB q L lim rdy (nI kn) wh (lN 0) opn mac rl key (hini (fillH wh kn kf (st, blk, n)).1) u4 u5 u6 u7) := hD
    refine lv_aload_n (pc := 20) hx hb d_D_startMac_20 rfl (lv_at hl 0 rfl) ?_
    refine va_get (pc := 21) (D := (dC, dI)) (ci := 0) (v := .ref (q 5)) (C := R_D) (T := F_D) (N := 14) hx hb hts i_D hown hK hP 0 rfl rfl 11 (by decide) (hts _ fl_D_20) (fun _ h9 => h9) rfl d_D_startMac_21 ?_
    refine lv_astore_n (pc := 24) (lv' := [(2, .ref (q 5)), (0, .ref (q 0)), (1, .int wh)]) hx hb d_D_startMac_24 rfl hl (by decide) rfl (fun ls hl => ?_)
    refine lv_aload_n (pc := 25) hx hb d_D_startMac_25 rfl (lv_at hl 0 rfl) ?_
    refine va_alen (pc := 26) (v := nI 64) hx hb hK hP 5 1 rfl rfl rfl d_D_startMac_26 ?_
    refine lv_istore_n (pc := 27) (lv' := [(3, .int (nI 64)), (2, .ref (q 5)), (0, .ref (q 0)), (1, .int wh)]) hx hb d_D_startMac_27 rfl hl (by decide) rfl (fun ls hl => ?_)
    refine lv_iconst (pc := 28) (v := (nI 0)) hx hb d_D_startMac_28 (by decide) ?_
    refine lv_istore (pc := 29) (lv' := [(4, .int (nI 0)), (3, .int (nI 64)), (2, .ref (q 5)), (0, .ref (q 0)), (1, .int wh)]) hx hb d_D_startMac_29 hl (by decide) rfl (fun ls hl => ?_)
    refine lp (α := Nat × (Nat → Int32) × (Nat → Int32)) (fun x => 64 - x.1) (fun x H1 locs1 g => ∃ ls, g = F0 m 31 ls [] ∧ lv_has ls 6 [(0, .ref (q 0)), (2, .ref (q 5)), (3, .int (nI 64)), (4, .int (nI x.1))] ∧ va_P (dC, dI) classes (wD cI cB q L lim rdy (nI kn) wh (lN ((hputs wh (fun zz => (fillP wh kn kf (st, blk, n) dg) zz ^^^ nI 54) (hini (fillH wh kn kf (st, blk, n)).1, (fillH wh kn kf (st, blk, n)).2.1, 0) x.1).2.2)) opn mac rl key ((hputs wh (fun zz => (fillP wh kn kf (st, blk, n) dg) zz ^^^ nI 54) (hini (fillH wh kn kf (st, blk, n)).1, (fillH wh kn kf (st, blk, n)).2.1, 0) x.1).1) x.2.1 x.2.2 u6 u7) H1 ∧ va_D A (wD cI cB q L lim rdy (nI kn) wh (lN ((hputs wh (fun zz => (fillP wh kn kf (st, blk, n) dg) zz ^^^ nI 54) (hini (fillH wh kn kf (st, blk, n)).1, (fillH wh kn kf (st, blk, n)).2.1, 0) x.1).2.2)) opn mac rl key ((hputs wh (fun zz => (fillP wh kn kf (st, blk, n) dg) zz ^^^ nI 54) (hini (fillH wh kn kf (st, blk, n)).1, (fillH wh kn kf (st, blk, n)).2.1, 0) x.1).1) x.2.1 x.2.2 u6 u7) ∧ va_S A s.heap H1 locs1 ∧ (x.1 ≤ 64) ∧ (R8 x.2.1 (hputs wh (fun zz => (fillP wh kn kf (st, blk, n) dg) zz ^^^ nI 54) (hini (fillH wh kn kf (st, blk, n)).1, (fillH wh kn kf (st, blk, n)).2.1, 0) x.1).2.1)) ?_ (0, u4, u5) ⟨ls, rfl, lv_sub hl [3, 2, 1, 0] rfl, hP, hD, hS, (show 0 ≤ 64 from Nat.zero_le _), (show R8 u4 (hputs wh (fun zz => (fillP wh kn kf (st, blk, n) dg) zz ^^^ nI 54) (hini (fillH wh kn kf (st, blk, n)).1, (fillH wh kn kf (st, blk, n)).2.1, 0) 0).2.1 from h8)⟩
    rintro ⟨k, bf, wd⟩ H locs g ih ⟨ls, rfl, hl, hP, hD, hS, hk, h8⟩
    have hl : lv_has ls 6 [(0, .ref (q 0)), (2, .ref (q 5)), (3, .int (nI 64)), (4, .int (nI k))] := hl
    have hP : va_P (dC, dI) classes (wD cI cB q L lim rdy (nI kn) wh (lN ((hputs wh (fun zz => (fillP wh kn kf (st, blk, n) dg) zz ^^^ nI 54) (hini (fillH wh kn kf (st, blk, n)).1, (fillH wh kn kf (st, blk, n)).2.1, 0) k).2.2)) opn mac rl key ((hputs wh (fun zz => (fillP wh kn kf (st, blk, n) dg) zz ^^^ nI 54) (hini (fillH wh kn kf (st, blk, n)).1, (fillH wh kn kf (st, blk, n)).2.1, 0) k).1) bf wd u6 u7) H := hP
    have hD : va_D A (wD cI cB q L lim rdy (nI kn) wh (lN ((hputs wh (fun zz => (fillP wh kn kf (st, blk, n) dg) zz ^^^ nI 54) (hini (fillH wh kn kf (st, blk, n)).1, (fillH wh kn kf (st, blk, n)).2.1, 0) k).2.2)) opn mac rl key ((hputs wh (fun zz => (fillP wh kn kf (st, blk, n) dg) zz ^^^ nI 54) (hini (fillH wh kn kf (st, blk, n)).1, (fillH wh kn kf (st, blk, n)).2.1, 0) k).1) bf wd u6 u7) := hD
    have hk : k ≤ 64 := hk
    have h8 : R8 bf (hputs wh (fun zz => (fillP wh kn kf (st, blk, n) dg) zz ^^^ nI 54) (hini (fillH wh kn kf (st, blk, n)).1, (fillH wh kn kf (st, blk, n)).2.1, 0) k).2.1 := h8
    have hkn2 : (hputs wh (fun zz => (fillP wh kn kf (st, blk, n) dg) zz ^^^ nI 54) (hini (fillH wh kn kf (st, blk, n)).1, (fillH wh kn kf (st, blk, n)).2.1, 0) k).2.2 = 0 + k := hputs_n _ _ _ _
    refine lv_iload (pc := 31) hx hb d_D_startMac_31 (lv_at hl 3 rfl) ?_
    refine lv_iload_n (pc := 33) hx hb d_D_startMac_33 rfl (lv_at hl 2 rfl) ?_
    refine xi_ge (pc := 34) (tgt := 58) hx hb d_D_startMac_34 (by decide) (by omega) (by omega) (fun c1 => ?_) (fun c1 => ?_)
    · have hs6 : k = 64 := by omega
      subst hs6
      refine lv_aload_n (pc := 58) hx hb d_D_startMac_58 rfl (lv_at hl 0 rfl) ?_
      refine lv_iconst (pc := 59) (v := (nI 1)) hx hb d_D_startMac_59 (by decide) ?_
      refine va_put (pc := 60) (D := (dC, dI)) (ci := 0) (v := .int (nI 1)) (ty := .boolean) (C := R_D) (T := F_D) (N := 14) hx hb hts i_D t_D t_D_ok n_D hown hK hP hD hS 0 rfl rfl 9 (by decide) (hts _ fl_D_103) (fun _ h9 => h9) rfl (by decide +kernel) rfl rfl (Nat.le_of_ble_eq_true rfl) d_D_startMac_60 (fun H locs hP hD hS => ?_)
      have hP : va_P (dC, dI) classes (wD cI cB q L lim rdy (nI kn) wh (lN ((hputs wh (fun zz => (fillP wh kn kf (st, blk, n) dg) zz ^^^ nI 54) (hini (fillH wh kn kf (st, blk, n)).1, (fillH wh kn kf (st, blk, n)).2.1, 0) 64).2.2)) (nI 1) mac rl key ((hputs wh (fun zz => (fillP wh kn kf (st, blk, n) dg) zz ^^^ nI 54) (hini (fillH wh kn kf (st, blk, n)).1, (fillH wh kn kf (st, blk, n)).2.1, 0) 64).1) bf wd u6 u7) H := hP
      have hD : va_D A (wD cI cB q L lim rdy (nI kn) wh (lN ((hputs wh (fun zz => (fillP wh kn kf (st, blk, n) dg) zz ^^^ nI 54) (hini (fillH wh kn kf (st, blk, n)).1, (fillH wh kn kf (st, blk, n)).2.1, 0) 64).2.2)) (nI 1) mac rl key ((hputs wh (fun zz => (fillP wh kn kf (st, blk, n) dg) zz ^^^ nI 54) (hini (fillH wh kn kf (st, blk, n)).1, (fillH wh kn kf (st, blk, n)).2.1, 0) 64).1) bf wd u6 u7) := hD
      refine lv_aload_n (pc := 63) hx hb d_D_startMac_63 rfl (lv_at hl 0 rfl) ?_
      refine lv_iconst (pc := 64) (v := (nI 1)) hx hb d_D_startMac_64 (by decide) ?_
      refine va_put (pc := 65) (D := (dC, dI)) (ci := 0) (v := .int (nI 1)) (ty := .boolean) (C := R_D) (T := F_D) (N := 14) hx hb hts i_D t_D t_D_ok n_D hown hK hP hD hS 0 rfl rfl 10 (by decide) (hts _ fl_D_116) (fun _ h9 => h9) rfl (by decide +kernel) rfl rfl (Nat.le_of_ble_eq_true rfl) d_D_startMac_65 (fun H locs hP hD hS => ?_)
      have hP : va_P (dC, dI) classes (wD cI cB q L lim rdy (nI kn) wh (lN ((hputs wh (fun zz => (fillP wh kn kf (st, blk, n) dg) zz ^^^ nI 54) (hini (fillH wh kn kf (st, blk, n)).1, (fillH wh kn kf (st, blk, n)).2.1, 0) 64).2.2)) (nI 1) (nI 1) rl key ((hputs wh (fun zz => (fillP wh kn kf (st, blk, n) dg) zz ^^^ nI 54) (hini (fillH wh kn kf (st, blk, n)).1, (fillH wh kn kf (st, blk, n)).2.1, 0) 64).1) bf wd u6 u7) H := hP
      have hD : va_D A (wD cI cB q L lim rdy (nI kn) wh (lN ((hputs wh (fun zz => (fillP wh kn kf (st, blk, n) dg) zz ^^^ nI 54) (hini (fillH wh kn kf (st, blk, n)).1, (fillH wh kn kf (st, blk, n)).2.1, 0) 64).2.2)) (nI 1) (nI 1) rl key ((hputs wh (fun zz => (fillP wh kn kf (st, blk, n) dg) zz ^^^ nI 54) (hini (fillH wh kn kf (st, blk, n)).1, (fillH wh kn kf (st, blk, n)).2.1, 0) 64).1) bf wd u6 u7) := hD
      refine lv_aload_n (pc := 68) hx hb d_D_startMac_68 rfl (lv_at hl 0 rfl) ?_
      refine lv_iconst (pc := 69) (v := (nI 0)) hx hb d_D_startMac_69 (by decide) ?_
      refine va_put (pc := 70) (D := (dC, dI)) (ci := 0) (v := .int (nI 0)) (ty := .int) (C := R_D) (T := F_D) (N := 14) hx hb hts i_D t_D t_D_ok n_D hown hK hP hD hS 0 rfl rfl 13 (by decide) (hts _ fl_D_106) (fun _ h9 => h9) rfl (by decide +kernel) rfl rfl (Nat.le_of_ble_eq_true rfl) d_D_startMac_70 (fun H locs hP hD hS => ?_)
      have hP : va_P (dC, dI) classes (wD cI cB q L lim rdy (nI kn) wh (lN ((hputs wh (fun zz => (fillP wh kn kf (st, blk, n) dg) zz ^^^ nI 54) (hini (fillH wh kn kf (st, blk, n)).1, (fillH wh kn kf (st, blk, n)).2.1, 0) 64).2.2)) (nI 1) (nI 1) (nI 0) key ((hputs wh (fun zz => (fillP wh kn kf (st, blk, n) dg) zz ^^^ nI 54) (hini (fillH wh kn kf (st, blk, n)).1, (fillH wh kn kf (st, blk, n)).2.1, 0) 64).1) bf wd u6 u7) H := hP
      have hD : va_D A (wD cI cB q L lim rdy (nI kn) wh (lN ((hputs wh (fun zz => (fillP wh kn kf (st, blk, n) dg) zz ^^^ nI 54) (hini (fillH wh kn kf (st, blk, n)).1, (fillH wh kn kf (st, blk, n)).2.1, 0) 64).2.2)) (nI 1) (nI 1) (nI 0) key ((hputs wh (fun zz => (fillP wh kn kf (st, blk, n) dg) zz ^^^ nI 54) (hini (fillH wh kn kf (st, blk, n)).1, (fillH wh kn kf (st, blk, n)).2.1, 0) 64).1) bf wd u6 u7) := hD
      refine lv_iconst (pc := 73) (v := (nI 1)) hx hb d_D_startMac_73 (by decide) ?_
      exact W.zret (v := (nI 1)) hx hb hr rfl (fun t ht hW => ⟨⟨(nI 1), (wh, (macH wh (fillP wh kn kf (st, blk, n) dg) (fillH wh kn kf (st, blk, n))).2.2, (macH wh (fillP wh kn kf (st, blk, n) dg) (fillH wh kn kf (st, blk, n))).1, bf, wd, u6, u7, nI 1, nI 1, nI 0), rfl, Or.inr ⟨rfl, c0, rfl, rfl, rfl, h8, p8, r8, fr, rfl, rfl, rfl⟩, by rw [ht]; exact hP, va_K.moved hW.alike hK, hD⟩, hS.F ht⟩) hS.2.2 d_D_startMac_74
    · refine lv_aload_n (pc := 37) hx hb d_D_startMac_37 rfl (lv_at hl 1 rfl) ?_
      refine lv_iload (pc := 38) hx hb d_D_startMac_38 (lv_at hl 3 rfl) ?_
      refine xa_bald (pc := 40) hx hb hK hP 5 1 rfl rfl (by omega) (by decide) d_D_startMac_40 ?_
      refine lv_istore (pc := 41) (lv' := [(5, .int (u6 k)), (0, .ref (q 0)), (2, .ref (q 5)), (3, .int (nI 64)), (4, .int (nI k))]) hx hb d_D_startMac_41 hl (by decide) rfl (fun ls hl => ?_)
      refine lv_aload_n (pc := 43) hx hb d_D_startMac_43 rfl (lv_at hl 1 rfl) ?_
      refine lv_iload (pc := 44) hx hb d_D_startMac_44 (lv_at hl 0 rfl) ?_
      refine lv_bipush (pc := 46) (v := (nI 54)) hx hb d_D_startMac_46 (by decide) ?_
      refine lv_ixor (pc := 48) hx hb d_D_startMac_48 ?_
      refine kvG (pc := 49) (As := [.int ((u6 k) ^^^ (nI 54))]) (rest := []) (wr := []) (ci := 0) ⟨hx, hb, hml, hown, hts⟩ (c_D_put l dC dI cI cB q H.size L lim rdy (nI kn) wh opn mac rl key ((hputs wh (fun zz => (fillP wh kn kf (st, blk, n) dg) zz ^^^ nI 54) (hini (fillH wh kn kf (st, blk, n)).1, (fillH wh kn kf (st, blk, n)).2.1, 0) k).1) bf wd u6 u7 (hputs wh (fun zz => (fillP wh kn kf (st, blk, n) dg) zz ^^^ nI 54) (hini (fillH wh kn kf (st, blk, n)).1, (fillH wh kn kf (st, blk, n)).2.1, 0) k).2.1 (hputs wh (fun zz => (fillP wh kn kf (st, blk, n) dg) zz ^^^ nI 54) (hini (fillH wh kn kf (st, blk, n)).1, (fillH wh kn kf (st, blk, n)).2.1, 0) k).2.2 (u6 k ^^^ nI 54) (by omega) h8) (cwV 1 hts g_D_86 rfl rfl rfl hd_D_put ⟨by decide, by decide⟩) hK hP hD hS hA hST [0, 1, 2, 3, 4, 5, 6] [] rfl rfl (by decide) (by decide) (by decide) rfl rfl rfl hl.1 rfl (Nat.le_of_ble_eq_true rfl) d_D_startMac_49 ⟨by decide, by decide⟩ (fun u H locs hw hP hD hS => ?_)
      obtain ⟨v1, v2, v3⟩ := u
      have hP : va_P (dC, dI) classes (wD cI cB q L lim rdy (nI kn) wh (lN ((hputs wh (fun zz => (fillP wh kn kf (st, blk, n) dg) zz ^^^ nI 54) (hini (fillH wh kn kf (st, blk, n)).1, (fillH wh kn kf (st, blk, n)).2.1, 0) k).2.2 + 1)) opn mac rl key v1 v2 v3 u6 u7) H := hP
      have hD : va_D A (wD cI cB q L lim rdy (nI kn) wh (lN ((hputs wh (fun zz => (fillP wh kn kf (st, blk, n) dg) zz ^^^ nI 54) (hini (fillH wh kn kf (st, blk, n)).1, (fillH wh kn kf (st, blk, n)).2.1, 0) k).2.2 + 1)) opn mac rl key v1 v2 v3 u6 u7) := hD
      rw [xor8 _ _ e54, p8 k c1] at hw
      obtain ⟨hw1, h8⟩ := hw
      dsimp only at hw1 h8
      subst hw1
      refine lv_iinc (pc := 52) (v := (nI (k + 1))) (lv' := [(4, .int (nI (k + 1))), (5, .int (u6 k)), (0, .ref (q 0)), (2, .ref (q 5)), (3, .int (nI 64))]) hx hb d_D_startMac_52 hl (k := 4) rfl (inc1 _) (by decide) rfl (fun ls hl => ?_)
      refine lv_goto (pc := 55) (tgt := 31) hx hb d_D_startMac_55 (by decide) ?_
      exact ih (k + 1, v2, v3) _ _ _ (by show 64 - (k + 1) < 64 - k; omega) ⟨ls, rfl, lv_sub hl [2, 3, 4, 0] rfl, hP, hD, hS, (show (k + 1) ≤ 64 from by omega), (show R8 v2 (hputs wh (fun zz => (fillP wh kn kf (st, blk, n) dg) zz ^^^ nI 54) (hini (fillH wh kn kf (st, blk, n)).1, (fillH wh kn kf (st, blk, n)).2.1, 0) (k + 1)).2.1 from h8)⟩
  · refine lv_iconst (pc := 8) (v := (nI 0)) hx hb d_D_startMac_8 (by decide) ?_
    exact W.zret (v := (nI 0)) hx hb hr rfl (fun t ht hW => ⟨⟨(nI 0), (alg, n, st, buf, wds, fil, res, opn, mac, rl), rfl, Or.inl ⟨rfl, c0, rfl⟩, by rw [ht]; exact hP, va_K.moved hW.alike hK, hD⟩, hS.F ht⟩) hS.2.2 d_D_startMac_9
end
section
theorem pn_of {x : Int32} (h0 : ¬ x < 0) (h1 : ¬ nI 12 < x) : ∃ j : Nat, j ≤ 12 ∧ x = nI j := nI_of2 (M := nI 12) (by decide) h0 (Int32.not_lt.mp h1)
theorem ag_of {x : Int32} (h0 : ¬ x < nI 1) (h1 : ¬ nI 1000 < x) : ∃ j : Nat, j ≤ 1000 ∧ x = nI j := by
  refine nI_of2 (M := nI 1000) (by decide) (fun z => h0 ?_) (Int32.not_lt.mp h1)
  have e1 := Int32.lt_iff_toInt_lt.mp z
  apply Int32.lt_iff_toInt_lt.mpr
  have e2 : (nI 1).toInt = 1 := by decide
  have e3 : (0 : Int32).toInt = 0 := by decide
  omega
theorem fin_0 {alg mac : Int32} {pad : Nat → Int32} {h : HS} {dg : Nat → Int32} (c : mac = 0) : finH alg mac pad h dg = hend alg h := if_pos c
theorem fin_1 {alg mac : Int32} {pad : Nat → Int32} {h : HS} {dg : Nat → Int32} (c : ¬ mac = 0) : finH alg mac pad h dg = hend alg (finH3 alg pad h dg) := if_neg c
theorem finD_0 {alg mac : Int32} {pad : Nat → Int32} {h : HS} {dg : Nat → Int32} (c : mac = 0) : finD alg mac pad h dg = finD1 alg h dg := if_pos c
theorem finD_1 {alg mac : Int32} {pad : Nat → Int32} {h : HS} {dg : Nat → Int32} (c : ¬ mac = 0) : finD alg mac pad h dg = digU alg (hend alg (finH3 alg pad h dg)).1 (finD1 alg h dg) (hlen alg) := by rw [finD, if_neg c, fin_1 c]
end
section
set_option maxHeartbeats 4000000 in
set_option maxRecDepth 100000 in
theorem c_D_pour (l : Launch) (dC : Nat → ClassId) (dI : Nat → Nat → Nat) (cI cB : ClassId) (q : Nat → Nat) (sz : Nat) (L : Nat) (lim rdy kc alg opn mac rl : Int32) (key st buf wds fil res : Nat → Int32) (blk : Nat → Int32) (n : Nat) (xa xb xc pn ag : Int32) (hn : n < 2 ^ 50) (h8 : R8 buf blk) : Met l y_D_pour (k_D_pour :: tT) ({ frames := 3, cells := 0, slots := 0, locals := 75 }) (va_Pc [.ref (q 0), .int xa, .int xb, .int xc, .int pn, .int ag] (pD (dC, dI) cI cB sz (wD cI cB q L lim rdy kc alg (lN n) opn mac rl key st buf wds fil res))) (va_Qi (fun (rr : Int32) (u : (Nat → Int32) × (Nat → Int32) × (Nat → Int32) × Nat) => (rr = nI 0 ∧ ¬ poOK (opn = 0) pn ag ∧ u = (st, buf, wds, n)) ∨ (rr = nI 1 ∧ poOK (opn = 0) pn ag ∧ u.1 = (pourH alg (pourB xa xb xc) pn.toNatClampNeg (st, blk, n) ag.toNatClampNeg).1 ∧ R8 u.2.1 (pourH alg (pourB xa xb xc) pn.toNatClampNeg (st, blk, n) ag.toNatClampNeg).2.1 ∧ u.2.2.2 = (pourH alg (pourB xa xb xc) pn.toNatClampNeg (st, blk, n) ag.toNatClampNeg).2.2)) (fun u t => qD (dC, dI) cI cB (va_A (wD cI cB q L lim rdy kc alg (lN n) opn mac rl key st buf wds fil res) sz) (wD cI cB q L lim rdy kc alg (lN u.2.2.2) opn mac rl key u.1 u.2.1 u.2.2.1 fil res) t) (va_A (wD cI cB q L lim rdy kc alg (lN n) opn mac rl key st buf wds fil res) sz)) 0 0 (va_A (wD cI cB q L lim rdy kc alg (lN n) opn mac rl key st buf wds fil res) sz) := by
  refine Met.ofW (cc := b_D_pour) (maxL := 9) (ret := (some .boolean)) (by decide) rfl ?_
  intro p e s m args below meth c s₁ B hml hv
  obtain ⟨rfl, hsz, hP, hK, hD0, hST⟩ := hv
  have hx := B.exec
  have hb := B.bytes
  have hr := B.returns
  have hts : ∀ w ∈ tT, w.before _ s = true := fun w h => atoms_spec (ws := k_D_pour :: tT) B.pre w (List.mem_cons_of_mem _ h)
  have hown : s.vm.findClass R_D = some m.cls := findClass_of_methodNamed B.named
  have hlocks := B.notSynchronized
  subst hsz
  have hD := hD0.self (sz := s.heap.size)
  generalize hAe : va_A (wD cI cB q L lim rdy kc alg (lN n) opn mac rl key st buf wds fil res) s.heap.size = A at hD hST ⊢
  have hA : ∀ q : Nat, s.heap.size ≤ q → A q := fun q h => by rw [← hAe]; exact Or.inr h
  have hS : va_S A s.heap s.heap [] := va_S.rf
  have hP : va_P (dC, dI) classes (wD cI cB q L lim rdy kc alg (lN n) opn mac rl key st buf wds fil res) s.heap := hP
  have hl := lv_entry ([.ref (q 0), .int xa, .int xb, .int xc, .int pn, .int ag]) (n := 9) (Nat.le_of_ble_eq_true rfl)
  rw [lg_entry_eq]
  generalize (lg_sl ([.ref (q 0), .int xa, .int xb, .int xc, .int pn, .int ag]) ++ List.replicate (9 - (lg_sl ([.ref (q 0), .int xa, .int xb, .int xc, .int pn, .int ag])).length) Slot.unset).toArray = ls at hl ⊢
  have hl : lv_has ls 9 [(0, .ref (q 0)), (1, .int xa), (2, .int xb), (3, .int xc), (4, .int pn), (5, .int ag)] := hl
  refine lv_aload_n (pc := 0) hx hb d_D_pour_0 rfl (lv_at hl 0 rfl) ?_
  refine va_get (pc := 1) (D := (dC, dI)) (ci := 0) (v := .int opn) (C := R_D) (T := F_D) (N := 14) hx hb hts i_D hown hK hP 0 rfl rfl 9 (by decide) (hts _ fl_D_103) (fun _ h9 => h9) rfl d_D_pour_1 ?_
  refine lv_if_eq (pc := 4) (tgt := 33) hx hb d_D_pour_4 (by decide) (fun c0 => ?_) (fun c0 => ?_)
  · refine lv_iconst (pc := 33) (v := (nI 0)) hx hb d_D_pour_33 (by decide) ?_
    exact W.zret (v := (nI 0)) hx hb hr rfl (fun t ht hW => ⟨⟨(nI 0), (st, buf, wds, n), rfl, Or.inl ⟨rfl, fun z => z.1 c0, rfl⟩, by rw [ht]; exact hP, va_K.moved hW.alike hK, hD⟩, hS.F ht⟩) hS.2.2 d_D_pour_34
  · refine lv_iload (pc := 7) hx hb d_D_pour_7 (lv_at hl 4 rfl) ?_
    refine lv_if_lt (pc := 9) (tgt := 33) hx hb d_D_pour_9 (by decide) (fun c1 => ?_) (fun c1 => ?_)
    · refine lv_iconst (pc := 33) (v := (nI 0)) hx hb d_D_pour_33 (by decide) ?_
      exact W.zret (v := (nI 0)) hx hb hr rfl (fun t ht hW => ⟨⟨(nI 0), (st, buf, wds, n), rfl, Or.inl ⟨rfl, fun z => z.2.1 c1, rfl⟩, by rw [ht]; exact hP, va_K.moved hW.alike hK, hD⟩, hS.F ht⟩) hS.2.2 d_D_pour_34
    · refine lv_iload (pc := 12) hx hb d_D_pour_12 (lv_at hl 4 rfl) ?_
      refine lv_bipush (pc := 14) (v := (nI 12)) hx hb d_D_pour_14 (by decide) ?_
      refine lv_icmp_gt (pc := 16) (tgt := 33) hx hb d_D_pour_16 (by decide) (fun c2 => ?_) (fun c2 => ?_)
      · refine lv_iconst (pc := 33) (v := (nI 0)) hx hb d_D_pour_33 (by decide) ?_
        exact W.zret (v := (nI 0)) hx hb hr rfl (fun t ht hW => ⟨⟨(nI 0), (st, buf, wds, n), rfl, Or.inl ⟨rfl, fun z => z.2.2.1 c2, rfl⟩, by rw [ht]; exact hP, va_K.moved hW.alike hK, hD⟩, hS.F ht⟩) hS.2.2 d_D_pour_34
      · refine lv_iload (pc := 19) hx hb d_D_pour_19 (lv_at hl 5 rfl) ?_
        refine lv_iconst (pc := 21) (v := (nI 1)) hx hb d_D_pour_21 (by decide) ?_
        refine lv_icmp_lt (pc := 22) (tgt := 33) hx hb d_D_pour_22 (by decide) (fun c3 => ?_) (fun c3 => ?_)
        · refine lv_iconst (pc := 33) (v := (nI 0)) hx hb d_D_pour_33 (by decide) ?_
          exact W.zret (v := (nI 0)) hx hb hr rfl (fun t ht hW => ⟨⟨(nI 0), (st, buf, wds, n), rfl, Or.inl ⟨rfl, fun z => z.2.2.2.1 c3, rfl⟩, by rw [ht]; exact hP, va_K.moved hW.alike hK, hD⟩, hS.F ht⟩) hS.2.2 d_D_pour_34
        · refine lv_iload (pc := 25) hx hb d_D_pour_25 (lv_at hl 5 rfl) ?_
          refine lv_sipush (pc := 27) (v := (nI 1000)) hx hb d_D_pour_27 (by decide) ?_
          refine lv_icmp_le (pc := 30) (tgt := 35) hx hb d_D_pour_30 (by decide) (fun c4 => ?_) (fun c4 => ?_)
          · have c5 : ¬ nI 1000 < ag := Int32.not_lt.mpr c4
            have hok : poOK (opn = 0) pn ag := ⟨c0, c1, c2, c3, c5⟩
            obtain ⟨mm, hmm, emm⟩ := pn_of c1 c2
            obtain ⟨gg, hgg, egg⟩ := ag_of c3 c5
            subst emm
            subst egg
            refine lv_iconst (pc := 35) (v := (nI 0)) hx hb d_D_pour_35 (by decide) ?_
            refine lv_istore (pc := 36) (lv' := [(6, .int (nI 0)), (0, .ref (q 0)), (1, .int xa), (2, .int xb), (3, .int xc), (4, .int (nI mm)), (5, .int (nI gg))]) hx hb d_D_pour_36 hl (by decide) rfl (fun ls hl => ?_)
            refine lp (α := Nat × (Nat → Int32) × (Nat → Int32)) (fun x => gg - x.1) (fun x H1 locs1 g => ∃ ls, g = F0 m 38 ls [] ∧ lv_has ls 9 [(0, .ref (q 0)), (1, .int xa), (2, .int xb), (3, .int xc), (4, .int (nI mm)), (5, .int (nI gg)), (6, .int (nI x.1))] ∧ va_P (dC, dI) classes (wD cI cB q L lim rdy kc alg (lN ((pourH alg (pourB xa xb xc) mm (st, blk, n) x.1).2.2)) opn mac rl key ((pourH alg (pourB xa xb xc) mm (st, blk, n) x.1).1) x.2.1 x.2.2 fil res) H1 ∧ va_D A (wD cI cB q L lim rdy kc alg (lN ((pourH alg (pourB xa xb xc) mm (st, blk, n) x.1).2.2)) opn mac rl key ((pourH alg (pourB xa xb xc) mm (st, blk, n) x.1).1) x.2.1 x.2.2 fil res) ∧ va_S A s.heap H1 locs1 ∧ (x.1 ≤ gg) ∧ (R8 x.2.1 (pourH alg (pourB xa xb xc) mm (st, blk, n) x.1).2.1)) ?_ (0, buf, wds) ⟨ls, rfl, lv_sub hl [1, 2, 3, 4, 5, 6, 0] rfl, hP, hD, hS, (show 0 ≤ gg from Nat.zero_le _), (show R8 buf (pourH alg (pourB xa xb xc) mm (st, blk, n) 0).2.1 from h8)⟩
            rintro ⟨tt, bf, wd⟩ H locs g ih ⟨ls, rfl, hl, hP, hD, hS, ht, h8⟩
            have hl : lv_has ls 9 [(0, .ref (q 0)), (1, .int xa), (2, .int xb), (3, .int xc), (4, .int (nI mm)), (5, .int (nI gg)), (6, .int (nI tt))] := hl
            have hP : va_P (dC, dI) classes (wD cI cB q L lim rdy kc alg (lN ((pourH alg (pourB xa xb xc) mm (st, blk, n) tt).2.2)) opn mac rl key ((pourH alg (pourB xa xb xc) mm (st, blk, n) tt).1) bf wd fil res) H := hP
            have hD : va_D A (wD cI cB q L lim rdy kc alg (lN ((pourH alg (pourB xa xb xc) mm (st, blk, n) tt).2.2)) opn mac rl key ((pourH alg (pourB xa xb xc) mm (st, blk, n) tt).1) bf wd fil res) := hD
            have ht : tt ≤ gg := ht
            have h8 : R8 bf (pourH alg (pourB xa xb xc) mm (st, blk, n) tt).2.1 := h8
            refine lv_iload (pc := 38) hx hb d_D_pour_38 (lv_at hl 6 rfl) ?_
            refine lv_iload (pc := 40) hx hb d_D_pour_40 (lv_at hl 5 rfl) ?_
            refine xi_ge (pc := 42) (tgt := 108) hx hb d_D_pour_42 (by decide) (by omega) (by omega) (fun d0 => ?_) (fun d0 => ?_)
            · have hs1 : gg = tt := by omega
              subst hs1
              refine lv_iconst (pc := 108) (v := (nI 1)) hx hb d_D_pour_108 (by decide) ?_
              exact W.zret (v := (nI 1)) hx hb hr rfl (fun t ht hW => ⟨⟨(nI 1), ((pourH alg (pourB xa xb xc) mm (st, blk, n) gg).1, bf, wd, (pourH alg (pourB xa xb xc) mm (st, blk, n) gg).2.2), rfl, Or.inr ⟨rfl, hok, by rw [nI_clamp (by omega), nI_clamp (by omega)], by rw [nI_clamp (by omega), nI_clamp (by omega)]; exact h8, by rw [nI_clamp (by omega), nI_clamp (by omega)]⟩, by rw [ht]; exact hP, va_K.moved hW.alike hK, hD⟩, hS.F ht⟩) hS.2.2 d_D_pour_109
            · refine lv_iconst (pc := 45) (v := (nI 0)) hx hb d_D_pour_45 (by decide) ?_
              refine lv_istore (pc := 46) (lv' := [(7, .int (nI 0)), (0, .ref (q 0)), (1, .int xa), (2, .int xb), (3, .int xc), (4, .int (nI mm)), (5, .int (nI gg)), (6, .int (nI tt))]) hx hb d_D_pour_46 hl (by decide) rfl (fun ls hl => ?_)
              have hmt : mm * tt ≤ 12 * 1000 := Nat.mul_le_mul hmm (by omega)
              refine lp (α := Nat × (Nat → Int32) × (Nat → Int32)) (fun x => mm - x.1) (fun x H1 locs1 g => ∃ ls, g = F0 m 48 ls [] ∧ lv_has ls 9 [(0, .ref (q 0)), (1, .int xa), (2, .int xb), (3, .int xc), (4, .int (nI mm)), (5, .int (nI gg)), (6, .int (nI tt)), (7, .int (nI x.1))] ∧ va_P (dC, dI) classes (wD cI cB q L lim rdy kc alg (lN ((hputs alg (pourB xa xb xc) (pourH alg (pourB xa xb xc) mm (st, blk, n) tt) x.1).2.2)) opn mac rl key ((hputs alg (pourB xa xb xc) (pourH alg (pourB xa xb xc) mm (st, blk, n) tt) x.1).1) x.2.1 x.2.2 fil res) H1 ∧ va_D A (wD cI cB q L lim rdy kc alg (lN ((hputs alg (pourB xa xb xc) (pourH alg (pourB xa xb xc) mm (st, blk, n) tt) x.1).2.2)) opn mac rl key ((hputs alg (pourB xa xb xc) (pourH alg (pourB xa xb xc) mm (st, blk, n) tt) x.1).1) x.2.1 x.2.2 fil res) ∧ va_S A s.heap H1 locs1 ∧ (x.1 ≤ mm) ∧ (R8 x.2.1 (hputs alg (pourB xa xb xc) (pourH alg (pourB xa xb xc) mm (st, blk, n) tt) x.1).2.1)) ?_ (0, bf, wd) ⟨ls, rfl, lv_sub hl [1, 2, 3, 4, 5, 6, 7, 0] rfl, hP, hD, hS, (show 0 ≤ mm from Nat.zero_le _), (show R8 bf (hputs alg (pourB xa xb xc) (pourH alg (pourB xa xb xc) mm (st, blk, n) tt) 0).2.1 from h8)⟩
              rintro ⟨k, bf, wd⟩ H locs g ih2 ⟨ls, rfl, hl, hP, hD, hS, hk, h8⟩
              have hl : lv_has ls 9 [(0, .ref (q 0)), (1, .int xa), (2, .int xb), (3, .int xc), (4, .int (nI mm)), (5, .int (nI gg)), (6, .int (nI tt)), (7, .int (nI k))] := hl
              have hP : va_P (dC, dI) classes (wD cI cB q L lim rdy kc alg (lN ((hputs alg (pourB xa xb xc) (pourH alg (pourB xa xb xc) mm (st, blk, n) tt) k).2.2)) opn mac rl key ((hputs alg (pourB xa xb xc) (pourH alg (pourB xa xb xc) mm (st, blk, n) tt) k).1) bf wd fil res) H := hP
              have hD : va_D A (wD cI cB q L lim rdy kc alg (lN ((hputs alg (pourB xa xb xc) (pourH alg (pourB xa xb xc) mm (st, blk, n) tt) k).2.2)) opn mac rl key ((hputs alg (pourB xa xb xc) (pourH alg (pourB xa xb xc) mm (st, blk, n) tt) k).1) bf wd fil res) := hD
              have hk : k ≤ mm := hk
              have h8 : R8 bf (hputs alg (pourB xa xb xc) (pourH alg (pourB xa xb xc) mm (st, blk, n) tt) k).2.1 := h8
              have hkn : (hputs alg (pourB xa xb xc) (pourH alg (pourB xa xb xc) mm (st, blk, n) tt) k).2.2 = n + mm * tt + k := (hputs_n _ _ _ _).trans (by rw [pourH_n])
              refine lv_iload (pc := 48) hx hb d_D_pour_48 (lv_at hl 7 rfl) ?_
              refine lv_iload (pc := 50) hx hb d_D_pour_50 (lv_at hl 4 rfl) ?_
              refine xi_ge (pc := 52) (tgt := 102) hx hb d_D_pour_52 (by decide) (by omega) (by omega) (fun d1 => ?_) (fun d1 => ?_)
              · have hs2 : mm = k := by omega
                subst hs2
                refine lv_iinc (pc := 102) (v := (nI (tt + 1))) (lv' := [(6, .int (nI (tt + 1))), (0, .ref (q 0)), (1, .int xa), (2, .int xb), (3, .int xc), (4, .int (nI mm)), (5, .int (nI gg)), (7, .int (nI mm))]) hx hb d_D_pour_102 hl (k := 6) rfl (inc1 _) (by decide) rfl (fun ls hl => ?_)
                refine lv_goto (pc := 105) (tgt := 38) hx hb d_D_pour_105 (by decide) ?_
                exact ih (tt + 1, bf, wd) _ _ _ (by show gg - (tt + 1) < gg - tt; omega) ⟨ls, rfl, lv_sub hl [1, 2, 3, 4, 5, 6, 0] rfl, hP, hD, hS, (show (tt + 1) ≤ gg from by omega), (show R8 bf (pourH alg (pourB xa xb xc) mm (st, blk, n) (tt + 1)).2.1 from h8)⟩
              · refine jn_i (fun x1 : Int32 => x1 = pourX xa xb xc k) 77 ls [] (fun x1 ex1 => ?_) (fun J => ?_)
                · refine xs_i (y := (pourX xa xb xc k)) (ex1) ?_
                  refine lv_istore (pc := 77) (lv' := [(8, .int (pourX xa xb xc k)), (0, .ref (q 0)), (1, .int xa), (2, .int xb), (3, .int xc), (4, .int (nI mm)), (5, .int (nI gg)), (6, .int (nI tt)), (7, .int (nI k))]) hx hb d_D_pour_77 hl (by decide) rfl (fun ls hl => ?_)
                  refine lv_aload_n (pc := 79) hx hb d_D_pour_79 rfl (lv_at hl 1 rfl) ?_
                  refine lv_iload (pc := 80) hx hb d_D_pour_80 (lv_at hl 0 rfl) ?_
                  refine lv_bipush (pc := 82) (v := (nI 24)) hx hb d_D_pour_82 (by decide) ?_
                  refine lv_bipush (pc := 84) (v := (nI 8)) hx hb d_D_pour_84 (by decide) ?_
                  refine lv_iload (pc := 86) hx hb d_D_pour_86 (lv_at hl 8 rfl) ?_
                  refine lv_iconst (pc := 88) (v := (nI 4)) hx hb d_D_pour_88 (by decide) ?_
                  refine xi_rem (pc := 89) hx hb d_D_pour_89 (by omega) (by decide) (by decide) ?_
                  refine xi_mul (pc := 90) hx hb d_D_pour_90 ?_
                  refine xi_sub (pc := 91) hx hb d_D_pour_91 (by omega) ?_
                  refine lv_ishr (pc := 92) hx hb d_D_pour_92 ?_
                  refine kvG (pc := 93) (As := [.int ((pourX xa xb xc k) >>> ((nI (24 - (8 * (k % 4)))) &&& 31))]) (rest := []) (wr := []) (ci := 0) ⟨hx, hb, hml, hown, hts⟩ (c_D_put l dC dI cI cB q H.size L lim rdy kc alg opn mac rl key ((hputs alg (pourB xa xb xc) (pourH alg (pourB xa xb xc) mm (st, blk, n) tt) k).1) bf wd fil res (hputs alg (pourB xa xb xc) (pourH alg (pourB xa xb xc) mm (st, blk, n) tt) k).2.1 (hputs alg (pourB xa xb xc) (pourH alg (pourB xa xb xc) mm (st, blk, n) tt) k).2.2 ((pourX xa xb xc k) >>> ((nI (24 - (8 * (k % 4)))) &&& 31)) (by omega) h8) (cwV 1 hts g_D_86 rfl rfl rfl hd_D_put ⟨by decide, by decide⟩) hK hP hD hS hA hST [0, 1, 2, 3, 4, 5, 6] [] rfl rfl (by decide) (by decide) (by decide) rfl rfl rfl hl.1 rfl (Nat.le_of_ble_eq_true rfl) d_D_pour_93 ⟨by decide, by decide⟩ (fun u H locs hw hP hD hS => ?_)
                  obtain ⟨u1, u2, u3⟩ := u
                  have hP : va_P (dC, dI) classes (wD cI cB q L lim rdy kc alg (lN ((hputs alg (pourB xa xb xc) (pourH alg (pourB xa xb xc) mm (st, blk, n) tt) k).2.2 + 1)) opn mac rl key u1 u2 u3 fil res) H := hP
                  have hD : va_D A (wD cI cB q L lim rdy kc alg (lN ((hputs alg (pourB xa xb xc) (pourH alg (pourB xa xb xc) mm (st, blk, n) tt) k).2.2 + 1)) opn mac rl key u1 u2 u3 fil res) := hD
                  obtain ⟨hw1, h8⟩ := hw
                  dsimp only at hw1 h8
                  subst hw1
                  refine lv_iinc (pc := 96) (v := (nI (k + 1))) (lv' := [(7, .int (nI (k + 1))), (8, .int (pourX xa xb xc k)), (0, .ref (q 0)), (1, .int xa), (2, .int xb), (3, .int xc), (4, .int (nI mm)), (5, .int (nI gg)), (6, .int (nI tt))]) hx hb d_D_pour_96 hl (k := 8) rfl (inc1 _) (by decide) rfl (fun ls hl => ?_)
                  refine lv_goto (pc := 99) (tgt := 48) hx hb d_D_pour_99 (by decide) ?_
                  exact ih2 (k + 1, u2, u3) _ _ _ (by show mm - (k + 1) < mm - k; omega) ⟨ls, rfl, lv_sub hl [2, 3, 4, 5, 6, 7, 8, 0] rfl, hP, hD, hS, (show (k + 1) ≤ mm from by omega), (show R8 u2 (hputs alg (pourB xa xb xc) (pourH alg (pourB xa xb xc) mm (st, blk, n) tt) (k + 1)).2.1 from h8)⟩
                · refine lv_iload (pc := 55) hx hb d_D_pour_55 (lv_at hl 7 rfl) ?_
                  refine lv_iconst (pc := 57) (v := (nI 4)) hx hb d_D_pour_57 (by decide) ?_
                  refine xi_ge (pc := 58) (tgt := 65) hx hb d_D_pour_58 (by decide) (by omega) (by omega) (fun e0 => ?_) (fun e0 => ?_)
                  · refine lv_iload (pc := 65) hx hb d_D_pour_65 (lv_at hl 7 rfl) ?_
                    refine lv_bipush (pc := 67) (v := (nI 8)) hx hb d_D_pour_67 (by decide) ?_
                    refine xi_ge (pc := 69) (tgt := 76) hx hb d_D_pour_69 (by decide) (by omega) (by omega) (fun e1 => ?_) (fun e1 => ?_)
                    · refine lv_iload_n (pc := 76) hx hb d_D_pour_76 rfl (lv_at hl 3 rfl) ?_
                      exact J _ (by rw [pourX, if_neg (by omega), if_neg (by omega)])
                    · refine lv_iload_n (pc := 72) hx hb d_D_pour_72 rfl (lv_at hl 2 rfl) ?_
                      refine lv_goto (pc := 73) (tgt := 77) hx hb d_D_pour_73 (by decide) ?_
                      exact J _ (by rw [pourX, if_neg (by omega), if_pos e1])
                  · refine lv_iload_n (pc := 61) hx hb d_D_pour_61 rfl (lv_at hl 1 rfl) ?_
                    refine lv_goto (pc := 62) (tgt := 77) hx hb d_D_pour_62 (by decide) ?_
                    exact J _ (by rw [pourX, if_pos e0])
          · refine lv_iconst (pc := 33) (v := (nI 0)) hx hb d_D_pour_33 (by decide) ?_
            exact W.zret (v := (nI 0)) hx hb hr rfl (fun t ht hW => ⟨⟨(nI 0), (st, buf, wds, n), rfl, Or.inl ⟨rfl, fun z => z.2.2.2.2 (Int32.not_le.mp c4), rfl⟩, by rw [ht]; exact hP, va_K.moved hW.alike hK, hD⟩, hS.F ht⟩) hS.2.2 d_D_pour_34
set_option maxHeartbeats 4000000 in
set_option maxRecDepth 100000 in
theorem c_D_finish (l : Launch) (dC : Nat → ClassId) (dI : Nat → Nat → Nat) (cI cB : ClassId) (q : Nat → Nat) (sz : Nat) (L : Nat) (lim rdy kc alg opn mac rl : Int32) (key st buf wds fil res : Nat → Int32) (blk dg pad : Nat → Int32) (n : Nat) (hn : n < 2 ^ 50) (h8 : R8 buf blk) (r8 : R8 res dg) (fr : sb_Fit res) (p8 : ¬ opn = 0 → ¬ mac = 0 → ∀ k, k < 64 → fil k &&& nI 255 = pad k) : Met l y_D_finish (k_D_finish :: tT) ({ frames := 4, cells := 0, slots := 0, locals := 99 }) (va_Pc [.ref (q 0)] (pD (dC, dI) cI cB sz (wD cI cB q L lim rdy kc alg (lN n) opn mac rl key st buf wds fil res))) (va_Qi (fun (rr : Int32) (u : Int32 × Nat × (Nat → Int32) × (Nat → Int32) × (Nat → Int32) × (Nat → Int32) × Int32 × Int32) => (rr = nI 0 ∧ opn = 0 ∧ u = (kc, n, st, buf, wds, res, opn, rl)) ∨ (rr = nI 1 ∧ ¬ opn = 0 ∧ u.1 = (if mac = 0 then kc else nI 0) ∧ u.2.1 = (finH alg mac pad (st, blk, n) dg).2.2 ∧ u.2.2.1 = (finH alg mac pad (st, blk, n) dg).1 ∧ R8 u.2.2.2.1 (finH alg mac pad (st, blk, n) dg).2.1 ∧ R8 u.2.2.2.2.2.1 (finD alg mac pad (st, blk, n) dg) ∧ sb_Fit u.2.2.2.2.2.1 ∧ u.2.2.2.2.2.2.1 = nI 0 ∧ u.2.2.2.2.2.2.2 = nI (hlen alg))) (fun u t => qD (dC, dI) cI cB (va_A (wD cI cB q L lim rdy kc alg (lN n) opn mac rl key st buf wds fil res) sz) (wD cI cB q L lim rdy u.1 alg (lN u.2.1) u.2.2.2.2.2.2.1 mac u.2.2.2.2.2.2.2 key u.2.2.1 u.2.2.2.1 u.2.2.2.2.1 fil u.2.2.2.2.2.1) t) (va_A (wD cI cB q L lim rdy kc alg (lN n) opn mac rl key st buf wds fil res) sz)) 0 0 (va_A (wD cI cB q L lim rdy kc alg (lN n) opn mac rl key st buf wds fil res) sz) := by
  refine Met.ofW (cc := b_D_finish) (maxL := 5) (ret := (some .boolean)) (by decide) rfl ?_
  intro p e s m args below meth c s₁ B hml hv
  obtain ⟨rfl, hsz, hP, hK, hD0, hST⟩ := hv
  have hx := B.exec
  have hb := B.bytes
  have hr := B.returns
  have hts : ∀ w ∈ tT, w.before _ s = true := fun w h => atoms_spec (ws := k_D_finish :: tT) B.pre w (List.mem_cons_of_mem _ h)
  have hown : s.vm.findClass R_D = some m.cls := findClass_of_methodNamed B.named
  have hlocks := B.notSynchronized
  subst hsz
  have hD := hD0.self (sz := s.heap.size)
  generalize hAe : va_A (wD cI cB q L lim rdy kc alg (lN n) opn mac rl key st buf wds fil res) s.heap.size = A at hD hST ⊢
  have hA : ∀ q : Nat, s.heap.size ≤ q → A q := fun q h => by rw [← hAe]; exact Or.inr h
  have hS : va_S A s.heap s.heap [] := va_S.rf
  have hP : va_P (dC, dI) classes (wD cI cB q L lim rdy kc alg (lN n) opn mac rl key st buf wds fil res) s.heap := hP
  have hl := lv_entry ([.ref (q 0)]) (n := 5) (Nat.le_of_ble_eq_true rfl)
  rw [lg_entry_eq]
  generalize (lg_sl ([.ref (q 0)]) ++ List.replicate (5 - (lg_sl ([.ref (q 0)])).length) Slot.unset).toArray = ls at hl ⊢
  have hl : lv_has ls 5 [(0, .ref (q 0))] := hl
  refine lv_aload_n (pc := 0) hx hb d_D_finish_0 rfl (lv_at hl 0 rfl) ?_
  refine va_get (pc := 1) (D := (dC, dI)) (ci := 0) (v := .int opn) (C := R_D) (T := F_D) (N := 14) hx hb hts i_D hown hK hP 0 rfl rfl 9 (by decide) (hts _ fl_D_103) (fun _ h9 => h9) rfl d_D_finish_1 ?_
  refine lv_if_ne (pc := 4) (tgt := 9) hx hb d_D_finish_4 (by decide) (fun c0 => ?_) (fun c0 => ?_)
  · refine lv_aload_n (pc := 9) hx hb d_D_finish_9 rfl (lv_at hl 0 rfl) ?_
    refine kvG (pc := 10) (As := []) (rest := []) (wr := []) (ci := 0) ⟨hx, hb, hml, hown, hts⟩ (c_D_end l dC dI cI cB q s.heap.size L lim rdy kc alg opn mac rl key st buf wds fil res blk dg n (by omega) h8 r8 fr) (cwV 0 hts g_D_122 rfl rfl rfl hd_D_end ⟨by decide, by decide⟩) hK hP hD hS hA hST [0, 1, 2, 3, 4, 5, 6] [] rfl rfl (by decide) (by decide) (by decide) rfl rfl rfl hl.1 rfl (Nat.le_of_ble_eq_true rfl) d_D_finish_10 ⟨by decide, by decide⟩ (fun u H locs hw hP hD hS => ?_)
    obtain ⟨u1, u2, u3, u4⟩ := u
    have hP : va_P (dC, dI) classes (wD cI cB q L lim rdy kc alg (lN ((hend alg (st, blk, n)).2.2)) opn mac rl key u1 u2 u3 fil u4) H := hP
    have hD : va_D A (wD cI cB q L lim rdy kc alg (lN ((hend alg (st, blk, n)).2.2)) opn mac rl key u1 u2 u3 fil u4) := hD
    obtain ⟨hw1, h8, r8, fr⟩ := hw
    dsimp only at hw1 h8 r8 fr
    subst hw1
    refine lv_aload_n (pc := 13) hx hb d_D_finish_13 rfl (lv_at hl 0 rfl) ?_
    refine va_get (pc := 14) (D := (dC, dI)) (ci := 0) (v := .int mac) (C := R_D) (T := F_D) (N := 14) hx hb hts i_D hown hK hP 0 rfl rfl 10 (by decide) (hts _ fl_D_116) (fun _ h9 => h9) rfl d_D_finish_14 ?_
    refine lv_if_eq (pc := 17) (tgt := 101) hx hb d_D_finish_17 (by decide) (fun c1 => ?_) (fun c1 => ?_)
    · refine lv_aload_n (pc := 101) hx hb d_D_finish_101 rfl (lv_at hl 0 rfl) ?_
      refine lv_iconst (pc := 102) (v := (nI 0)) hx hb d_D_finish_102 (by decide) ?_
      refine va_put (pc := 103) (D := (dC, dI)) (ci := 0) (v := .int (nI 0)) (ty := .boolean) (C := R_D) (T := F_D) (N := 14) hx hb hts i_D t_D t_D_ok n_D hown hK hP hD hS 0 rfl rfl 9 (by decide) (hts _ fl_D_103) (fun _ h9 => h9) rfl (by decide +kernel) rfl rfl (Nat.le_of_ble_eq_true rfl) d_D_finish_103 (fun H locs hP hD hS => ?_)
      have hP : va_P (dC, dI) classes (wD cI cB q L lim rdy kc alg (lN ((hend alg (st, blk, n)).2.2)) (nI 0) mac rl key ((hend alg (st, blk, n)).1) u2 u3 fil u4) H := hP
      have hD : va_D A (wD cI cB q L lim rdy kc alg (lN ((hend alg (st, blk, n)).2.2)) (nI 0) mac rl key ((hend alg (st, blk, n)).1) u2 u3 fil u4) := hD
      refine lv_aload_n (pc := 106) hx hb d_D_finish_106 rfl (lv_at hl 0 rfl) ?_
      refine lv_aload_n (pc := 107) hx hb d_D_finish_107 rfl (lv_at hl 0 rfl) ?_
      refine va_get (pc := 108) (D := (dC, dI)) (ci := 0) (v := .int alg) (C := R_D) (T := F_D) (N := 14) hx hb hts i_D hown hK hP 0 rfl rfl 4 (by decide) (hts _ fl_D_42) (fun _ h9 => h9) rfl d_D_finish_108 ?_
      refine ksi (pc := 111) (As := [.int alg]) (rest := [.ref (q 0)]) ⟨hx, hb, hml, hown, hts⟩ (c_D_lengthOf l alg) (va_cwS 1 hts g_D_92 rfl rfl rfl hs_D_lengthOf ⟨by decide, by decide⟩) rfl hl.1 rfl (Nat.le_of_ble_eq_true rfl) d_D_finish_111 ⟨by decide, by decide⟩ (fun r3 er4 => ?_)
      subst er4
      refine va_put (pc := 114) (D := (dC, dI)) (ci := 0) (v := .int (nI (hlen alg))) (ty := .int) (C := R_D) (T := F_D) (N := 14) hx hb hts i_D t_D t_D_ok n_D hown hK hP hD hS 0 rfl rfl 13 (by decide) (hts _ fl_D_106) (fun _ h9 => h9) rfl (by decide +kernel) rfl rfl (Nat.le_of_ble_eq_true rfl) d_D_finish_114 (fun H locs hP hD hS => ?_)
      have hP : va_P (dC, dI) classes (wD cI cB q L lim rdy kc alg (lN ((hend alg (st, blk, n)).2.2)) (nI 0) mac (nI (hlen alg)) key ((hend alg (st, blk, n)).1) u2 u3 fil u4) H := hP
      have hD : va_D A (wD cI cB q L lim rdy kc alg (lN ((hend alg (st, blk, n)).2.2)) (nI 0) mac (nI (hlen alg)) key ((hend alg (st, blk, n)).1) u2 u3 fil u4) := hD
      refine lv_iconst (pc := 117) (v := (nI 1)) hx hb d_D_finish_117 (by decide) ?_
      exact W.zret (v := (nI 1)) hx hb hr rfl (fun t ht hW => ⟨⟨(nI 1), (kc, (hend alg (st, blk, n)).2.2, (hend alg (st, blk, n)).1, u2, u3, u4, nI 0, nI (hlen alg)), rfl, Or.inr ⟨rfl, c0, by rw [if_pos c1], by rw [fin_0 c1], by rw [fin_0 c1], by rw [fin_0 c1]; exact h8, by rw [finD_0 c1]; exact r8, fr, rfl, rfl⟩, by rw [ht]; exact hP, va_K.moved hW.alike hK, hD⟩, hS.F ht⟩) hS.2.2 d_D_finish_118
    · have p8 := p8 c0 c1
      have r8 : R8 u4 (finD1 alg (st, blk, n) dg) := r8
      refine lv_aload_n (pc := 20) hx hb d_D_finish_20 rfl (lv_at hl 0 rfl) ?_
      refine lv_aload_n (pc := 21) hx hb d_D_finish_21 rfl (lv_at hl 0 rfl) ?_
      refine va_get (pc := 22) (D := (dC, dI)) (ci := 0) (v := .int alg) (C := R_D) (T := F_D) (N := 14) hx hb hts i_D hown hK hP 0 rfl rfl 4 (by decide) (hts _ fl_D_42) (fun _ h9 => h9) rfl d_D_finish_22 ?_
      refine kvG (pc := 25) (As := [.int alg]) (rest := []) (wr := []) (ci := 0) ⟨hx, hb, hml, hown, hts⟩ (c_D_begin l dC dI cI cB q H.size L lim rdy kc alg opn mac rl (lN ((hend alg (st, blk, n)).2.2)) key ((hend alg (st, blk, n)).1) u2 u3 fil u4 alg) (cwV 1 hts g_D_113 rfl rfl rfl hd_D_begin ⟨by decide, by decide⟩) hK hP hD hS hA hST [0, 1, 2, 3, 4, 5, 6] [] rfl rfl (by decide) (by decide) (by decide) rfl rfl rfl hl.1 rfl (Nat.le_of_ble_eq_true rfl) d_D_finish_25 ⟨by decide, by decide⟩ (fun u H locs hw hP hD hS => ?_)
      have hP : va_P (dC, dI) classes (wD cI cB q L lim rdy kc alg (lN 0) opn mac rl key (hini (hend alg (st, blk, n)).1) u2 u3 fil u4) H := hP
      have hD : va_D A (wD cI cB q L lim rdy kc alg (lN 0) opn mac rl key (hini (hend alg (st, blk, n)).1) u2 u3 fil u4) := hD
      refine lv_aload_n (pc := 28) hx hb d_D_finish_28 rfl (lv_at hl 0 rfl) ?_
      refine va_get (pc := 29) (D := (dC, dI)) (ci := 0) (v := .ref (q 5)) (C := R_D) (T := F_D) (N := 14) hx hb hts i_D hown hK hP 0 rfl rfl 11 (by decide) (hts _ fl_D_20) (fun _ h9 => h9) rfl d_D_finish_29 ?_
      refine lv_astore_n (pc := 32) (lv' := [(1, .ref (q 5)), (0, .ref (q 0))]) hx hb d_D_finish_32 rfl hl (by decide) rfl (fun ls hl => ?_)
      refine lv_aload_n (pc := 33) hx hb d_D_finish_33 rfl (lv_at hl 0 rfl) ?_
      refine va_alen (pc := 34) (v := nI 64) hx hb hK hP 5 1 rfl rfl rfl d_D_finish_34 ?_
      refine lv_istore_n (pc := 35) (lv' := [(2, .int (nI 64)), (1, .ref (q 5)), (0, .ref (q 0))]) hx hb d_D_finish_35 rfl hl (by decide) rfl (fun ls hl => ?_)
      refine lv_iconst (pc := 36) (v := (nI 0)) hx hb d_D_finish_36 (by decide) ?_
      refine lv_istore_n (pc := 37) (lv' := [(3, .int (nI 0)), (2, .int (nI 64)), (1, .ref (q 5)), (0, .ref (q 0))]) hx hb d_D_finish_37 rfl hl (by decide) rfl (fun ls hl => ?_)
      refine lp (α := Nat × (Nat → Int32) × (Nat → Int32)) (fun x => 64 - x.1) (fun x H1 locs1 g => ∃ ls, g = F0 m 38 ls [] ∧ lv_has ls 5 [(0, .ref (q 0)), (1, .ref (q 5)), (2, .int (nI 64)), (3, .int (nI x.1))] ∧ va_P (dC, dI) classes (wD cI cB q L lim rdy kc alg (lN ((hputs alg (fun zz => pad zz ^^^ nI 92) (hini (hend alg (st, blk, n)).1, (hend alg (st, blk, n)).2.1, 0) x.1).2.2)) opn mac rl key ((hputs alg (fun zz => pad zz ^^^ nI 92) (hini (hend alg (st, blk, n)).1, (hend alg (st, blk, n)).2.1, 0) x.1).1) x.2.1 x.2.2 fil u4) H1 ∧ va_D A (wD cI cB q L lim rdy kc alg (lN ((hputs alg (fun zz => pad zz ^^^ nI 92) (hini (hend alg (st, blk, n)).1, (hend alg (st, blk, n)).2.1, 0) x.1).2.2)) opn mac rl key ((hputs alg (fun zz => pad zz ^^^ nI 92) (hini (hend alg (st, blk, n)).1, (hend alg (st, blk, n)).2.1, 0) x.1).1) x.2.1 x.2.2 fil u4) ∧ va_S A s.heap H1 locs1 ∧ (x.1 ≤ 64) ∧ (R8 x.2.1 (hputs alg (fun zz => pad zz ^^^ nI 92) (hini (hend alg (st, blk, n)).1, (hend alg (st, blk, n)).2.1, 0) x.1).2.1)) ?_ (0, u2, u3) ⟨ls, rfl, lv_sub hl [3, 2, 1, 0] rfl, hP, hD, hS, (show 0 ≤ 64 from Nat.zero_le _), (show R8 u2 (hputs alg (fun zz => pad zz ^^^ nI 92) (hini (hend alg (st, blk, n)).1, (hend alg (st, blk, n)).2.1, 0) 0).2.1 from h8)⟩
      rintro ⟨k, bf, wd⟩ H locs g ih ⟨ls, rfl, hl, hP, hD, hS, hk, h8⟩
      have hl : lv_has ls 5 [(0, .ref (q 0)), (1, .ref (q 5)), (2, .int (nI 64)), (3, .int (nI k))] := hl
      have hP : va_P (dC, dI) classes (wD cI cB q L lim rdy kc alg (lN ((hputs alg (fun zz => pad zz ^^^ nI 92) (hini (hend alg (st, blk, n)).1, (hend alg (st, blk, n)).2.1, 0) k).2.2)) opn mac rl key ((hputs alg (fun zz => pad zz ^^^ nI 92) (hini (hend alg (st, blk, n)).1, (hend alg (st, blk, n)).2.1, 0) k).1) bf wd fil u4) H := hP
      have hD : va_D A (wD cI cB q L lim rdy kc alg (lN ((hputs alg (fun zz => pad zz ^^^ nI 92) (hini (hend alg (st, blk, n)).1, (hend alg (st, blk, n)).2.1, 0) k).2.2)) opn mac rl key ((hputs alg (fun zz => pad zz ^^^ nI 92) (hini (hend alg (st, blk, n)).1, (hend alg (st, blk, n)).2.1, 0) k).1) bf wd fil u4) := hD
      have hk : k ≤ 64 := hk
      have h8 : R8 bf (hputs alg (fun zz => pad zz ^^^ nI 92) (hini (hend alg (st, blk, n)).1, (hend alg (st, blk, n)).2.1, 0) k).2.1 := h8
      have hkn : (hputs alg (fun zz => pad zz ^^^ nI 92) (hini (hend alg (st, blk, n)).1, (hend alg (st, blk, n)).2.1, 0) k).2.2 = 0 + k := hputs_n _ _ _ _
      refine lv_iload_n (pc := 38) hx hb d_D_finish_38 rfl (lv_at hl 3 rfl) ?_
      refine lv_iload_n (pc := 39) hx hb d_D_finish_39 rfl (lv_at hl 2 rfl) ?_
      refine xi_ge (pc := 40) (tgt := 63) hx hb d_D_finish_40 (by decide) (by omega) (by omega) (fun c2 => ?_) (fun c2 => ?_)
      · have hs5 : k = 64 := by omega
        subst hs5
        have hk2n : (finH2 alg pad (st, blk, n)).2.2 = 0 + 64 := hputs_n _ _ _ _
        refine lv_iconst (pc := 63) (v := (nI 0)) hx hb d_D_finish_63 (by decide) ?_
        refine lv_istore_n (pc := 64) (lv' := [(1, .int (nI 0)), (0, .ref (q 0)), (2, .int (nI 64)), (3, .int (nI 64))]) hx hb d_D_finish_64 rfl hl (by decide) rfl (fun ls hl => ?_)
        refine lp (α := Nat × (Nat → Int32) × (Nat → Int32)) (fun x => 20 - x.1) (fun x H1 locs1 g => ∃ ls, g = F0 m 65 ls [] ∧ lv_has ls 5 [(0, .ref (q 0)), (1, .int (nI x.1))] ∧ va_P (dC, dI) classes (wD cI cB q L lim rdy kc alg (lN ((hputs alg (finD1 alg (st, blk, n) dg) (finH2 alg pad (st, blk, n)) x.1).2.2)) opn mac rl key ((hputs alg (finD1 alg (st, blk, n) dg) (finH2 alg pad (st, blk, n)) x.1).1) x.2.1 x.2.2 fil u4) H1 ∧ va_D A (wD cI cB q L lim rdy kc alg (lN ((hputs alg (finD1 alg (st, blk, n) dg) (finH2 alg pad (st, blk, n)) x.1).2.2)) opn mac rl key ((hputs alg (finD1 alg (st, blk, n) dg) (finH2 alg pad (st, blk, n)) x.1).1) x.2.1 x.2.2 fil u4) ∧ va_S A s.heap H1 locs1 ∧ (x.1 ≤ hlen alg) ∧ (R8 x.2.1 (hputs alg (finD1 alg (st, blk, n) dg) (finH2 alg pad (st, blk, n)) x.1).2.1)) ?_ (0, bf, wd) ⟨ls, rfl, lv_sub hl [1, 0] rfl, hP, hD, hS, (show 0 ≤ hlen alg from Nat.zero_le _), (show R8 bf (hputs alg (finD1 alg (st, blk, n) dg) (finH2 alg pad (st, blk, n)) 0).2.1 from h8)⟩
        rintro ⟨k, bf, wd⟩ H locs g ih2 ⟨ls, rfl, hl, hP, hD, hS, hk, h8⟩
        have hl : lv_has ls 5 [(0, .ref (q 0)), (1, .int (nI k))] := hl
        have hP : va_P (dC, dI) classes (wD cI cB q L lim rdy kc alg (lN ((hputs alg (finD1 alg (st, blk, n) dg) (finH2 alg pad (st, blk, n)) k).2.2)) opn mac rl key ((hputs alg (finD1 alg (st, blk, n) dg) (finH2 alg pad (st, blk, n)) k).1) bf wd fil u4) H := hP
        have hD : va_D A (wD cI cB q L lim rdy kc alg (lN ((hputs alg (finD1 alg (st, blk, n) dg) (finH2 alg pad (st, blk, n)) k).2.2)) opn mac rl key ((hputs alg (finD1 alg (st, blk, n) dg) (finH2 alg pad (st, blk, n)) k).1) bf wd fil u4) := hD
        have hk : k ≤ hlen alg := hk
        have h8 : R8 bf (hputs alg (finD1 alg (st, blk, n) dg) (finH2 alg pad (st, blk, n)) k).2.1 := h8
        have hle := hlen_le alg
        have hkn : (hputs alg (finD1 alg (st, blk, n) dg) (finH2 alg pad (st, blk, n)) k).2.2 = 0 + 64 + k := (hputs_n _ _ _ _).trans (by rw [hk2n])
        refine lv_iload_n (pc := 65) hx hb d_D_finish_65 rfl (lv_at hl 1 rfl) ?_
        refine lv_aload_n (pc := 66) hx hb d_D_finish_66 rfl (lv_at hl 0 rfl) ?_
        refine va_get (pc := 67) (D := (dC, dI)) (ci := 0) (v := .int alg) (C := R_D) (T := F_D) (N := 14) hx hb hts i_D hown hK hP 0 rfl rfl 4 (by decide) (hts _ fl_D_42) (fun _ h9 => h9) rfl d_D_finish_67 ?_
        refine ksi (pc := 70) (As := [.int alg]) (rest := [.int (nI k)]) ⟨hx, hb, hml, hown, hts⟩ (c_D_lengthOf l alg) (va_cwS 1 hts g_D_92 rfl rfl rfl hs_D_lengthOf ⟨by decide, by decide⟩) rfl hl.1 rfl (Nat.le_of_ble_eq_true rfl) d_D_finish_70 ⟨by decide, by decide⟩ (fun r6 er7 => ?_)
        subst er7
        refine xi_ge (pc := 73) (tgt := 92) hx hb d_D_finish_73 (by decide) (by omega) (by omega) (fun c3 => ?_) (fun c3 => ?_)
        · have hs8 : k = hlen alg := by omega
          subst hs8
          have hkn3 : (finH3 alg pad (st, blk, n) dg).2.2 = 0 + 64 + hlen alg := hkn
          refine lv_aload_n (pc := 92) hx hb d_D_finish_92 rfl (lv_at hl 0 rfl) ?_
          refine kvG (pc := 93) (As := []) (rest := []) (wr := []) (ci := 0) ⟨hx, hb, hml, hown, hts⟩ (c_D_end l dC dI cI cB q H.size L lim rdy kc alg opn mac rl key ((finH3 alg pad (st, blk, n) dg).1) bf wd fil u4 (finH3 alg pad (st, blk, n) dg).2.1 (finD1 alg (st, blk, n) dg) (finH3 alg pad (st, blk, n) dg).2.2 (by omega) h8 r8 fr) (cwV 0 hts g_D_122 rfl rfl rfl hd_D_end ⟨by decide, by decide⟩) hK hP hD hS hA hST [0, 1, 2, 3, 4, 5, 6] [] rfl rfl (by decide) (by decide) (by decide) rfl rfl rfl hl.1 rfl (Nat.le_of_ble_eq_true rfl) d_D_finish_93 ⟨by decide, by decide⟩ (fun u H locs hw hP hD hS => ?_)
          obtain ⟨v1, v2, v3, v4⟩ := u
          have hP : va_P (dC, dI) classes (wD cI cB q L lim rdy kc alg (lN ((hend alg (finH3 alg pad (st, blk, n) dg)).2.2)) opn mac rl key v1 v2 v3 fil v4) H := hP
          have hD : va_D A (wD cI cB q L lim rdy kc alg (lN ((hend alg (finH3 alg pad (st, blk, n) dg)).2.2)) opn mac rl key v1 v2 v3 fil v4) := hD
          obtain ⟨hw1, h8, r8, fr⟩ := hw
          dsimp only at hw1 h8 r8 fr
          subst hw1
          refine lv_aload_n (pc := 96) hx hb d_D_finish_96 rfl (lv_at hl 0 rfl) ?_
          refine lv_iconst (pc := 97) (v := (nI 0)) hx hb d_D_finish_97 (by decide) ?_
          refine va_put (pc := 98) (D := (dC, dI)) (ci := 0) (v := .int (nI 0)) (ty := .int) (C := R_D) (T := F_D) (N := 14) hx hb hts i_D t_D t_D_ok n_D hown hK hP hD hS 0 rfl rfl 3 (by decide) (hts _ fl_D_100) (fun _ h9 => h9) rfl (by decide +kernel) rfl rfl (Nat.le_of_ble_eq_true rfl) d_D_finish_98 (fun H locs hP hD hS => ?_)
          have hP : va_P (dC, dI) classes (wD cI cB q L lim rdy (nI 0) alg (lN ((hend alg (finH3 alg pad (st, blk, n) dg)).2.2)) opn mac rl key ((hend alg (finH3 alg pad (st, blk, n) dg)).1) v2 v3 fil v4) H := hP
          have hD : va_D A (wD cI cB q L lim rdy (nI 0) alg (lN ((hend alg (finH3 alg pad (st, blk, n) dg)).2.2)) opn mac rl key ((hend alg (finH3 alg pad (st, blk, n) dg)).1) v2 v3 fil v4) := hD
          refine lv_aload_n (pc := 101) hx hb d_D_finish_101 rfl (lv_at hl 0 rfl) ?_
          refine lv_iconst (pc := 102) (v := (nI 0)) hx hb d_D_finish_102 (by decide) ?_
          refine va_put (pc := 103) (D := (dC, dI)) (ci := 0) (v := .int (nI 0)) (ty := .boolean) (C := R_D) (T := F_D) (N := 14) hx hb hts i_D t_D t_D_ok n_D hown hK hP hD hS 0 rfl rfl 9 (by decide) (hts _ fl_D_103) (fun _ h9 => h9) rfl (by decide +kernel) rfl rfl (Nat.le_of_ble_eq_true rfl) d_D_finish_103 (fun H locs hP hD hS => ?_)
          have hP : va_P (dC, dI) classes (wD cI cB q L lim rdy (nI 0) alg (lN ((hend alg (finH3 alg pad (st, blk, n) dg)).2.2)) (nI 0) mac rl key ((hend alg (finH3 alg pad (st, blk, n) dg)).1) v2 v3 fil v4) H := hP
          have hD : va_D A (wD cI cB q L lim rdy (nI 0) alg (lN ((hend alg (finH3 alg pad (st, blk, n) dg)).2.2)) (nI 0) mac rl key ((hend alg (finH3 alg pad (st, blk, n) dg)).1) v2 v3 fil v4) := hD
          refine lv_aload_n (pc := 106) hx hb d_D_finish_106 rfl (lv_at hl 0 rfl) ?_
          refine lv_aload_n (pc := 107) hx hb d_D_finish_107 rfl (lv_at hl 0 rfl) ?_
          refine va_get (pc := 108) (D := (dC, dI)) (ci := 0) (v := .int alg) (C := R_D) (T := F_D) (N := 14) hx hb hts i_D hown hK hP 0 rfl rfl 4 (by decide) (hts _ fl_D_42) (fun _ h9 => h9) rfl d_D_finish_108 ?_
          refine ksi (pc := 111) (As := [.int alg]) (rest := [.ref (q 0)]) ⟨hx, hb, hml, hown, hts⟩ (c_D_lengthOf l alg) (va_cwS 1 hts g_D_92 rfl rfl rfl hs_D_lengthOf ⟨by decide, by decide⟩) rfl hl.1 rfl (Nat.le_of_ble_eq_true rfl) d_D_finish_111 ⟨by decide, by decide⟩ (fun r9 er10 => ?_)
          subst er10
          refine va_put (pc := 114) (D := (dC, dI)) (ci := 0) (v := .int (nI (hlen alg))) (ty := .int) (C := R_D) (T := F_D) (N := 14) hx hb hts i_D t_D t_D_ok n_D hown hK hP hD hS 0 rfl rfl 13 (by decide) (hts _ fl_D_106) (fun _ h9 => h9) rfl (by decide +kernel) rfl rfl (Nat.le_of_ble_eq_true rfl) d_D_finish_114 (fun H locs hP hD hS => ?_)
          have hP : va_P (dC, dI) classes (wD cI cB q L lim rdy (nI 0) alg (lN ((hend alg (finH3 alg pad (st, blk, n) dg)).2.2)) (nI 0) mac (nI (hlen alg)) key ((hend alg (finH3 alg pad (st, blk, n) dg)).1) v2 v3 fil v4) H := hP
          have hD : va_D A (wD cI cB q L lim rdy (nI 0) alg (lN ((hend alg (finH3 alg pad (st, blk, n) dg)).2.2)) (nI 0) mac (nI (hlen alg)) key ((hend alg (finH3 alg pad (st, blk, n) dg)).1) v2 v3 fil v4) := hD
          refine lv_iconst (pc := 117) (v := (nI 1)) hx hb d_D_finish_117 (by decide) ?_
          exact W.zret (v := (nI 1)) hx hb hr rfl (fun t ht hW => ⟨⟨(nI 1), (nI 0, (hend alg (finH3 alg pad (st, blk, n) dg)).2.2, (hend alg (finH3 alg pad (st, blk, n) dg)).1, v2, v3, v4, nI 0, nI (hlen alg)), rfl, Or.inr ⟨rfl, c0, by rw [if_neg c1], by rw [fin_1 c1], by rw [fin_1 c1], by rw [fin_1 c1]; exact h8, by rw [finD_1 c1]; exact r8, fr, rfl, rfl⟩, by rw [ht]; exact hP, va_K.moved hW.alike hK, hD⟩, hS.F ht⟩) hS.2.2 d_D_finish_118
        · refine lv_aload_n (pc := 76) hx hb d_D_finish_76 rfl (lv_at hl 0 rfl) ?_
          refine lv_aload_n (pc := 77) hx hb d_D_finish_77 rfl (lv_at hl 0 rfl) ?_
          refine va_get (pc := 78) (D := (dC, dI)) (ci := 0) (v := .ref (q 6)) (C := R_D) (T := F_D) (N := 14) hx hb hts i_D hown hK hP 0 rfl rfl 12 (by decide) (hts _ fl_D_23) (fun _ h9 => h9) rfl d_D_finish_78 ?_
          refine lv_iload_n (pc := 81) hx hb d_D_finish_81 rfl (lv_at hl 1 rfl) ?_
          refine xa_bald (pc := 82) hx hb hK hP 6 1 rfl rfl (by omega) (by decide) d_D_finish_82 ?_
          refine kvG (pc := 83) (As := [.int (u4 k)]) (rest := []) (wr := []) (ci := 0) ⟨hx, hb, hml, hown, hts⟩ (c_D_put l dC dI cI cB q H.size L lim rdy kc alg opn mac rl key ((hputs alg (finD1 alg (st, blk, n) dg) (finH2 alg pad (st, blk, n)) k).1) bf wd fil u4 (hputs alg (finD1 alg (st, blk, n) dg) (finH2 alg pad (st, blk, n)) k).2.1 (hputs alg (finD1 alg (st, blk, n) dg) (finH2 alg pad (st, blk, n)) k).2.2 (u4 k) (by omega) h8) (cwV 1 hts g_D_86 rfl rfl rfl hd_D_put ⟨by decide, by decide⟩) hK hP hD hS hA hST [0, 1, 2, 3, 4, 5, 6] [] rfl rfl (by decide) (by decide) (by decide) rfl rfl rfl hl.1 rfl (Nat.le_of_ble_eq_true rfl) d_D_finish_83 ⟨by decide, by decide⟩ (fun u H locs hw hP hD hS => ?_)
          obtain ⟨v1, v2, v3⟩ := u
          have hP : va_P (dC, dI) classes (wD cI cB q L lim rdy kc alg (lN ((hputs alg (finD1 alg (st, blk, n) dg) (finH2 alg pad (st, blk, n)) k).2.2 + 1)) opn mac rl key v1 v2 v3 fil u4) H := hP
          have hD : va_D A (wD cI cB q L lim rdy kc alg (lN ((hputs alg (finD1 alg (st, blk, n) dg) (finH2 alg pad (st, blk, n)) k).2.2 + 1)) opn mac rl key v1 v2 v3 fil u4) := hD
          rw [r8] at hw
          obtain ⟨hw1, h8⟩ := hw
          dsimp only at hw1 h8
          subst hw1
          refine lv_iinc (pc := 86) (v := (nI (k + 1))) (lv' := [(1, .int (nI (k + 1))), (0, .ref (q 0))]) hx hb d_D_finish_86 hl (k := 1) rfl (inc1 _) (by decide) rfl (fun ls hl => ?_)
          refine lv_goto (pc := 89) (tgt := 65) hx hb d_D_finish_89 (by decide) ?_
          exact ih2 (k + 1, v2, v3) _ _ _ (by show 20 - (k + 1) < 20 - k; omega) ⟨ls, rfl, lv_sub hl [1, 0] rfl, hP, hD, hS, (show (k + 1) ≤ hlen alg from by omega), (show R8 v2 (hputs alg (finD1 alg (st, blk, n) dg) (finH2 alg pad (st, blk, n)) (k + 1)).2.1 from h8)⟩
      · refine lv_aload_n (pc := 43) hx hb d_D_finish_43 rfl (lv_at hl 1 rfl) ?_
        refine lv_iload_n (pc := 44) hx hb d_D_finish_44 rfl (lv_at hl 3 rfl) ?_
        refine xa_bald (pc := 45) hx hb hK hP 5 1 rfl rfl (by omega) (by decide) d_D_finish_45 ?_
        refine lv_istore (pc := 46) (lv' := [(4, .int (fil k)), (0, .ref (q 0)), (1, .ref (q 5)), (2, .int (nI 64)), (3, .int (nI k))]) hx hb d_D_finish_46 hl (by decide) rfl (fun ls hl => ?_)
        refine lv_aload_n (pc := 48) hx hb d_D_finish_48 rfl (lv_at hl 1 rfl) ?_
        refine lv_iload (pc := 49) hx hb d_D_finish_49 (lv_at hl 0 rfl) ?_
        refine lv_bipush (pc := 51) (v := (nI 92)) hx hb d_D_finish_51 (by decide) ?_
        refine lv_ixor (pc := 53) hx hb d_D_finish_53 ?_
        refine kvG (pc := 54) (As := [.int ((fil k) ^^^ (nI 92))]) (rest := []) (wr := []) (ci := 0) ⟨hx, hb, hml, hown, hts⟩ (c_D_put l dC dI cI cB q H.size L lim rdy kc alg opn mac rl key ((hputs alg (fun zz => pad zz ^^^ nI 92) (hini (hend alg (st, blk, n)).1, (hend alg (st, blk, n)).2.1, 0) k).1) bf wd fil u4 (hputs alg (fun zz => pad zz ^^^ nI 92) (hini (hend alg (st, blk, n)).1, (hend alg (st, blk, n)).2.1, 0) k).2.1 (hputs alg (fun zz => pad zz ^^^ nI 92) (hini (hend alg (st, blk, n)).1, (hend alg (st, blk, n)).2.1, 0) k).2.2 (fil k ^^^ nI 92) (by omega) h8) (cwV 1 hts g_D_86 rfl rfl rfl hd_D_put ⟨by decide, by decide⟩) hK hP hD hS hA hST [0, 1, 2, 3, 4, 5, 6] [] rfl rfl (by decide) (by decide) (by decide) rfl rfl rfl hl.1 rfl (Nat.le_of_ble_eq_true rfl) d_D_finish_54 ⟨by decide, by decide⟩ (fun u H locs hw hP hD hS => ?_)
        obtain ⟨v1, v2, v3⟩ := u
        have hP : va_P (dC, dI) classes (wD cI cB q L lim rdy kc alg (lN ((hputs alg (fun zz => pad zz ^^^ nI 92) (hini (hend alg (st, blk, n)).1, (hend alg (st, blk, n)).2.1, 0) k).2.2 + 1)) opn mac rl key v1 v2 v3 fil u4) H := hP
        have hD : va_D A (wD cI cB q L lim rdy kc alg (lN ((hputs alg (fun zz => pad zz ^^^ nI 92) (hini (hend alg (st, blk, n)).1, (hend alg (st, blk, n)).2.1, 0) k).2.2 + 1)) opn mac rl key v1 v2 v3 fil u4) := hD
        rw [xor8 _ _ e92, p8 k c2] at hw
        obtain ⟨hw1, h8⟩ := hw
        dsimp only at hw1 h8
        subst hw1
        refine lv_iinc (pc := 57) (v := (nI (k + 1))) (lv' := [(3, .int (nI (k + 1))), (4, .int (fil k)), (0, .ref (q 0)), (1, .ref (q 5)), (2, .int (nI 64))]) hx hb d_D_finish_57 hl (k := 4) rfl (inc1 _) (by decide) rfl (fun ls hl => ?_)
        refine lv_goto (pc := 60) (tgt := 38) hx hb d_D_finish_60 (by decide) ?_
        exact ih (k + 1, v2, v3) _ _ _ (by show 64 - (k + 1) < 64 - k; omega) ⟨ls, rfl, lv_sub hl [2, 3, 4, 0] rfl, hP, hD, hS, (show (k + 1) ≤ 64 from by omega), (show R8 v2 (hputs alg (fun zz => pad zz ^^^ nI 92) (hini (hend alg (st, blk, n)).1, (hend alg (st, blk, n)).2.1, 0) (k + 1)).2.1 from h8)⟩
  · refine lv_iconst (pc := 7) (v := (nI 0)) hx hb d_D_finish_7 (by decide) ?_
    exact W.zret (v := (nI 0)) hx hb hr rfl (fun t ht hW => ⟨⟨(nI 0), (kc, n, st, buf, wds, res, opn, rl), rfl, Or.inl ⟨rfl, c0, rfl⟩, by rw [ht]; exact hP, va_K.moved hW.alike hK, hD⟩, hS.F ht⟩) hS.2.2 d_D_finish_8
end
section
def limN (x : Int32) : Nat := if x < 0 then 0 else if nI 300 < x then 300 else x.toNatClampNeg
theorem limN_le (x : Int32) : limN x ≤ 300 := by
  unfold limN
  split
  · decide
  · split
    · exact Nat.le_refl _
    · rename_i h0 h1
      obtain ⟨j, hj, rfl⟩ := nI_of h0
      rw [nI_clamp hj]
      exact Nat.not_lt.mp (fun z => h1 ((nI_ltI (by decide) hj).mpr z))
theorem lim_D (x : Int32) : (if nI 0 < (if x < nI 300 then x else nI 300) then (if x < nI 300 then x else nI 300) else nI 0) = nI (limN x) := by
  unfold limN
  by_cases h0 : x < 0
  · rw [if_pos h0]
    have h1 : x < nI 300 := by
      apply Int32.lt_iff_toInt_lt.mpr
      have e1 := Int32.lt_iff_toInt_lt.mp h0
      have e2 : (nI 300).toInt = 300 := by decide
      have e3 : (0 : Int32).toInt = 0 := by decide
      omega
    rw [if_pos h1, if_neg (show ¬ nI 0 < x from fun z => by
      have e1 := Int32.lt_iff_toInt_lt.mp h0
      have e2 := Int32.lt_iff_toInt_lt.mp z
      have e3 : (0 : Int32).toInt = 0 := by decide
      have e4 : (nI 0).toInt = 0 := by decide
      omega)]
  · rw [if_neg h0]
    obtain ⟨j, hj, rfl⟩ := nI_of h0
    by_cases h1 : nI 300 < nI j
    · have h2 : 300 < j := (nI_ltI (by decide) hj).mp h1
      rw [if_pos h1, if_neg (show ¬ nI j < nI 300 from fun z => by have := (nI_ltI hj (by decide)).mp z; omega), if_pos (show nI 0 < nI 300 by decide)]
    · rw [if_neg h1, nI_clamp hj]
      by_cases h2 : nI j < nI 300
      · rw [if_pos h2]
        by_cases h3 : nI 0 < nI j
        · rw [if_pos h3]
        · rw [if_neg h3]
          have : ¬ 0 < j := fun z => h3 ((nI_ltI (by decide) hj).mpr z)
          rw [show j = 0 by omega]
      · have h3 : ¬ j < 300 := fun z => h2 ((nI_ltI hj (by decide)).mpr z)
        have h4 : ¬ 300 < j := fun z => h1 ((nI_ltI (by decide) hj).mpr z)
        rw [if_neg h2, if_pos (show nI 0 < nI 300 by decide), show j = 300 by omega]
theorem kk_int {D : va_G} {cl : List vw_C} {tys : List (ClassId × FieldType)} {U : State} {c1 c2 : ClassId} (hK : va_K D cl tys U) (i j : Nat) (hi : tys[i]? = some (c1, .int)) (hj : tys[j]? = some (c2, .int)) : c1 = c2 :=
  Option.some.inj ((show U.vm.findClass ("[" ++ (FieldType.int).toString) = some c1 from (hK.2 i _ hi).2).symm.trans (hK.2 j _ hj).2)
theorem kk_byte {D : va_G} {cl : List vw_C} {tys : List (ClassId × FieldType)} {U : State} {c1 c2 : ClassId} (hK : va_K D cl tys U) (i j : Nat) (hi : tys[i]? = some (c1, .byte)) (hj : tys[j]? = some (c2, .byte)) : c1 = c2 :=
  Option.some.inj ((show U.vm.findClass ("[" ++ (FieldType.byte).toString) = some c1 from (hK.2 i _ hi).2).symm.trans (hK.2 j _ hj).2)
abbrev Z0 : Nat → Int32 := fun _ => 0
abbrev w0D (o : Nat) : va_W := [(o, .inr (0, [.int (nI 0), .int (nI 0), .null, .int (nI 0), .int (nI 0), .null, .null, .null, .long (lN 0), .int (nI 0), .int (nI 0), .null, .null, .int (nI 0)]))]
abbrev w0M (o : Nat) : va_W := [(o, .inr (1, [.int (nI 0), .int (nI 0), .null, .int (nI 0), .int (nI 0), .int (nI 0), .long (lN 0), .null, .int (nI 0), .null, .null, .long (lN 0), .null, .null, .null, .null, .null, .int (nI 0)]))]
end
section
set_option maxHeartbeats 4000000 in
set_option maxRecDepth 100000 in
theorem c_D_new (l : Launch) (dC : Nat → ClassId) (dI : Nat → Nat → Nat) (h0 sz : Nat) (x : Int32) : Met l y_D_new (k_D_new :: tT) ({ frames := 1, cells := 6, slots := 533, locals := 24 }) (va_Pc [.ref h0, .int x] (fun U => U.heap.size = sz ∧ va_P (dC, dI) classes (w0D h0) U.heap ∧ va_K (dC, dI) classes [] U ∧ va_D (fun _ => True) (w0D h0))) (va_Qv (fun u : ClassId × ClassId × (Nat → Nat) => u.2.2 0 = h0) (fun u t => qD (dC, dI) u.1 u.2.1 (va_A (w0D h0) sz) (wD u.1 u.2.1 u.2.2 (limN x) (nI (limN x)) (nI 0) (nI 0) (nI 0) (lN 0) (nI 0) (nI 0) (nI 0) Z0 Z0 Z0 Z0 Z0 Z0) t) (va_A (w0D h0) sz)) 6 533 (va_A (w0D h0) sz) := by
  refine Met.ofW (cc := b_D_new) (maxL := 2) (ret := none) (by decide) rfl ?_
  intro p e s m args below meth c s₁ B hml hv
  obtain ⟨rfl, hsz, hP, hK, hD0⟩ := hv
  have hx := B.exec
  have hb := B.bytes
  have hr := B.returns
  have hts : ∀ w ∈ tT, w.before _ s = true := fun w h => atoms_spec (ws := k_D_new :: tT) B.pre w (List.mem_cons_of_mem _ h)
  have hown : s.vm.findClass R_D = some m.cls := findClass_of_methodNamed B.named
  have hlocks := B.notSynchronized
  have hin : meth.name = "<init>" := (name_of_methodNamed B.named B.method).1
  subst hsz
  have hD := hD0.self (sz := s.heap.size)
  generalize hAe : va_A (w0D h0) s.heap.size = A at hD ⊢
  have hA : ∀ q : Nat, s.heap.size ≤ q → A q := fun q h => by rw [← hAe]; exact Or.inr h
  have hS : va_S A s.heap s.heap [] := va_S.rf
  have hLl := limN_le x
  have hl := lv_entry ([.ref h0, .int x]) (n := 2) (Nat.le_of_ble_eq_true rfl)
  rw [lg_entry_eq]
  generalize (lg_sl ([.ref h0, .int x]) ++ List.replicate (2 - (lg_sl ([.ref h0, .int x])).length) Slot.unset).toArray = ls at hl ⊢
  have hl : lv_has ls 2 [(0, .ref h0), (1, .int x)] := hl
  refine lv_aload_n (pc := 0) hx hb d_D_new_0 rfl (lv_at hl 0 rfl) ?_
  refine W.objInit hx hb hown (hts _ ml_D_1) (hts _ im_O_new) (hts _ cd_O_new) rfl (by rw [hml]; exact hl.1) rfl d_D_new_1 (by decide) (Nat.le_of_ble_eq_true rfl) ?_
  refine W.eq (g2 := F0 m 4 ls []) rfl ?_
  refine lv_aload_n (pc := 4) hx hb d_D_new_4 rfl (lv_at hl 0 rfl) ?_
  refine lv_iconst (pc := 5) (v := (nI 5)) hx hb d_D_new_5 (by decide) ?_
  refine va_newa (pc := 6) (atype := .int) (ty := .int) (N' := 5) (a0 := (5, .inl Z0)) hx hb (hts _ ac_int) rfl hK hP hD hS hA (fun cA => rfl) (nI_pos (by decide)) (nI_clamp (by decide)) (by decide) (by decide) (by decide) d_D_new_6 (fun qs cI H hK hP hD hS => ?_)
  have hP : va_P (dC, dI) classes [(h0, .inr (0, [.int (nI 0), .int (nI 0), .null, .int (nI 0), .int (nI 0), .null, .null, .null, .long (lN 0), .int (nI 0), .int (nI 0), .null, .null, .int (nI 0)])), (qs, .inl (cI, 5, .inl Z0))] H := hP
  have hD : va_D A [(h0, .inr (0, [.int (nI 0), .int (nI 0), .null, .int (nI 0), .int (nI 0), .null, .null, .null, .long (lN 0), .int (nI 0), .int (nI 0), .null, .null, .int (nI 0)])), (qs, .inl (cI, 5, .inl Z0))] := hD
  refine va_putF (pc := 8) (D := (dC, dI)) (ci := 0) (v := .ref qs) (ty := .array .int) (C := R_D) (T := F_D) (N := 14) hx hb hts i_D t_D t_D_ok n_D hown hK hP hD hS 0 rfl rfl 5 (by decide) (hts _ fl_D_7) (fun _ h9 => h9) rfl hin rfl (by decide +kernel) rfl rfl (Nat.le_of_ble_eq_true rfl) d_D_new_8 (fun H locs hP hD hS => ?_)
  have hP : va_P (dC, dI) classes [(h0, .inr (0, [.int (nI 0), .int (nI 0), .null, .int (nI 0), .int (nI 0), .ref qs, .null, .null, .long (lN 0), .int (nI 0), .int (nI 0), .null, .null, .int (nI 0)])), (qs, .inl (cI, 5, .inl Z0))] H := hP
  have hD : va_D A [(h0, .inr (0, [.int (nI 0), .int (nI 0), .null, .int (nI 0), .int (nI 0), .ref qs, .null, .null, .long (lN 0), .int (nI 0), .int (nI 0), .null, .null, .int (nI 0)])), (qs, .inl (cI, 5, .inl Z0))] := hD
  refine lv_aload_n (pc := 11) hx hb d_D_new_11 rfl (lv_at hl 0 rfl) ?_
  refine lv_bipush (pc := 12) (v := (nI 64)) hx hb d_D_new_12 (by decide) ?_
  refine va_newa (pc := 14) (atype := .byte) (ty := .byte) (N' := 64) (a0 := (64, .inl Z0)) hx hb (hts _ ac_byte) rfl hK hP hD hS hA (fun cA => rfl) (nI_pos (by decide)) (nI_clamp (by decide)) (by decide) (by decide) (by decide) d_D_new_14 (fun qb cB H hK hP hD hS => ?_)
  have hP : va_P (dC, dI) classes [(h0, .inr (0, [.int (nI 0), .int (nI 0), .null, .int (nI 0), .int (nI 0), .ref qs, .null, .null, .long (lN 0), .int (nI 0), .int (nI 0), .null, .null, .int (nI 0)])), (qs, .inl (cI, 5, .inl Z0)), (qb, .inl (cB, 64, .inl Z0))] H := hP
  have hD : va_D A [(h0, .inr (0, [.int (nI 0), .int (nI 0), .null, .int (nI 0), .int (nI 0), .ref qs, .null, .null, .long (lN 0), .int (nI 0), .int (nI 0), .null, .null, .int (nI 0)])), (qs, .inl (cI, 5, .inl Z0)), (qb, .inl (cB, 64, .inl Z0))] := hD
  refine va_putF (pc := 16) (D := (dC, dI)) (ci := 0) (v := .ref qb) (ty := .array .byte) (C := R_D) (T := F_D) (N := 14) hx hb hts i_D t_D t_D_ok n_D hown hK hP hD hS 0 rfl rfl 6 (by decide) (hts _ fl_D_13) (fun _ h9 => h9) rfl hin rfl (by decide +kernel) rfl rfl (Nat.le_of_ble_eq_true rfl) d_D_new_16 (fun H locs hP hD hS => ?_)
  have hP : va_P (dC, dI) classes [(h0, .inr (0, [.int (nI 0), .int (nI 0), .null, .int (nI 0), .int (nI 0), .ref qs, .ref qb, .null, .long (lN 0), .int (nI 0), .int (nI 0), .null, .null, .int (nI 0)])), (qs, .inl (cI, 5, .inl Z0)), (qb, .inl (cB, 64, .inl Z0))] H := hP
  have hD : va_D A [(h0, .inr (0, [.int (nI 0), .int (nI 0), .null, .int (nI 0), .int (nI 0), .ref qs, .ref qb, .null, .long (lN 0), .int (nI 0), .int (nI 0), .null, .null, .int (nI 0)])), (qs, .inl (cI, 5, .inl Z0)), (qb, .inl (cB, 64, .inl Z0))] := hD
  refine lv_aload_n (pc := 19) hx hb d_D_new_19 rfl (lv_at hl 0 rfl) ?_
  refine lv_bipush (pc := 20) (v := (nI 80)) hx hb d_D_new_20 (by decide) ?_
  refine va_newa (pc := 22) (atype := .int) (ty := .int) (N' := 80) (a0 := (80, .inl Z0)) hx hb (hts _ ac_int) rfl hK hP hD hS hA (fun cA => rfl) (nI_pos (by decide)) (nI_clamp (by decide)) (by decide) (by decide) (by decide) d_D_new_22 (fun qw cA1 H hK hP hD hS => ?_)
  obtain rfl : cI = cA1 := kk_int hK 0 2 rfl rfl
  have hK := hK.sub (tys' := [(cI, .int), (cB, .byte)]) [0, 1] rfl
  have hP : va_P (dC, dI) classes [(h0, .inr (0, [.int (nI 0), .int (nI 0), .null, .int (nI 0), .int (nI 0), .ref qs, .ref qb, .null, .long (lN 0), .int (nI 0), .int (nI 0), .null, .null, .int (nI 0)])), (qs, .inl (cI, 5, .inl Z0)), (qb, .inl (cB, 64, .inl Z0)), (qw, .inl (cI, 80, .inl Z0))] H := hP
  have hD : va_D A [(h0, .inr (0, [.int (nI 0), .int (nI 0), .null, .int (nI 0), .int (nI 0), .ref qs, .ref qb, .null, .long (lN 0), .int (nI 0), .int (nI 0), .null, .null, .int (nI 0)])), (qs, .inl (cI, 5, .inl Z0)), (qb, .inl (cB, 64, .inl Z0)), (qw, .inl (cI, 80, .inl Z0))] := hD
  refine va_putF (pc := 24) (D := (dC, dI)) (ci := 0) (v := .ref qw) (ty := .array .int) (C := R_D) (T := F_D) (N := 14) hx hb hts i_D t_D t_D_ok n_D hown hK hP hD hS 0 rfl rfl 7 (by decide) (hts _ fl_D_17) (fun _ h9 => h9) rfl hin rfl (by decide +kernel) rfl rfl (Nat.le_of_ble_eq_true rfl) d_D_new_24 (fun H locs hP hD hS => ?_)
  have hP : va_P (dC, dI) classes [(h0, .inr (0, [.int (nI 0), .int (nI 0), .null, .int (nI 0), .int (nI 0), .ref qs, .ref qb, .ref qw, .long (lN 0), .int (nI 0), .int (nI 0), .null, .null, .int (nI 0)])), (qs, .inl (cI, 5, .inl Z0)), (qb, .inl (cB, 64, .inl Z0)), (qw, .inl (cI, 80, .inl Z0))] H := hP
  have hD : va_D A [(h0, .inr (0, [.int (nI 0), .int (nI 0), .null, .int (nI 0), .int (nI 0), .ref qs, .ref qb, .ref qw, .long (lN 0), .int (nI 0), .int (nI 0), .null, .null, .int (nI 0)])), (qs, .inl (cI, 5, .inl Z0)), (qb, .inl (cB, 64, .inl Z0)), (qw, .inl (cI, 80, .inl Z0))] := hD
  refine lv_aload_n (pc := 27) hx hb d_D_new_27 rfl (lv_at hl 0 rfl) ?_
  refine lv_bipush (pc := 28) (v := (nI 64)) hx hb d_D_new_28 (by decide) ?_
  refine va_newa (pc := 30) (atype := .byte) (ty := .byte) (N' := 64) (a0 := (64, .inl Z0)) hx hb (hts _ ac_byte) rfl hK hP hD hS hA (fun cA => rfl) (nI_pos (by decide)) (nI_clamp (by decide)) (by decide) (by decide) (by decide) d_D_new_30 (fun qf cA2 H hK hP hD hS => ?_)
  obtain rfl : cB = cA2 := kk_byte hK 1 2 rfl rfl
  have hK := hK.sub (tys' := [(cI, .int), (cB, .byte)]) [0, 1] rfl
  have hP : va_P (dC, dI) classes [(h0, .inr (0, [.int (nI 0), .int (nI 0), .null, .int (nI 0), .int (nI 0), .ref qs, .ref qb, .ref qw, .long (lN 0), .int (nI 0), .int (nI 0), .null, .null, .int (nI 0)])), (qs, .inl (cI, 5, .inl Z0)), (qb, .inl (cB, 64, .inl Z0)), (qw, .inl (cI, 80, .inl Z0)), (qf, .inl (cB, 64, .inl Z0))] H := hP
  have hD : va_D A [(h0, .inr (0, [.int (nI 0), .int (nI 0), .null, .int (nI 0), .int (nI 0), .ref qs, .ref qb, .ref qw, .long (lN 0), .int (nI 0), .int (nI 0), .null, .null, .int (nI 0)])), (qs, .inl (cI, 5, .inl Z0)), (qb, .inl (cB, 64, .inl Z0)), (qw, .inl (cI, 80, .inl Z0)), (qf, .inl (cB, 64, .inl Z0))] := hD
  refine va_putF (pc := 32) (D := (dC, dI)) (ci := 0) (v := .ref qf) (ty := .array .byte) (C := R_D) (T := F_D) (N := 14) hx hb hts i_D t_D t_D_ok n_D hown hK hP hD hS 0 rfl rfl 11 (by decide) (hts _ fl_D_20) (fun _ h9 => h9) rfl hin rfl (by decide +kernel) rfl rfl (Nat.le_of_ble_eq_true rfl) d_D_new_32 (fun H locs hP hD hS => ?_)
  have hP : va_P (dC, dI) classes [(h0, .inr (0, [.int (nI 0), .int (nI 0), .null, .int (nI 0), .int (nI 0), .ref qs, .ref qb, .ref qw, .long (lN 0), .int (nI 0), .int (nI 0), .ref qf, .null, .int (nI 0)])), (qs, .inl (cI, 5, .inl Z0)), (qb, .inl (cB, 64, .inl Z0)), (qw, .inl (cI, 80, .inl Z0)), (qf, .inl (cB, 64, .inl Z0))] H := hP
  have hD : va_D A [(h0, .inr (0, [.int (nI 0), .int (nI 0), .null, .int (nI 0), .int (nI 0), .ref qs, .ref qb, .ref qw, .long (lN 0), .int (nI 0), .int (nI 0), .ref qf, .null, .int (nI 0)])), (qs, .inl (cI, 5, .inl Z0)), (qb, .inl (cB, 64, .inl Z0)), (qw, .inl (cI, 80, .inl Z0)), (qf, .inl (cB, 64, .inl Z0))] := hD
  refine lv_aload_n (pc := 35) hx hb d_D_new_35 rfl (lv_at hl 0 rfl) ?_
  refine lv_bipush (pc := 36) (v := (nI 20)) hx hb d_D_new_36 (by decide) ?_
  refine va_newa (pc := 38) (atype := .byte) (ty := .byte) (N' := 20) (a0 := (20, .inl Z0)) hx hb (hts _ ac_byte) rfl hK hP hD hS hA (fun cA => rfl) (nI_pos (by decide)) (nI_clamp (by decide)) (by decide) (by decide) (by decide) d_D_new_38 (fun qr cA3 H hK hP hD hS => ?_)
  obtain rfl : cB = cA3 := kk_byte hK 1 2 rfl rfl
  have hK := hK.sub (tys' := [(cI, .int), (cB, .byte)]) [0, 1] rfl
  have hP : va_P (dC, dI) classes [(h0, .inr (0, [.int (nI 0), .int (nI 0), .null, .int (nI 0), .int (nI 0), .ref qs, .ref qb, .ref qw, .long (lN 0), .int (nI 0), .int (nI 0), .ref qf, .null, .int (nI 0)])), (qs, .inl (cI, 5, .inl Z0)), (qb, .inl (cB, 64, .inl Z0)), (qw, .inl (cI, 80, .inl Z0)), (qf, .inl (cB, 64, .inl Z0)), (qr, .inl (cB, 20, .inl Z0))] H := hP
  have hD : va_D A [(h0, .inr (0, [.int (nI 0), .int (nI 0), .null, .int (nI 0), .int (nI 0), .ref qs, .ref qb, .ref qw, .long (lN 0), .int (nI 0), .int (nI 0), .ref qf, .null, .int (nI 0)])), (qs, .inl (cI, 5, .inl Z0)), (qb, .inl (cB, 64, .inl Z0)), (qw, .inl (cI, 80, .inl Z0)), (qf, .inl (cB, 64, .inl Z0)), (qr, .inl (cB, 20, .inl Z0))] := hD
  refine va_putF (pc := 40) (D := (dC, dI)) (ci := 0) (v := .ref qr) (ty := .array .byte) (C := R_D) (T := F_D) (N := 14) hx hb hts i_D t_D t_D_ok n_D hown hK hP hD hS 0 rfl rfl 12 (by decide) (hts _ fl_D_23) (fun _ h9 => h9) rfl hin rfl (by decide +kernel) rfl rfl (Nat.le_of_ble_eq_true rfl) d_D_new_40 (fun H locs hP hD hS => ?_)
  have hP : va_P (dC, dI) classes [(h0, .inr (0, [.int (nI 0), .int (nI 0), .null, .int (nI 0), .int (nI 0), .ref qs, .ref qb, .ref qw, .long (lN 0), .int (nI 0), .int (nI 0), .ref qf, .ref qr, .int (nI 0)])), (qs, .inl (cI, 5, .inl Z0)), (qb, .inl (cB, 64, .inl Z0)), (qw, .inl (cI, 80, .inl Z0)), (qf, .inl (cB, 64, .inl Z0)), (qr, .inl (cB, 20, .inl Z0))] H := hP
  have hD : va_D A [(h0, .inr (0, [.int (nI 0), .int (nI 0), .null, .int (nI 0), .int (nI 0), .ref qs, .ref qb, .ref qw, .long (lN 0), .int (nI 0), .int (nI 0), .ref qf, .ref qr, .int (nI 0)])), (qs, .inl (cI, 5, .inl Z0)), (qb, .inl (cB, 64, .inl Z0)), (qw, .inl (cI, 80, .inl Z0)), (qf, .inl (cB, 64, .inl Z0)), (qr, .inl (cB, 20, .inl Z0))] := hD
  refine lv_aload_n (pc := 43) hx hb d_D_new_43 rfl (lv_at hl 0 rfl) ?_
  refine lv_iconst (pc := 44) (v := (nI 0)) hx hb d_D_new_44 (by decide) ?_
  refine lv_sipush (pc := 45) (v := (nI 300)) hx hb d_D_new_45 (by decide) ?_
  refine lv_iload_n (pc := 48) hx hb d_D_new_48 rfl (lv_at hl 1 rfl) ?_
  refine va_mmin (pc := 49) hx hb (by rw [hml]; exact hl.1.symm) hown (hts _ ml_D_26) (hts _ sm_H_min) (hts _ in_H) (hts _ cd_H_min) (by decide) (Nat.le_of_ble_eq_true rfl) (by decide) (by decide) d_D_new_49 ?_
  refine va_mmax (pc := 52) hx hb (by rw [hml]; exact hl.1.symm) hown (hts _ ml_D_32) (hts _ sm_H_max) (hts _ in_H) (hts _ cd_H_max) (by decide) (Nat.le_of_ble_eq_true rfl) (by decide) (by decide) d_D_new_52 ?_
  refine xs_i (y := (nI (limN x))) (lim_D x) ?_
  refine va_putF (pc := 55) (D := (dC, dI)) (ci := 0) (v := .int (nI (limN x))) (ty := .int) (C := R_D) (T := F_D) (N := 14) hx hb hts i_D t_D t_D_ok n_D hown hK hP hD hS 0 rfl rfl 0 (by decide) (hts _ fl_D_35) (fun _ h9 => h9) rfl hin rfl (by decide +kernel) rfl rfl (Nat.le_of_ble_eq_true rfl) d_D_new_55 (fun H locs hP hD hS => ?_)
  have hP : va_P (dC, dI) classes [(h0, .inr (0, [.int (nI (limN x)), .int (nI 0), .null, .int (nI 0), .int (nI 0), .ref qs, .ref qb, .ref qw, .long (lN 0), .int (nI 0), .int (nI 0), .ref qf, .ref qr, .int (nI 0)])), (qs, .inl (cI, 5, .inl Z0)), (qb, .inl (cB, 64, .inl Z0)), (qw, .inl (cI, 80, .inl Z0)), (qf, .inl (cB, 64, .inl Z0)), (qr, .inl (cB, 20, .inl Z0))] H := hP
  have hD : va_D A [(h0, .inr (0, [.int (nI (limN x)), .int (nI 0), .null, .int (nI 0), .int (nI 0), .ref qs, .ref qb, .ref qw, .long (lN 0), .int (nI 0), .int (nI 0), .ref qf, .ref qr, .int (nI 0)])), (qs, .inl (cI, 5, .inl Z0)), (qb, .inl (cB, 64, .inl Z0)), (qw, .inl (cI, 80, .inl Z0)), (qf, .inl (cB, 64, .inl Z0)), (qr, .inl (cB, 20, .inl Z0))] := hD
  refine lv_aload_n (pc := 58) hx hb d_D_new_58 rfl (lv_at hl 0 rfl) ?_
  refine lv_aload_n (pc := 59) hx hb d_D_new_59 rfl (lv_at hl 0 rfl) ?_
  refine va_get (pc := 60) (D := (dC, dI)) (ci := 0) (v := .int (nI (limN x))) (C := R_D) (T := F_D) (N := 14) hx hb hts i_D hown hK hP 0 rfl rfl 0 (by decide) (hts _ fl_D_35) (fun _ h9 => h9) rfl d_D_new_60 ?_
  refine va_newa (pc := 63) (atype := .byte) (ty := .byte) (N' := (limN x)) (a0 := ((limN x), .inl Z0)) hx hb (hts _ ac_byte) rfl hK hP hD hS hA (fun cA => rfl) (nI_pos (by omega)) (nI_clamp (by omega)) (by show limN x * 1 ≤ 536870912; omega) (by decide) (by show 233 + limN x ≤ 533; omega) d_D_new_63 (fun qk cA4 H hK hP hD hS => ?_)
  obtain rfl : cB = cA4 := kk_byte hK 1 2 rfl rfl
  have hK := hK.sub (tys' := [(cI, .int), (cB, .byte)]) [0, 1] rfl
  have hP : va_P (dC, dI) classes [(h0, .inr (0, [.int (nI (limN x)), .int (nI 0), .null, .int (nI 0), .int (nI 0), .ref qs, .ref qb, .ref qw, .long (lN 0), .int (nI 0), .int (nI 0), .ref qf, .ref qr, .int (nI 0)])), (qs, .inl (cI, 5, .inl Z0)), (qb, .inl (cB, 64, .inl Z0)), (qw, .inl (cI, 80, .inl Z0)), (qf, .inl (cB, 64, .inl Z0)), (qr, .inl (cB, 20, .inl Z0)), (qk, .inl (cB, (limN x), .inl Z0))] H := hP
  have hD : va_D A [(h0, .inr (0, [.int (nI (limN x)), .int (nI 0), .null, .int (nI 0), .int (nI 0), .ref qs, .ref qb, .ref qw, .long (lN 0), .int (nI 0), .int (nI 0), .ref qf, .ref qr, .int (nI 0)])), (qs, .inl (cI, 5, .inl Z0)), (qb, .inl (cB, 64, .inl Z0)), (qw, .inl (cI, 80, .inl Z0)), (qf, .inl (cB, 64, .inl Z0)), (qr, .inl (cB, 20, .inl Z0)), (qk, .inl (cB, (limN x), .inl Z0))] := hD
  refine va_putF (pc := 65) (D := (dC, dI)) (ci := 0) (v := .ref qk) (ty := .array .byte) (C := R_D) (T := F_D) (N := 14) hx hb hts i_D t_D t_D_ok n_D hown hK hP hD hS 0 rfl rfl 2 (by decide) (hts _ fl_D_39) (fun _ h9 => h9) rfl hin rfl (by decide +kernel) rfl rfl (Nat.le_of_ble_eq_true rfl) d_D_new_65 (fun H locs hP hD hS => ?_)
  have hP : va_P (dC, dI) classes [(h0, .inr (0, [.int (nI (limN x)), .int (nI 0), .ref qk, .int (nI 0), .int (nI 0), .ref qs, .ref qb, .ref qw, .long (lN 0), .int (nI 0), .int (nI 0), .ref qf, .ref qr, .int (nI 0)])), (qs, .inl (cI, 5, .inl Z0)), (qb, .inl (cB, 64, .inl Z0)), (qw, .inl (cI, 80, .inl Z0)), (qf, .inl (cB, 64, .inl Z0)), (qr, .inl (cB, 20, .inl Z0)), (qk, .inl (cB, (limN x), .inl Z0))] H := hP
  have hD : va_D A [(h0, .inr (0, [.int (nI (limN x)), .int (nI 0), .ref qk, .int (nI 0), .int (nI 0), .ref qs, .ref qb, .ref qw, .long (lN 0), .int (nI 0), .int (nI 0), .ref qf, .ref qr, .int (nI 0)])), (qs, .inl (cI, 5, .inl Z0)), (qb, .inl (cB, 64, .inl Z0)), (qw, .inl (cI, 80, .inl Z0)), (qf, .inl (cB, 64, .inl Z0)), (qr, .inl (cB, 20, .inl Z0)), (qk, .inl (cB, (limN x), .inl Z0))] := hD
  refine W.widen (k := 6) (n := 533) (by decide) (by show 233 + limN x ≤ 533; omega) ?_
  have hP9 : va_P (dC, dI) classes (wD cI cB (fun k => [h0, qk, qs, qb, qw, qf, qr].getD k 0) (limN x) (nI (limN x)) (nI 0) (nI 0) (nI 0) (lN 0) (nI 0) (nI 0) (nI 0) Z0 Z0 Z0 Z0 Z0 Z0) H := hP.sub [0, 6, 1, 2, 3, 4, 5] rfl
  have hD9 : va_D A (wD cI cB (fun k => [h0, qk, qs, qb, qw, qf, qr].getD k 0) (limN x) (nI (limN x)) (nI 0) (nI 0) (nI 0) (lN 0) (nI 0) (nI 0) (nI 0) Z0 Z0 Z0 Z0 Z0 Z0) := hD.sub [0, 6, 1, 2, 3, 4, 5] (by decide) rfl
  exact W.vret hx hb hr (fun t ht hW => ⟨⟨(cI, cB, fun k => [h0, qk, qs, qb, qw, qf, qr].getD k 0), rfl, rfl, by rw [ht]; exact hP9, va_K.moved hW.alike hK, hD9⟩, hS.F ht⟩) hS.2.2 d_D_new_68
end
section
theorem left_sh : ∀ n, n < 32 → (nI (32 - n)).toUInt32 &&& Int32.toUInt32 31 = (-(nI n)).toUInt32 &&& Int32.toUInt32 31 := by decide +kernel
theorem turns_lt : ∀ j, j < 16 → turnsL.getD j 0 < 32 := by decide +kernel
theorem turn_row0 {k : Nat} (h : k / 16 = 0) : nI (7 + 5 * (k % 4)) = nI (turnsL.getD (m5t k) 0) := by
  unfold m5t
  rw [h]
  have h4 : k % 4 = 0 ∨ k % 4 = 1 ∨ k % 4 = 2 ∨ k % 4 = 3 := by omega
  rcases h4 with e | e | e | e <;> rw [e] <;> rfl
theorem turn_at {k r p : Nat} (h : k / 16 = r) (h2 : k % 4 = p) {x : Nat} (hx : turnsL.getD (4 * r + p) 0 = x) : nI x = nI (turnsL.getD (m5t k) 0) := by
  unfold m5t; rw [h, h2, hx]
theorem wof_0 {b : Nat → Int32} {k : Nat} : ((b (4 * k) ||| (b (4 * k + 1) <<< (nI 8 &&& 31))) ||| (b (4 * k + 2) <<< (nI 16 &&& 31))) ||| (b (4 * k + 3) <<< (nI 24 &&& 31)) = wof 0 b k := by rw [wof, if_pos rfl]
theorem n1_ne0 : ¬ nI 1 = 0 := by decide
theorem wof_1 {b : Nat → Int32} {k : Nat} : (((b (4 * k) <<< (nI 24 &&& 31)) ||| (b (4 * k + 1) <<< (nI 16 &&& 31))) ||| (b (4 * k + 2) <<< (nI 8 &&& 31))) ||| b (4 * k + 3) = wof (nI 1) b k := by rw [wof, if_neg n1_ne0]
theorem wof_ne {alg : Int32} (h : ¬ alg = 0) (b : Nat → Int32) : wof alg b = wof (nI 1) b := by funext k; rw [wof, wof, if_neg h, if_neg n1_ne0]
theorem s1_keep {W : Nat → Int32} {k j : Nat} (h : j < k) : s1xs W (k + 1 - 16) j = s1xs W (k - 16) j := by
  by_cases c : k < 16
  · rw [show k + 1 - 16 = 0 by omega, show k - 16 = 0 by omega]
  · rw [show k + 1 - 16 = (k - 16) + 1 by omega]
    show s1e (s1xs W (k - 16)) (16 + (k - 16)) j = _
    unfold s1e
    rw [upd_n _ _ (by omega)]
theorem s1_lo {W : Nat → Int32} {k : Nat} (h : k < 16) : s1xs W (k + 1 - 16) k = W k := by rw [show k + 1 - 16 = 0 by omega]; rfl
theorem s1_hi {W f : Nat → Int32} {k : Nat} (h : 16 ≤ k) (hf : ∀ j, j < k → f j = s1xs W (k - 16) j) : rotl (((f (k - 3) ^^^ f (k - 8)) ^^^ f (k - 14)) ^^^ f (k - 16)) (nI 1) = s1xs W (k + 1 - 16) k := by
  rw [hf (k - 3) (by omega), hf (k - 8) (by omega), hf (k - 14) (by omega), hf (k - 16) (by omega), show k + 1 - 16 = (k - 16) + 1 by omega]
  show _ = s1e (s1xs W (k - 16)) (16 + (k - 16)) k
  unfold s1e
  rw [show 16 + (k - 16) = k by omega, upd_s]
theorem s1_upd {W f : Nat → Int32} {k : Nat} {x : Int32} (hf : ∀ j, j < k → f j = s1xs W (k - 16) j) (hx : x = s1xs W (k + 1 - 16) k) : ∀ j, j < k + 1 → upd f k x j = s1xs W (k + 1 - 16) j := by
  intro j hj
  by_cases e : j = k
  · rw [e, upd_s, hx]
  · rw [upd_n _ _ e, hf j (by omega), s1_keep (by omega)]
theorem dsh_m0 {alg : Int32} {k : Nat} (h : alg = 0) : nI (k % 4 * 8) = nI (dsh alg k) := by rw [dsh, if_pos h, Nat.mul_comm]
theorem dsh_m1 {alg : Int32} {k : Nat} (h : ¬ alg = 0) : nI (24 - k % 4 * 8) = nI (dsh alg k) := by rw [dsh, if_neg h, Nat.mul_comm (k % 4)]
end
section
set_option maxHeartbeats 4000000 in
set_option maxRecDepth 100000 in
theorem c_M_left (l : Launch) (v : Int32) (n : Nat) (hn : n < 32) : Met l y_M_left (k_M_left :: tT) ({ frames := 0, cells := 0, slots := 0, locals := 0 }) (va_Pc [.int v, .int (nI n)] (fun _ => True)) (vp_Si (fun rr : Int32 => rr = rotl v (nI n))) 0 0 (fun _ => False) := by
  refine Met.ofW (cc := b_M_left) (maxL := 2) (ret := (some .int)) (by decide) rfl ?_
  intro p e s m args below meth c s₁ B hml hv
  obtain ⟨rfl, -⟩ := hv
  have hx := B.exec
  have hb := B.bytes
  have hr := B.returns
  have hts : ∀ w ∈ tT, w.before _ s = true := fun w h => atoms_spec (ws := k_M_left :: tT) B.pre w (List.mem_cons_of_mem _ h)
  have hown : s.vm.findClass "DigestDeskModel" = some m.cls := findClass_of_methodNamed B.named
  have hlocks := B.notSynchronized
  have hl := lv_entry ([.int v, .int (nI n)]) (n := 2) (Nat.le_of_ble_eq_true rfl)
  rw [lg_entry_eq]
  generalize (lg_sl ([.int v, .int (nI n)]) ++ List.replicate (2 - (lg_sl ([.int v, .int (nI n)])).length) Slot.unset).toArray = ls at hl ⊢
  have hl : lv_has ls 2 [(0, .int v), (1, .int (nI n))] := hl
  refine lv_iload_n (pc := 0) hx hb d_M_left_0 rfl (lv_at hl 0 rfl) ?_
  refine lv_iload_n (pc := 1) hx hb d_M_left_1 rfl (lv_at hl 1 rfl) ?_
  refine lv_ishl (pc := 2) hx hb d_M_left_2 ?_
  refine lv_iload_n (pc := 3) hx hb d_M_left_3 rfl (lv_at hl 0 rfl) ?_
  refine lv_bipush (pc := 4) (v := (nI 32)) hx hb d_M_left_4 (by decide) ?_
  refine lv_iload_n (pc := 6) hx hb d_M_left_6 rfl (lv_at hl 1 rfl) ?_
  refine xi_sub (pc := 7) hx hb d_M_left_7 (by omega) ?_
  refine lv_iushr (pc := 8) (v := (v.toUInt32 >>> ((nI (32 - n)).toUInt32 &&& Int32.toUInt32 31)).toInt32) hx hb d_M_left_8 rfl ?_
  refine lv_ior (pc := 9) hx hb d_M_left_9 ?_
  exact W.iret (v := ((v <<< ((nI n) &&& 31)) ||| ((v.toUInt32 >>> ((nI (32 - n)).toUInt32 &&& Int32.toUInt32 31)).toInt32))) hx hb hr (fun t ht hW => ⟨((v <<< ((nI n) &&& 31)) ||| ((v.toUInt32 >>> ((nI (32 - n)).toUInt32 &&& Int32.toUInt32 31)).toInt32)), rfl, by rw [left_sh n hn]; rfl, ht⟩) (fun q h => by cases h) d_M_left_10
set_option maxHeartbeats 4000000 in
set_option maxRecDepth 100000 in
theorem c_M_turned (l : Launch) (k : Nat) (hk : k < 64) : Met l y_M_turned (k_M_turned :: tT) ({ frames := 0, cells := 0, slots := 0, locals := 0 }) (va_Pc [.int (nI k)] (fun _ => True)) (vp_Si (fun rr : Int32 => rr = nI (turnsL.getD (m5t k) 0))) 0 0 (fun _ => False) := by
  refine Met.ofW (cc := b_M_turned) (maxL := 3) (ret := (some .int)) (by decide) rfl ?_
  intro p e s m args below meth c s₁ B hml hv
  obtain ⟨rfl, -⟩ := hv
  have hx := B.exec
  have hb := B.bytes
  have hr := B.returns
  have hts : ∀ w ∈ tT, w.before _ s = true := fun w h => atoms_spec (ws := k_M_turned :: tT) B.pre w (List.mem_cons_of_mem _ h)
  have hown : s.vm.findClass "DigestDeskModel" = some m.cls := findClass_of_methodNamed B.named
  have hlocks := B.notSynchronized
  have hl := lv_entry ([.int (nI k)]) (n := 3) (Nat.le_of_ble_eq_true rfl)
  rw [lg_entry_eq]
  generalize (lg_sl ([.int (nI k)]) ++ List.replicate (3 - (lg_sl ([.int (nI k)])).length) Slot.unset).toArray = ls at hl ⊢
  have hl : lv_has ls 3 [(0, .int (nI k))] := hl
  refine lv_iload_n (pc := 0) hx hb d_M_turned_0 rfl (lv_at hl 0 rfl) ?_
  refine lv_bipush (pc := 1) (v := (nI 16)) hx hb d_M_turned_1 (by decide) ?_
  refine xi_div (pc := 3) hx hb d_M_turned_3 (by omega) (by decide) (by decide) ?_
  refine lv_istore_n (pc := 4) (lv' := [(1, .int (nI (k / 16))), (0, .int (nI k))]) hx hb d_M_turned_4 rfl hl (by decide) rfl (fun ls hl => ?_)
  refine lv_iload_n (pc := 5) hx hb d_M_turned_5 rfl (lv_at hl 1 rfl) ?_
  refine lv_iconst (pc := 6) (v := (nI 4)) hx hb d_M_turned_6 (by decide) ?_
  refine xi_rem (pc := 7) hx hb d_M_turned_7 (by omega) (by decide) (by decide) ?_
  refine lv_istore_n (pc := 8) (lv' := [(2, .int (nI (k % 4))), (1, .int (nI (k / 16))), (0, .int (nI k))]) hx hb d_M_turned_8 rfl hl (by decide) rfl (fun ls hl => ?_)
  refine lv_iload_n (pc := 9) hx hb d_M_turned_9 rfl (lv_at hl 1 rfl) ?_
  refine xi_ne0 (pc := 10) (tgt := 22) hx hb d_M_turned_10 (by decide) (by omega) (fun r0 => ?_) (fun r0 => ?_)
  · refine lv_iload_n (pc := 22) hx hb d_M_turned_22 rfl (lv_at hl 1 rfl) ?_
    refine lv_iconst (pc := 23) (v := (nI 1)) hx hb d_M_turned_23 (by decide) ?_
    refine xi_ne (pc := 24) (tgt := 60) hx hb d_M_turned_24 (by decide) (by omega) (by omega) (fun r1 => ?_) (fun r1 => ?_)
    · refine lv_iload_n (pc := 60) hx hb d_M_turned_60 rfl (lv_at hl 1 rfl) ?_
      refine lv_iconst (pc := 61) (v := (nI 2)) hx hb d_M_turned_61 (by decide) ?_
      refine xi_ne (pc := 62) (tgt := 98) hx hb d_M_turned_62 (by decide) (by omega) (by omega) (fun r2 => ?_) (fun r2 => ?_)
      · refine lv_iload_n (pc := 98) hx hb d_M_turned_98 rfl (lv_at hl 0 rfl) ?_
        refine xi_ne0 (pc := 99) (tgt := 107) hx hb d_M_turned_99 (by decide) (by omega) (fun p0 => ?_) (fun p0 => ?_)
        · refine lv_iload_n (pc := 107) hx hb d_M_turned_107 rfl (lv_at hl 0 rfl) ?_
          refine lv_iconst (pc := 108) (v := (nI 1)) hx hb d_M_turned_108 (by decide) ?_
          refine xi_ne (pc := 109) (tgt := 117) hx hb d_M_turned_109 (by decide) (by omega) (by omega) (fun p1 => ?_) (fun p1 => ?_)
          · refine lv_iload_n (pc := 117) hx hb d_M_turned_117 rfl (lv_at hl 0 rfl) ?_
            refine lv_iconst (pc := 118) (v := (nI 2)) hx hb d_M_turned_118 (by decide) ?_
            refine xi_ne (pc := 119) (tgt := 127) hx hb d_M_turned_119 (by decide) (by omega) (by omega) (fun p2 => ?_) (fun p2 => ?_)
            · refine lv_bipush (pc := 127) (v := (nI 21)) hx hb d_M_turned_127 (by decide) ?_
              exact W.iret (v := (nI 21)) hx hb hr (fun t ht hW => ⟨(nI 21), rfl, turn_at (r := 3) (p := 3) (by omega) (by omega) rfl, ht⟩) (fun q h => by cases h) d_M_turned_129
            · refine lv_bipush (pc := 122) (v := (nI 15)) hx hb d_M_turned_122 (by decide) ?_
              refine lv_goto (pc := 124) (tgt := 129) hx hb d_M_turned_124 (by decide) ?_
              exact W.iret (v := (nI 15)) hx hb hr (fun t ht hW => ⟨(nI 15), rfl, turn_at (r := 3) (p := 2) (by omega) (by omega) rfl, ht⟩) (fun q h => by cases h) d_M_turned_129
          · refine lv_bipush (pc := 112) (v := (nI 10)) hx hb d_M_turned_112 (by decide) ?_
            refine lv_goto (pc := 114) (tgt := 129) hx hb d_M_turned_114 (by decide) ?_
            exact W.iret (v := (nI 10)) hx hb hr (fun t ht hW => ⟨(nI 10), rfl, turn_at (r := 3) (p := 1) (by omega) (by omega) rfl, ht⟩) (fun q h => by cases h) d_M_turned_129
        · refine lv_bipush (pc := 102) (v := (nI 6)) hx hb d_M_turned_102 (by decide) ?_
          refine lv_goto (pc := 104) (tgt := 129) hx hb d_M_turned_104 (by decide) ?_
          exact W.iret (v := (nI 6)) hx hb hr (fun t ht hW => ⟨(nI 6), rfl, turn_at (r := 3) (p := 0) (by omega) (by omega) rfl, ht⟩) (fun q h => by cases h) d_M_turned_129
      · refine lv_iload_n (pc := 65) hx hb d_M_turned_65 rfl (lv_at hl 0 rfl) ?_
        refine xi_ne0 (pc := 66) (tgt := 73) hx hb d_M_turned_66 (by decide) (by omega) (fun p0 => ?_) (fun p0 => ?_)
        · refine lv_iload_n (pc := 73) hx hb d_M_turned_73 rfl (lv_at hl 0 rfl) ?_
          refine lv_iconst (pc := 74) (v := (nI 1)) hx hb d_M_turned_74 (by decide) ?_
          refine xi_ne (pc := 75) (tgt := 83) hx hb d_M_turned_75 (by decide) (by omega) (by omega) (fun p1 => ?_) (fun p1 => ?_)
          · refine lv_iload_n (pc := 83) hx hb d_M_turned_83 rfl (lv_at hl 0 rfl) ?_
            refine lv_iconst (pc := 84) (v := (nI 2)) hx hb d_M_turned_84 (by decide) ?_
            refine xi_ne (pc := 85) (tgt := 93) hx hb d_M_turned_85 (by decide) (by omega) (by omega) (fun p2 => ?_) (fun p2 => ?_)
            · refine lv_bipush (pc := 93) (v := (nI 23)) hx hb d_M_turned_93 (by decide) ?_
              refine lv_goto (pc := 95) (tgt := 129) hx hb d_M_turned_95 (by decide) ?_
              exact W.iret (v := (nI 23)) hx hb hr (fun t ht hW => ⟨(nI 23), rfl, turn_at (r := 2) (p := 3) (by omega) (by omega) rfl, ht⟩) (fun q h => by cases h) d_M_turned_129
            · refine lv_bipush (pc := 88) (v := (nI 16)) hx hb d_M_turned_88 (by decide) ?_
              refine lv_goto (pc := 90) (tgt := 129) hx hb d_M_turned_90 (by decide) ?_
              exact W.iret (v := (nI 16)) hx hb hr (fun t ht hW => ⟨(nI 16), rfl, turn_at (r := 2) (p := 2) (by omega) (by omega) rfl, ht⟩) (fun q h => by cases h) d_M_turned_129
          · refine lv_bipush (pc := 78) (v := (nI 11)) hx hb d_M_turned_78 (by decide) ?_
            refine lv_goto (pc := 80) (tgt := 129) hx hb d_M_turned_80 (by decide) ?_
            exact W.iret (v := (nI 11)) hx hb hr (fun t ht hW => ⟨(nI 11), rfl, turn_at (r := 2) (p := 1) (by omega) (by omega) rfl, ht⟩) (fun q h => by cases h) d_M_turned_129
        · refine lv_iconst (pc := 69) (v := (nI 4)) hx hb d_M_turned_69 (by decide) ?_
          refine lv_goto (pc := 70) (tgt := 129) hx hb d_M_turned_70 (by decide) ?_
          exact W.iret (v := (nI 4)) hx hb hr (fun t ht hW => ⟨(nI 4), rfl, turn_at (r := 2) (p := 0) (by omega) (by omega) rfl, ht⟩) (fun q h => by cases h) d_M_turned_129
    · refine lv_iload_n (pc := 27) hx hb d_M_turned_27 rfl (lv_at hl 0 rfl) ?_
      refine xi_ne0 (pc := 28) (tgt := 35) hx hb d_M_turned_28 (by decide) (by omega) (fun p0 => ?_) (fun p0 => ?_)
      · refine lv_iload_n (pc := 35) hx hb d_M_turned_35 rfl (lv_at hl 0 rfl) ?_
        refine lv_iconst (pc := 36) (v := (nI 1)) hx hb d_M_turned_36 (by decide) ?_
        refine xi_ne (pc := 37) (tgt := 45) hx hb d_M_turned_37 (by decide) (by omega) (by omega) (fun p1 => ?_) (fun p1 => ?_)
        · refine lv_iload_n (pc := 45) hx hb d_M_turned_45 rfl (lv_at hl 0 rfl) ?_
          refine lv_iconst (pc := 46) (v := (nI 2)) hx hb d_M_turned_46 (by decide) ?_
          refine xi_ne (pc := 47) (tgt := 55) hx hb d_M_turned_47 (by decide) (by omega) (by omega) (fun p2 => ?_) (fun p2 => ?_)
          · refine lv_bipush (pc := 55) (v := (nI 20)) hx hb d_M_turned_55 (by decide) ?_
            refine lv_goto (pc := 57) (tgt := 129) hx hb d_M_turned_57 (by decide) ?_
            exact W.iret (v := (nI 20)) hx hb hr (fun t ht hW => ⟨(nI 20), rfl, turn_at (r := 1) (p := 3) (by omega) (by omega) rfl, ht⟩) (fun q h => by cases h) d_M_turned_129
          · refine lv_bipush (pc := 50) (v := (nI 14)) hx hb d_M_turned_50 (by decide) ?_
            refine lv_goto (pc := 52) (tgt := 129) hx hb d_M_turned_52 (by decide) ?_
            exact W.iret (v := (nI 14)) hx hb hr (fun t ht hW => ⟨(nI 14), rfl, turn_at (r := 1) (p := 2) (by omega) (by omega) rfl, ht⟩) (fun q h => by cases h) d_M_turned_129
        · refine lv_bipush (pc := 40) (v := (nI 9)) hx hb d_M_turned_40 (by decide) ?_
          refine lv_goto (pc := 42) (tgt := 129) hx hb d_M_turned_42 (by decide) ?_
          exact W.iret (v := (nI 9)) hx hb hr (fun t ht hW => ⟨(nI 9), rfl, turn_at (r := 1) (p := 1) (by omega) (by omega) rfl, ht⟩) (fun q h => by cases h) d_M_turned_129
      · refine lv_iconst (pc := 31) (v := (nI 5)) hx hb d_M_turned_31 (by decide) ?_
        refine lv_goto (pc := 32) (tgt := 129) hx hb d_M_turned_32 (by decide) ?_
        exact W.iret (v := (nI 5)) hx hb hr (fun t ht hW => ⟨(nI 5), rfl, turn_at (r := 1) (p := 0) (by omega) (by omega) rfl, ht⟩) (fun q h => by cases h) d_M_turned_129
  · refine lv_bipush (pc := 13) (v := (nI 7)) hx hb d_M_turned_13 (by decide) ?_
    refine lv_iconst (pc := 15) (v := (nI 5)) hx hb d_M_turned_15 (by decide) ?_
    refine lv_iload_n (pc := 16) hx hb d_M_turned_16 rfl (lv_at hl 0 rfl) ?_
    refine xi_mul (pc := 17) hx hb d_M_turned_17 ?_
    refine xi_add (pc := 18) hx hb d_M_turned_18 ?_
    refine lv_goto (pc := 19) (tgt := 129) hx hb d_M_turned_19 (by decide) ?_
    exact W.iret (v := (nI (7 + (5 * (k % 4))))) hx hb hr (fun t ht hW => ⟨(nI (7 + (5 * (k % 4)))), rfl, turn_row0 r0, ht⟩) (fun q h => by cases h) d_M_turned_129
set_option maxHeartbeats 4000000 in
set_option maxRecDepth 100000 in
theorem c_M_five (l : Launch) (dC : Nat → ClassId) (dI : Nat → Nat → Nat) (cI cB : ClassId) (r : Nat → Nat) (sz : Nat) (lim rdy ks opn mac hash rs : Int32) (byt came : Int64) (key pad h blk w sin rt dg res : Nat → Int32) (hsin : ∀ j, j < 64 → sin j = sinesT j) : Met l y_M_five (k_M_five :: tT) ({ frames := 1, cells := 0, slots := 0, locals := 22 }) (va_Pc [.ref (r 0)] (pD (dC, dI) cI cB sz (wM cI cB r lim rdy ks opn mac byt hash came rs key pad h blk w sin rt dg res))) (va_Qv (fun u : (Nat → Int32) × (Nat → Int32) => u.1 = m5mix h (wof 0 blk)) (fun u t => qD (dC, dI) cI cB (va_A (wM cI cB r lim rdy ks opn mac byt hash came rs key pad h blk w sin rt dg res) sz) (wM cI cB r lim rdy ks opn mac byt hash came rs key pad u.1 blk u.2 sin rt dg res) t) (va_A (wM cI cB r lim rdy ks opn mac byt hash came rs key pad h blk w sin rt dg res) sz)) 0 0 (va_A (wM cI cB r lim rdy ks opn mac byt hash came rs key pad h blk w sin rt dg res) sz) := by
  refine Met.ofW (cc := b_M_five) (maxL := 10) (ret := none) (by decide) rfl ?_
  intro p e s m args below meth c s₁ B hml hv
  obtain ⟨rfl, hsz, hP, hK, hD0, hST⟩ := hv
  have hx := B.exec
  have hb := B.bytes
  have hr := B.returns
  have hts : ∀ w ∈ tT, w.before _ s = true := fun w h => atoms_spec (ws := k_M_five :: tT) B.pre w (List.mem_cons_of_mem _ h)
  have hown : s.vm.findClass R_M = some m.cls := findClass_of_methodNamed B.named
  have hlocks := B.notSynchronized
  subst hsz
  have hD := hD0.self (sz := s.heap.size)
  generalize hAe : va_A (wM cI cB r lim rdy ks opn mac byt hash came rs key pad h blk w sin rt dg res) s.heap.size = A at hD hST ⊢
  have hA : ∀ q : Nat, s.heap.size ≤ q → A q := fun q h => by rw [← hAe]; exact Or.inr h
  have hS : va_S A s.heap s.heap [] := va_S.rf
  have hP : va_P (dC, dI) classes (wM cI cB r lim rdy ks opn mac byt hash came rs key pad h blk w sin rt dg res) s.heap := hP
  have hl := lv_entry ([.ref (r 0)]) (n := 10) (Nat.le_of_ble_eq_true rfl)
  rw [lg_entry_eq]
  generalize (lg_sl ([.ref (r 0)]) ++ List.replicate (10 - (lg_sl ([.ref (r 0)])).length) Slot.unset).toArray = ls at hl ⊢
  have hl : lv_has ls 10 [(0, .ref (r 0))] := hl
  refine lv_iconst (pc := 0) (v := (nI 0)) hx hb d_M_five_0 (by decide) ?_
  refine lv_istore_n (pc := 1) (lv' := [(1, .int (nI 0)), (0, .ref (r 0))]) hx hb d_M_five_1 rfl hl (by decide) rfl (fun ls hl => ?_)
  refine lp (α := Nat × (Nat → Int32)) (fun x => 16 - x.1) (fun x H1 locs1 g => ∃ ls, g = F0 m 2 ls [] ∧ lv_has ls 10 [(0, .ref (r 0)), (1, .int (nI x.1))] ∧ va_P (dC, dI) classes (wM cI cB r lim rdy ks opn mac byt hash came rs key pad h blk x.2 sin rt dg res) H1 ∧ va_D A (wM cI cB r lim rdy ks opn mac byt hash came rs key pad h blk x.2 sin rt dg res) ∧ va_S A s.heap H1 locs1 ∧ (x.1 ≤ 16) ∧ (∀ j, j < x.1 → x.2 j = wof 0 blk j)) ?_ (0, w) ⟨ls, rfl, lv_sub hl [1, 0] rfl, hP, hD, hS, (show 0 ≤ 16 from by omega), (show ∀ j, j < 0 → w j = wof 0 blk j from fun j h => absurd h (Nat.not_lt_zero _))⟩
  rintro ⟨k, f⟩ H locs g ih ⟨ls, rfl, hl, hP, hD, hS, hk, hf⟩
  have hl : lv_has ls 10 [(0, .ref (r 0)), (1, .int (nI k))] := hl
  have hP : va_P (dC, dI) classes (wM cI cB r lim rdy ks opn mac byt hash came rs key pad h blk f sin rt dg res) H := hP
  have hD : va_D A (wM cI cB r lim rdy ks opn mac byt hash came rs key pad h blk f sin rt dg res) := hD
  have hk : k ≤ 16 := hk
  have hf : ∀ j, j < k → f j = wof 0 blk j := hf
  refine lv_iload_n (pc := 2) hx hb d_M_five_2 rfl (lv_at hl 1 rfl) ?_
  refine lv_bipush (pc := 3) (v := (nI 16)) hx hb d_M_five_3 (by decide) ?_
  refine xi_ge (pc := 5) (tgt := 70) hx hb d_M_five_5 (by decide) (by omega) (by omega) (fun c0 => ?_) (fun c0 => ?_)
  · have hs1 : k = 16 := by omega
    subst hs1
    refine lv_aload_n (pc := 70) hx hb d_M_five_70 rfl (lv_at hl 0 rfl) ?_
    refine va_get (pc := 71) (D := (dC, dI)) (ci := 1) (v := .ref (r 3)) (C := R_M) (T := F_M) (N := 18) hx hb hts i_M hown hK hP 0 rfl rfl 9 (by decide) (hts _ fl_M_20) (fun _ h9 => h9) rfl d_M_five_71 ?_
    refine lv_iconst (pc := 74) (v := (nI 0)) hx hb d_M_five_74 (by decide) ?_
    refine xa_iald (pc := 75) hx hb hK hP 3 0 rfl rfl (by omega) (by decide) d_M_five_75 ?_
    refine lv_istore_n (pc := 76) (lv' := [(1, .int (h 0)), (0, .ref (r 0))]) hx hb d_M_five_76 rfl hl (by decide) rfl (fun ls hl => ?_)
    refine lv_aload_n (pc := 77) hx hb d_M_five_77 rfl (lv_at hl 1 rfl) ?_
    refine va_get (pc := 78) (D := (dC, dI)) (ci := 1) (v := .ref (r 3)) (C := R_M) (T := F_M) (N := 18) hx hb hts i_M hown hK hP 0 rfl rfl 9 (by decide) (hts _ fl_M_20) (fun _ h9 => h9) rfl d_M_five_78 ?_
    refine lv_iconst (pc := 81) (v := (nI 1)) hx hb d_M_five_81 (by decide) ?_
    refine xa_iald (pc := 82) hx hb hK hP 3 0 rfl rfl (by omega) (by decide) d_M_five_82 ?_
    refine lv_istore_n (pc := 83) (lv' := [(2, .int (h 1)), (1, .int (h 0)), (0, .ref (r 0))]) hx hb d_M_five_83 rfl hl (by decide) rfl (fun ls hl => ?_)
    refine lv_aload_n (pc := 84) hx hb d_M_five_84 rfl (lv_at hl 2 rfl) ?_
    refine va_get (pc := 85) (D := (dC, dI)) (ci := 1) (v := .ref (r 3)) (C := R_M) (T := F_M) (N := 18) hx hb hts i_M hown hK hP 0 rfl rfl 9 (by decide) (hts _ fl_M_20) (fun _ h9 => h9) rfl d_M_five_85 ?_
    refine lv_iconst (pc := 88) (v := (nI 2)) hx hb d_M_five_88 (by decide) ?_
    refine xa_iald (pc := 89) hx hb hK hP 3 0 rfl rfl (by omega) (by decide) d_M_five_89 ?_
    refine lv_istore_n (pc := 90) (lv' := [(3, .int (h 2)), (2, .int (h 1)), (1, .int (h 0)), (0, .ref (r 0))]) hx hb d_M_five_90 rfl hl (by decide) rfl (fun ls hl => ?_)
    refine lv_aload_n (pc := 91) hx hb d_M_five_91 rfl (lv_at hl 3 rfl) ?_
    refine va_get (pc := 92) (D := (dC, dI)) (ci := 1) (v := .ref (r 3)) (C := R_M) (T := F_M) (N := 18) hx hb hts i_M hown hK hP 0 rfl rfl 9 (by decide) (hts _ fl_M_20) (fun _ h9 => h9) rfl d_M_five_92 ?_
    refine lv_iconst (pc := 95) (v := (nI 3)) hx hb d_M_five_95 (by decide) ?_
    refine xa_iald (pc := 96) hx hb hK hP 3 0 rfl rfl (by omega) (by decide) d_M_five_96 ?_
    refine lv_istore (pc := 97) (lv' := [(4, .int (h 3)), (3, .int (h 2)), (2, .int (h 1)), (1, .int (h 0)), (0, .ref (r 0))]) hx hb d_M_five_97 hl (by decide) rfl (fun ls hl => ?_)
    refine lv_iconst (pc := 99) (v := (nI 0)) hx hb d_M_five_99 (by decide) ?_
    refine lv_istore (pc := 100) (lv' := [(5, .int (nI 0)), (4, .int (h 3)), (3, .int (h 2)), (2, .int (h 1)), (1, .int (h 0)), (0, .ref (r 0))]) hx hb d_M_five_100 hl (by decide) rfl (fun ls hl => ?_)
    refine lp (α := Nat × Int32 × Int32 × Int32 × Int32) (fun x => 64 - x.1) (fun x H1 locs1 g => ∃ ls, g = F0 m 102 ls [] ∧ lv_has ls 10 [(0, .ref (r 0)), (1, .int x.2.1), (2, .int x.2.2.1), (3, .int x.2.2.2.1), (4, .int x.2.2.2.2), (5, .int (nI x.1))] ∧ va_P (dC, dI) classes (wM cI cB r lim rdy ks opn mac byt hash came rs key pad h blk f sin rt dg res) H1 ∧ va_D A (wM cI cB r lim rdy ks opn mac byt hash came rs key pad h blk f sin rt dg res) ∧ va_S A s.heap H1 locs1 ∧ (x.1 ≤ 64) ∧ ((x.2.1, x.2.2.1, x.2.2.2.1, x.2.2.2.2) = m5run f (h 0, h 1, h 2, h 3) x.1)) ?_ (0, h 0, h 1, h 2, h 3) ⟨ls, rfl, lv_sub hl [5, 4, 3, 2, 1, 0] rfl, hP, hD, hS, (show 0 ≤ 64 from by omega), (show ((h 0), (h 1), (h 2), (h 3)) = m5run f (h 0, h 1, h 2, h 3) 0 from rfl)⟩
    rintro ⟨k, a, b, c1, d1⟩ H locs g ih2 ⟨ls, rfl, hl, hP, hD, hS, hk, hq⟩
    have hl : lv_has ls 10 [(0, .ref (r 0)), (1, .int a), (2, .int b), (3, .int c1), (4, .int d1), (5, .int (nI k))] := hl
    have hP : va_P (dC, dI) classes (wM cI cB r lim rdy ks opn mac byt hash came rs key pad h blk f sin rt dg res) H := hP
    have hD : va_D A (wM cI cB r lim rdy ks opn mac byt hash came rs key pad h blk f sin rt dg res) := hD
    have hk : k ≤ 64 := hk
    have hq : (a, b, c1, d1) = m5run f (h 0, h 1, h 2, h 3) k := hq
    refine lv_iload (pc := 102) hx hb d_M_five_102 (lv_at hl 5 rfl) ?_
    refine lv_bipush (pc := 104) (v := (nI 64)) hx hb d_M_five_104 (by decide) ?_
    refine xi_ge (pc := 106) (tgt := 278) hx hb d_M_five_106 (by decide) (by omega) (by omega) (fun c1x => ?_) (fun c1x => ?_)
    · have hs2 : k = 64 := by omega
      subst hs2
      refine lv_aload_n (pc := 278) hx hb d_M_five_278 rfl (lv_at hl 0 rfl) ?_
      refine va_get (pc := 279) (D := (dC, dI)) (ci := 1) (v := .ref (r 3)) (C := R_M) (T := F_M) (N := 18) hx hb hts i_M hown hK hP 0 rfl rfl 9 (by decide) (hts _ fl_M_20) (fun _ h9 => h9) rfl d_M_five_279 ?_
      refine lv_iconst (pc := 282) (v := (nI 0)) hx hb d_M_five_282 (by decide) ?_
      refine lv_dup2_11 (pc := 283) hx hb d_M_five_283 rfl rfl ?_
      refine xa_iald (pc := 284) hx hb hK hP 3 0 rfl rfl (by decide) (by decide) d_M_five_284 ?_
      refine lv_iload_n (pc := 285) hx hb d_M_five_285 rfl (lv_at hl 1 rfl) ?_
      refine lv_iadd (pc := 286) hx hb d_M_five_286 ?_
      refine xa_iast (pc := 287) (x := ((h 0) + a)) hx hb hK hP hD hS 3 0 rfl rfl (by decide) (by decide) d_M_five_287 (fun H locs hP hD hS => ?_)
      have hP : va_P (dC, dI) classes (wM cI cB r lim rdy ks opn mac byt hash came rs key pad (ad h 0 a) blk f sin rt dg res) H := hP
      have hD : va_D A (wM cI cB r lim rdy ks opn mac byt hash came rs key pad (ad h 0 a) blk f sin rt dg res) := hD
      refine lv_aload_n (pc := 288) hx hb d_M_five_288 rfl (lv_at hl 0 rfl) ?_
      refine va_get (pc := 289) (D := (dC, dI)) (ci := 1) (v := .ref (r 3)) (C := R_M) (T := F_M) (N := 18) hx hb hts i_M hown hK hP 0 rfl rfl 9 (by decide) (hts _ fl_M_20) (fun _ h9 => h9) rfl d_M_five_289 ?_
      refine lv_iconst (pc := 292) (v := (nI 1)) hx hb d_M_five_292 (by decide) ?_
      refine lv_dup2_11 (pc := 293) hx hb d_M_five_293 rfl rfl ?_
      refine xa_iald (pc := 294) hx hb hK hP 3 0 rfl rfl (by decide) (by decide) d_M_five_294 ?_
      refine lv_iload_n (pc := 295) hx hb d_M_five_295 rfl (lv_at hl 2 rfl) ?_
      refine lv_iadd (pc := 296) hx hb d_M_five_296 ?_
      refine xa_iast (pc := 297) (x := (((ad h 0 a) 1) + b)) hx hb hK hP hD hS 3 0 rfl rfl (by decide) (by decide) d_M_five_297 (fun H locs hP hD hS => ?_)
      have hP : va_P (dC, dI) classes (wM cI cB r lim rdy ks opn mac byt hash came rs key pad (ad (ad h 0 a) 1 b) blk f sin rt dg res) H := hP
      have hD : va_D A (wM cI cB r lim rdy ks opn mac byt hash came rs key pad (ad (ad h 0 a) 1 b) blk f sin rt dg res) := hD
      refine lv_aload_n (pc := 298) hx hb d_M_five_298 rfl (lv_at hl 0 rfl) ?_
      refine va_get (pc := 299) (D := (dC, dI)) (ci := 1) (v := .ref (r 3)) (C := R_M) (T := F_M) (N := 18) hx hb hts i_M hown hK hP 0 rfl rfl 9 (by decide) (hts _ fl_M_20) (fun _ h9 => h9) rfl d_M_five_299 ?_
      refine lv_iconst (pc := 302) (v := (nI 2)) hx hb d_M_five_302 (by decide) ?_
      refine lv_dup2_11 (pc := 303) hx hb d_M_five_303 rfl rfl ?_
      refine xa_iald (pc := 304) hx hb hK hP 3 0 rfl rfl (by decide) (by decide) d_M_five_304 ?_
      refine lv_iload_n (pc := 305) hx hb d_M_five_305 rfl (lv_at hl 3 rfl) ?_
      refine lv_iadd (pc := 306) hx hb d_M_five_306 ?_
      refine xa_iast (pc := 307) (x := (((ad (ad h 0 a) 1 b) 2) + c1)) hx hb hK hP hD hS 3 0 rfl rfl (by decide) (by decide) d_M_five_307 (fun H locs hP hD hS => ?_)
      have hP : va_P (dC, dI) classes (wM cI cB r lim rdy ks opn mac byt hash came rs key pad (ad (ad (ad h 0 a) 1 b) 2 c1) blk f sin rt dg res) H := hP
      have hD : va_D A (wM cI cB r lim rdy ks opn mac byt hash came rs key pad (ad (ad (ad h 0 a) 1 b) 2 c1) blk f sin rt dg res) := hD
      refine lv_aload_n (pc := 308) hx hb d_M_five_308 rfl (lv_at hl 0 rfl) ?_
      refine va_get (pc := 309) (D := (dC, dI)) (ci := 1) (v := .ref (r 3)) (C := R_M) (T := F_M) (N := 18) hx hb hts i_M hown hK hP 0 rfl rfl 9 (by decide) (hts _ fl_M_20) (fun _ h9 => h9) rfl d_M_five_309 ?_
      refine lv_iconst (pc := 312) (v := (nI 3)) hx hb d_M_five_312 (by decide) ?_
      refine lv_dup2_11 (pc := 313) hx hb d_M_five_313 rfl rfl ?_
      refine xa_iald (pc := 314) hx hb hK hP 3 0 rfl rfl (by decide) (by decide) d_M_five_314 ?_
      refine lv_iload (pc := 315) hx hb d_M_five_315 (lv_at hl 4 rfl) ?_
      refine lv_iadd (pc := 317) hx hb d_M_five_317 ?_
      refine xa_iast (pc := 318) (x := (((ad (ad (ad h 0 a) 1 b) 2 c1) 3) + d1)) hx hb hK hP hD hS 3 0 rfl rfl (by decide) (by decide) d_M_five_318 (fun H locs hP hD hS => ?_)
      have hP : va_P (dC, dI) classes (wM cI cB r lim rdy ks opn mac byt hash came rs key pad (ad (ad (ad (ad h 0 a) 1 b) 2 c1) 3 d1) blk f sin rt dg res) H := hP
      have hD : va_D A (wM cI cB r lim rdy ks opn mac byt hash came rs key pad (ad (ad (ad (ad h 0 a) 1 b) 2 c1) 3 d1) blk f sin rt dg res) := hD
      exact W.vret hx hb hr (fun t ht hW => ⟨⟨((ad (ad (ad (ad h 0 a) 1 b) 2 c1) 3 d1), f), rfl, by rw [← m5mix_congr hf]; show m5fin h (a, b, c1, d1) = _; rw [hq]; rfl, by rw [ht]; exact hP, va_K.moved hW.alike hK, hD⟩, hS.F ht⟩) hS.2.2 d_M_five_319
    · refine lv_iload (pc := 109) hx hb d_M_five_109 (lv_at hl 5 rfl) ?_
      refine lv_bipush (pc := 111) (v := (nI 16)) hx hb d_M_five_111 (by decide) ?_
      refine xi_div (pc := 113) hx hb d_M_five_113 (by omega) (by decide) (by decide) ?_
      refine lv_istore (pc := 114) (lv' := [(6, .int (nI (k / 16))), (0, .ref (r 0)), (1, .int a), (2, .int b), (3, .int c1), (4, .int d1), (5, .int (nI k))]) hx hb d_M_five_114 hl (by decide) rfl (fun ls hl => ?_)
      refine jn_i (fun f1 : Int32 => f1 = m5f k b c1 d1) 177 ls [] (fun f1 ef1 => ?_) (fun J => ?_)
      · refine lv_istore (pc := 177) (lv' := [(7, .int f1), (6, .int (nI (k / 16))), (0, .ref (r 0)), (1, .int a), (2, .int b), (3, .int c1), (4, .int d1), (5, .int (nI k))]) hx hb d_M_five_177 hl (by decide) rfl (fun ls hl => ?_)
        refine jn_i (fun g1 : Int32 => g1 = nI (m5g k)) 224 ls [] (fun g1 eg1 => ?_) (fun J => ?_)
        · have hg := m5g_lt c1x
          have htl := turns_lt _ (m5t_lt c1x)
          refine xs_i (y := (nI (m5g k))) (eg1) ?_
          refine lv_istore (pc := 224) (lv' := [(8, .int (nI (m5g k))), (7, .int f1), (6, .int (nI (k / 16))), (0, .ref (r 0)), (1, .int a), (2, .int b), (3, .int c1), (4, .int d1), (5, .int (nI k))]) hx hb d_M_five_224 hl (by decide) rfl (fun ls hl => ?_)
          refine lv_iload_n (pc := 226) hx hb d_M_five_226 rfl (lv_at hl 5 rfl) ?_
          refine lv_iload_n (pc := 227) hx hb d_M_five_227 rfl (lv_at hl 4 rfl) ?_
          refine lv_iload (pc := 228) hx hb d_M_five_228 (lv_at hl 1 rfl) ?_
          refine lv_iadd (pc := 230) hx hb d_M_five_230 ?_
          refine lv_aload_n (pc := 231) hx hb d_M_five_231 rfl (lv_at hl 3 rfl) ?_
          refine va_get (pc := 232) (D := (dC, dI)) (ci := 1) (v := .ref (r 6)) (C := R_M) (T := F_M) (N := 18) hx hb hts i_M hown hK hP 0 rfl rfl 13 (by decide) (hts _ fl_M_29) (fun _ h9 => h9) rfl d_M_five_232 ?_
          refine lv_iload (pc := 235) hx hb d_M_five_235 (lv_at hl 8 rfl) ?_
          refine xa_iald (pc := 237) hx hb hK hP 6 0 rfl rfl (by omega) (by decide) d_M_five_237 ?_
          refine xs_i (y := (sinesT k)) (hsin k c1x) ?_
          refine lv_iadd (pc := 238) hx hb d_M_five_238 ?_
          refine lv_aload_n (pc := 239) hx hb d_M_five_239 rfl (lv_at hl 3 rfl) ?_
          refine va_get (pc := 240) (D := (dC, dI)) (ci := 1) (v := .ref (r 5)) (C := R_M) (T := F_M) (N := 18) hx hb hts i_M hown hK hP 0 rfl rfl 12 (by decide) (hts _ fl_M_26) (fun _ h9 => h9) rfl d_M_five_240 ?_
          refine lv_iload (pc := 243) hx hb d_M_five_243 (lv_at hl 0 rfl) ?_
          refine lv_bipush (pc := 245) (v := (nI 16)) hx hb d_M_five_245 (by decide) ?_
          refine xi_rem (pc := 247) hx hb d_M_five_247 (by omega) (by decide) (by decide) ?_
          refine xa_iald (pc := 248) hx hb hK hP 5 0 rfl rfl (by omega) (by decide) d_M_five_248 ?_
          refine lv_iadd (pc := 249) hx hb d_M_five_249 ?_
          refine lv_iload (pc := 250) hx hb d_M_five_250 (lv_at hl 8 rfl) ?_
          refine ksi (pc := 252) (As := [.int (nI k)]) (rest := [.int (((a + f1) + (sinesT k)) + (f ((m5g k) % 16))), .int b]) ⟨hx, hb, hml, hown, hts⟩ (c_M_turned l k (by omega)) (va_cwS 1 hts g_M_94 rfl rfl rfl hs_M_turned ⟨by decide, by decide⟩) rfl hl.1 rfl (Nat.le_of_ble_eq_true rfl) d_M_five_252 ⟨by decide, by decide⟩ (fun r3 er4 => ?_)
          subst er4
          refine ksi (pc := 255) (As := [.int (((a + f1) + (sinesT k)) + (f ((m5g k) % 16))), .int (nI (turnsL.getD (m5t k) 0))]) (rest := [.int b]) ⟨hx, hb, hml, hown, hts⟩ (c_M_left l (((a + f1) + (sinesT k)) + (f ((m5g k) % 16))) (turnsL.getD (m5t k) 0) (by omega)) (va_cwS 2 hts g_M_98 rfl rfl rfl hs_M_left ⟨by decide, by decide⟩) rfl hl.1 rfl (Nat.le_of_ble_eq_true rfl) d_M_five_255 ⟨by decide, by decide⟩ (fun r5 er6 => ?_)
          subst er6
          refine lv_iadd (pc := 258) hx hb d_M_five_258 ?_
          refine lv_istore (pc := 259) (lv' := [(9, .int (b + (rotl (((a + f1) + (sinesT k)) + (f ((m5g k) % 16))) (nI (turnsL.getD (m5t k) 0))))), (8, .int (nI (m5g k))), (7, .int f1), (6, .int (nI (k / 16))), (0, .ref (r 0)), (1, .int a), (2, .int b), (3, .int c1), (4, .int d1), (5, .int (nI k))]) hx hb d_M_five_259 hl (by decide) rfl (fun ls hl => ?_)
          refine lv_iload (pc := 261) hx hb d_M_five_261 (lv_at hl 8 rfl) ?_
          refine lv_istore_n (pc := 263) (lv' := [(1, .int d1), (9, .int (b + (rotl (((a + f1) + (sinesT k)) + (f ((m5g k) % 16))) (nI (turnsL.getD (m5t k) 0))))), (8, .int (nI (m5g k))), (7, .int f1), (6, .int (nI (k / 16))), (0, .ref (r 0)), (2, .int b), (3, .int c1), (4, .int d1), (5, .int (nI k))]) hx hb d_M_five_263 rfl hl (by decide) rfl (fun ls hl => ?_)
          refine lv_iload_n (pc := 264) hx hb d_M_five_264 rfl (lv_at hl 7 rfl) ?_
          refine lv_istore (pc := 265) (lv' := [(4, .int c1), (1, .int d1), (9, .int (b + (rotl (((a + f1) + (sinesT k)) + (f ((m5g k) % 16))) (nI (turnsL.getD (m5t k) 0))))), (8, .int (nI (m5g k))), (7, .int f1), (6, .int (nI (k / 16))), (0, .ref (r 0)), (2, .int b), (3, .int c1), (5, .int (nI k))]) hx hb d_M_five_265 hl (by decide) rfl (fun ls hl => ?_)
          refine lv_iload_n (pc := 267) hx hb d_M_five_267 rfl (lv_at hl 7 rfl) ?_
          refine lv_istore_n (pc := 268) (lv' := [(3, .int b), (4, .int c1), (1, .int d1), (9, .int (b + (rotl (((a + f1) + (sinesT k)) + (f ((m5g k) % 16))) (nI (turnsL.getD (m5t k) 0))))), (8, .int (nI (m5g k))), (7, .int f1), (6, .int (nI (k / 16))), (0, .ref (r 0)), (2, .int b), (5, .int (nI k))]) hx hb d_M_five_268 rfl hl (by decide) rfl (fun ls hl => ?_)
          refine lv_iload (pc := 269) hx hb d_M_five_269 (lv_at hl 3 rfl) ?_
          refine lv_istore_n (pc := 271) (lv' := [(2, .int (b + (rotl (((a + f1) + (sinesT k)) + (f ((m5g k) % 16))) (nI (turnsL.getD (m5t k) 0))))), (3, .int b), (4, .int c1), (1, .int d1), (9, .int (b + (rotl (((a + f1) + (sinesT k)) + (f ((m5g k) % 16))) (nI (turnsL.getD (m5t k) 0))))), (8, .int (nI (m5g k))), (7, .int f1), (6, .int (nI (k / 16))), (0, .ref (r 0)), (5, .int (nI k))]) hx hb d_M_five_271 rfl hl (by decide) rfl (fun ls hl => ?_)
          refine lv_iinc (pc := 272) (v := (nI (k + 1))) (lv' := [(5, .int (nI (k + 1))), (2, .int (b + (rotl (((a + f1) + (sinesT k)) + (f ((m5g k) % 16))) (nI (turnsL.getD (m5t k) 0))))), (3, .int b), (4, .int c1), (1, .int d1), (9, .int (b + (rotl (((a + f1) + (sinesT k)) + (f ((m5g k) % 16))) (nI (turnsL.getD (m5t k) 0))))), (8, .int (nI (m5g k))), (7, .int f1), (6, .int (nI (k / 16))), (0, .ref (r 0))]) hx hb d_M_five_272 hl (k := 9) rfl (inc1 _) (by decide) rfl (fun ls hl => ?_)
          refine lv_goto (pc := 275) (tgt := 102) hx hb d_M_five_275 (by decide) ?_
          exact ih2 (k + 1, d1, b + rotl (a + f1 + sinesT k + f (m5g k % 16)) (turnsT (m5t k)), b, c1) _ _ _ (by show 64 - (k + 1) < 64 - k; omega) ⟨ls, rfl, lv_sub hl [9, 4, 1, 2, 3, 0] rfl, hP, hD, hS, (show (k + 1) ≤ 64 from by omega), (show (d1, (b + rotl (a + f1 + sinesT k + f (m5g k % 16)) (turnsT (m5t k))), b, c1) = m5run f (h 0, h 1, h 2, h 3) (k + 1) from by rw [ef1]; show m5step f k (a, b, c1, d1) = m5step f k _; rw [hq])⟩
        · refine lv_iload (pc := 179) hx hb d_M_five_179 (lv_at hl 1 rfl) ?_
          refine xi_ne0 (pc := 181) (tgt := 189) hx hb d_M_five_181 (by decide) (by omega) (fun r0 => ?_) (fun r0 => ?_)
          · refine lv_iload (pc := 189) hx hb d_M_five_189 (lv_at hl 1 rfl) ?_
            refine lv_iconst (pc := 191) (v := (nI 1)) hx hb d_M_five_191 (by decide) ?_
            refine xi_ne (pc := 192) (tgt := 204) hx hb d_M_five_192 (by decide) (by omega) (by omega) (fun r1 => ?_) (fun r1 => ?_)
            · refine lv_iload (pc := 204) hx hb d_M_five_204 (lv_at hl 1 rfl) ?_
              refine lv_iconst (pc := 206) (v := (nI 2)) hx hb d_M_five_206 (by decide) ?_
              refine xi_ne (pc := 207) (tgt := 219) hx hb d_M_five_207 (by decide) (by omega) (by omega) (fun r2 => ?_) (fun r2 => ?_)
              · refine lv_bipush (pc := 219) (v := (nI 7)) hx hb d_M_five_219 (by decide) ?_
                refine lv_iload (pc := 221) hx hb d_M_five_221 (lv_at hl 7 rfl) ?_
                refine xi_mul (pc := 223) hx hb d_M_five_223 ?_
                exact J _ (by rw [m5g, if_neg r0, if_neg r1, if_neg r2])
              · refine lv_iconst (pc := 210) (v := (nI 3)) hx hb d_M_five_210 (by decide) ?_
                refine lv_iload (pc := 211) hx hb d_M_five_211 (lv_at hl 7 rfl) ?_
                refine xi_mul (pc := 213) hx hb d_M_five_213 ?_
                refine lv_iconst (pc := 214) (v := (nI 5)) hx hb d_M_five_214 (by decide) ?_
                refine xi_add (pc := 215) hx hb d_M_five_215 ?_
                refine lv_goto (pc := 216) (tgt := 224) hx hb d_M_five_216 (by decide) ?_
                exact J _ (by rw [m5g, if_neg r0, if_neg r1, if_pos r2])
            · refine lv_iconst (pc := 195) (v := (nI 5)) hx hb d_M_five_195 (by decide) ?_
              refine lv_iload (pc := 196) hx hb d_M_five_196 (lv_at hl 7 rfl) ?_
              refine xi_mul (pc := 198) hx hb d_M_five_198 ?_
              refine lv_iconst (pc := 199) (v := (nI 1)) hx hb d_M_five_199 (by decide) ?_
              refine xi_add (pc := 200) hx hb d_M_five_200 ?_
              refine lv_goto (pc := 201) (tgt := 224) hx hb d_M_five_201 (by decide) ?_
              exact J _ (by rw [m5g, if_neg r0, if_pos r1])
          · refine lv_iload (pc := 184) hx hb d_M_five_184 (lv_at hl 7 rfl) ?_
            refine lv_goto (pc := 186) (tgt := 224) hx hb d_M_five_186 (by decide) ?_
            exact J _ (by rw [m5g, if_pos r0])
      · refine lv_iload (pc := 116) hx hb d_M_five_116 (lv_at hl 0 rfl) ?_
        refine xi_ne0 (pc := 118) (tgt := 134) hx hb d_M_five_118 (by decide) (by omega) (fun r0 => ?_) (fun r0 => ?_)
        · refine lv_iload (pc := 134) hx hb d_M_five_134 (lv_at hl 0 rfl) ?_
          refine lv_iconst (pc := 136) (v := (nI 1)) hx hb d_M_five_136 (by decide) ?_
          refine xi_ne (pc := 137) (tgt := 154) hx hb d_M_five_137 (by decide) (by omega) (by omega) (fun r1 => ?_) (fun r1 => ?_)
          · refine lv_iload (pc := 154) hx hb d_M_five_154 (lv_at hl 0 rfl) ?_
            refine lv_iconst (pc := 156) (v := (nI 2)) hx hb d_M_five_156 (by decide) ?_
            refine xi_ne (pc := 157) (tgt := 169) hx hb d_M_five_157 (by decide) (by omega) (by omega) (fun r2 => ?_) (fun r2 => ?_)
            · refine lv_iload_n (pc := 169) hx hb d_M_five_169 rfl (lv_at hl 4 rfl) ?_
              refine lv_iload_n (pc := 170) hx hb d_M_five_170 rfl (lv_at hl 3 rfl) ?_
              refine lv_iload (pc := 171) hx hb d_M_five_171 (lv_at hl 5 rfl) ?_
              refine lv_iconst (pc := 173) (v := (-1)) hx hb d_M_five_173 (by decide) ?_
              refine lv_ixor (pc := 174) hx hb d_M_five_174 ?_
              refine lv_ior (pc := 175) hx hb d_M_five_175 ?_
              refine lv_ixor (pc := 176) hx hb d_M_five_176 ?_
              exact J _ (by rw [m5f, if_neg r0, if_neg r1, if_neg r2])
            · refine lv_iload_n (pc := 160) hx hb d_M_five_160 rfl (lv_at hl 3 rfl) ?_
              refine lv_iload_n (pc := 161) hx hb d_M_five_161 rfl (lv_at hl 4 rfl) ?_
              refine lv_ixor (pc := 162) hx hb d_M_five_162 ?_
              refine lv_iload (pc := 163) hx hb d_M_five_163 (lv_at hl 5 rfl) ?_
              refine lv_ixor (pc := 165) hx hb d_M_five_165 ?_
              refine lv_goto (pc := 166) (tgt := 177) hx hb d_M_five_166 (by decide) ?_
              exact J _ (by rw [m5f, if_neg r0, if_neg r1, if_pos r2])
          · refine lv_iload (pc := 140) hx hb d_M_five_140 (lv_at hl 5 rfl) ?_
            refine lv_iload_n (pc := 142) hx hb d_M_five_142 rfl (lv_at hl 3 rfl) ?_
            refine lv_iand (pc := 143) hx hb d_M_five_143 ?_
            refine lv_iload (pc := 144) hx hb d_M_five_144 (lv_at hl 5 rfl) ?_
            refine lv_iconst (pc := 146) (v := (-1)) hx hb d_M_five_146 (by decide) ?_
            refine lv_ixor (pc := 147) hx hb d_M_five_147 ?_
            refine lv_iload_n (pc := 148) hx hb d_M_five_148 rfl (lv_at hl 4 rfl) ?_
            refine lv_iand (pc := 149) hx hb d_M_five_149 ?_
            refine lv_ior (pc := 150) hx hb d_M_five_150 ?_
            refine lv_goto (pc := 151) (tgt := 177) hx hb d_M_five_151 (by decide) ?_
            exact J _ (by rw [m5f, if_neg r0, if_pos r1]; rfl)
        · refine lv_iload_n (pc := 121) hx hb d_M_five_121 rfl (lv_at hl 3 rfl) ?_
          refine lv_iload_n (pc := 122) hx hb d_M_five_122 rfl (lv_at hl 4 rfl) ?_
          refine lv_iand (pc := 123) hx hb d_M_five_123 ?_
          refine lv_iload_n (pc := 124) hx hb d_M_five_124 rfl (lv_at hl 3 rfl) ?_
          refine lv_iconst (pc := 125) (v := (-1)) hx hb d_M_five_125 (by decide) ?_
          refine lv_ixor (pc := 126) hx hb d_M_five_126 ?_
          refine lv_iload (pc := 127) hx hb d_M_five_127 (lv_at hl 5 rfl) ?_
          refine lv_iand (pc := 129) hx hb d_M_five_129 ?_
          refine lv_ior (pc := 130) hx hb d_M_five_130 ?_
          refine lv_goto (pc := 131) (tgt := 177) hx hb d_M_five_131 (by decide) ?_
          exact J _ (by rw [m5f, if_pos r0]; rfl)
  · refine lv_aload_n (pc := 8) hx hb d_M_five_8 rfl (lv_at hl 0 rfl) ?_
    refine va_get (pc := 9) (D := (dC, dI)) (ci := 1) (v := .ref (r 5)) (C := R_M) (T := F_M) (N := 18) hx hb hts i_M hown hK hP 0 rfl rfl 12 (by decide) (hts _ fl_M_26) (fun _ h9 => h9) rfl d_M_five_9 ?_
    refine lv_iload_n (pc := 12) hx hb d_M_five_12 rfl (lv_at hl 1 rfl) ?_
    refine lv_aload_n (pc := 13) hx hb d_M_five_13 rfl (lv_at hl 0 rfl) ?_
    refine va_get (pc := 14) (D := (dC, dI)) (ci := 1) (v := .ref (r 4)) (C := R_M) (T := F_M) (N := 18) hx hb hts i_M hown hK hP 0 rfl rfl 10 (by decide) (hts _ fl_M_23) (fun _ h9 => h9) rfl d_M_five_14 ?_
    refine lv_iconst (pc := 17) (v := (nI 4)) hx hb d_M_five_17 (by decide) ?_
    refine lv_iload_n (pc := 18) hx hb d_M_five_18 rfl (lv_at hl 1 rfl) ?_
    refine xi_mul (pc := 19) hx hb d_M_five_19 ?_
    refine xa_iald (pc := 20) hx hb hK hP 4 0 rfl rfl (by omega) (by decide) d_M_five_20 ?_
    refine lv_aload_n (pc := 21) hx hb d_M_five_21 rfl (lv_at hl 0 rfl) ?_
    refine va_get (pc := 22) (D := (dC, dI)) (ci := 1) (v := .ref (r 4)) (C := R_M) (T := F_M) (N := 18) hx hb hts i_M hown hK hP 0 rfl rfl 10 (by decide) (hts _ fl_M_23) (fun _ h9 => h9) rfl d_M_five_22 ?_
    refine lv_iconst (pc := 25) (v := (nI 4)) hx hb d_M_five_25 (by decide) ?_
    refine lv_iload_n (pc := 26) hx hb d_M_five_26 rfl (lv_at hl 1 rfl) ?_
    refine xi_mul (pc := 27) hx hb d_M_five_27 ?_
    refine lv_iconst (pc := 28) (v := (nI 1)) hx hb d_M_five_28 (by decide) ?_
    refine xi_add (pc := 29) hx hb d_M_five_29 ?_
    refine xa_iald (pc := 30) hx hb hK hP 4 0 rfl rfl (by omega) (by decide) d_M_five_30 ?_
    refine lv_bipush (pc := 31) (v := (nI 8)) hx hb d_M_five_31 (by decide) ?_
    refine lv_ishl (pc := 33) hx hb d_M_five_33 ?_
    refine lv_ior (pc := 34) hx hb d_M_five_34 ?_
    refine lv_aload_n (pc := 35) hx hb d_M_five_35 rfl (lv_at hl 0 rfl) ?_
    refine va_get (pc := 36) (D := (dC, dI)) (ci := 1) (v := .ref (r 4)) (C := R_M) (T := F_M) (N := 18) hx hb hts i_M hown hK hP 0 rfl rfl 10 (by decide) (hts _ fl_M_23) (fun _ h9 => h9) rfl d_M_five_36 ?_
    refine lv_iconst (pc := 39) (v := (nI 4)) hx hb d_M_five_39 (by decide) ?_
    refine lv_iload_n (pc := 40) hx hb d_M_five_40 rfl (lv_at hl 1 rfl) ?_
    refine xi_mul (pc := 41) hx hb d_M_five_41 ?_
    refine lv_iconst (pc := 42) (v := (nI 2)) hx hb d_M_five_42 (by decide) ?_
    refine xi_add (pc := 43) hx hb d_M_five_43 ?_
    refine xa_iald (pc := 44) hx hb hK hP 4 0 rfl rfl (by omega) (by decide) d_M_five_44 ?_
    refine lv_bipush (pc := 45) (v := (nI 16)) hx hb d_M_five_45 (by decide) ?_
    refine lv_ishl (pc := 47) hx hb d_M_five_47 ?_
    refine lv_ior (pc := 48) hx hb d_M_five_48 ?_
    refine lv_aload_n (pc := 49) hx hb d_M_five_49 rfl (lv_at hl 0 rfl) ?_
    refine va_get (pc := 50) (D := (dC, dI)) (ci := 1) (v := .ref (r 4)) (C := R_M) (T := F_M) (N := 18) hx hb hts i_M hown hK hP 0 rfl rfl 10 (by decide) (hts _ fl_M_23) (fun _ h9 => h9) rfl d_M_five_50 ?_
    refine lv_iconst (pc := 53) (v := (nI 4)) hx hb d_M_five_53 (by decide) ?_
    refine lv_iload_n (pc := 54) hx hb d_M_five_54 rfl (lv_at hl 1 rfl) ?_
    refine xi_mul (pc := 55) hx hb d_M_five_55 ?_
    refine lv_iconst (pc := 56) (v := (nI 3)) hx hb d_M_five_56 (by decide) ?_
    refine xi_add (pc := 57) hx hb d_M_five_57 ?_
    refine xa_iald (pc := 58) hx hb hK hP 4 0 rfl rfl (by omega) (by decide) d_M_five_58 ?_
    refine lv_bipush (pc := 59) (v := (nI 24)) hx hb d_M_five_59 (by decide) ?_
    refine lv_ishl (pc := 61) hx hb d_M_five_61 ?_
    refine lv_ior (pc := 62) hx hb d_M_five_62 ?_
    refine xs_i (y := (wof 0 blk k)) (wof_0) ?_
    refine xa_iast (pc := 63) (x := (wof 0 blk k)) hx hb hK hP hD hS 5 0 rfl rfl (by omega) (by decide) d_M_five_63 (fun H locs hP hD hS => ?_)
    have hP : va_P (dC, dI) classes (wM cI cB r lim rdy ks opn mac byt hash came rs key pad h blk (upd f k (wof 0 blk k)) sin rt dg res) H := hP
    have hD : va_D A (wM cI cB r lim rdy ks opn mac byt hash came rs key pad h blk (upd f k (wof 0 blk k)) sin rt dg res) := hD
    refine lv_iinc (pc := 64) (v := (nI (k + 1))) (lv' := [(1, .int (nI (k + 1))), (0, .ref (r 0))]) hx hb d_M_five_64 hl (k := 1) rfl (inc1 _) (by decide) rfl (fun ls hl => ?_)
    refine lv_goto (pc := 67) (tgt := 2) hx hb d_M_five_67 (by decide) ?_
    exact ih (k + 1, upd f k (wof 0 blk k)) _ _ _ (by show 16 - (k + 1) < 16 - k; omega) ⟨ls, rfl, lv_sub hl [1, 0] rfl, hP, hD, hS, (show (k + 1) ≤ 16 from by omega), (show ∀ j, j < (k + 1) → (upd f k (wof 0 blk k)) j = wof 0 blk j from upd_lt hf rfl)⟩
set_option maxHeartbeats 4000000 in
set_option maxRecDepth 100000 in
theorem c_M_one (l : Launch) (dC : Nat → ClassId) (dI : Nat → Nat → Nat) (cI cB : ClassId) (r : Nat → Nat) (sz : Nat) (lim rdy ks opn mac hash rs : Int32) (byt came : Int64) (key pad h blk w sin rt dg res : Nat → Int32) (hrt : ∀ j, j < 4 → rt j = addedT j) : Met l y_M_one (k_M_one :: tT) ({ frames := 1, cells := 0, slots := 0, locals := 21 }) (va_Pc [.ref (r 0)] (pD (dC, dI) cI cB sz (wM cI cB r lim rdy ks opn mac byt hash came rs key pad h blk w sin rt dg res))) (va_Qv (fun u : (Nat → Int32) × (Nat → Int32) => u.1 = s1mix h (s1xs (wof (nI 1) blk) 64)) (fun u t => qD (dC, dI) cI cB (va_A (wM cI cB r lim rdy ks opn mac byt hash came rs key pad h blk w sin rt dg res) sz) (wM cI cB r lim rdy ks opn mac byt hash came rs key pad u.1 blk u.2 sin rt dg res) t) (va_A (wM cI cB r lim rdy ks opn mac byt hash came rs key pad h blk w sin rt dg res) sz)) 0 0 (va_A (wM cI cB r lim rdy ks opn mac byt hash came rs key pad h blk w sin rt dg res) sz) := by
  refine Met.ofW (cc := b_M_one) (maxL := 10) (ret := none) (by decide) rfl ?_
  intro p e s m args below meth c s₁ B hml hv
  obtain ⟨rfl, hsz, hP, hK, hD0, hST⟩ := hv
  have hx := B.exec
  have hb := B.bytes
  have hr := B.returns
  have hts : ∀ w ∈ tT, w.before _ s = true := fun w h => atoms_spec (ws := k_M_one :: tT) B.pre w (List.mem_cons_of_mem _ h)
  have hown : s.vm.findClass R_M = some m.cls := findClass_of_methodNamed B.named
  have hlocks := B.notSynchronized
  subst hsz
  have hD := hD0.self (sz := s.heap.size)
  generalize hAe : va_A (wM cI cB r lim rdy ks opn mac byt hash came rs key pad h blk w sin rt dg res) s.heap.size = A at hD hST ⊢
  have hA : ∀ q : Nat, s.heap.size ≤ q → A q := fun q h => by rw [← hAe]; exact Or.inr h
  have hS : va_S A s.heap s.heap [] := va_S.rf
  have hP : va_P (dC, dI) classes (wM cI cB r lim rdy ks opn mac byt hash came rs key pad h blk w sin rt dg res) s.heap := hP
  have hl := lv_entry ([.ref (r 0)]) (n := 10) (Nat.le_of_ble_eq_true rfl)
  rw [lg_entry_eq]
  generalize (lg_sl ([.ref (r 0)]) ++ List.replicate (10 - (lg_sl ([.ref (r 0)])).length) Slot.unset).toArray = ls at hl ⊢
  have hl : lv_has ls 10 [(0, .ref (r 0))] := hl
  refine lv_iconst (pc := 0) (v := (nI 0)) hx hb d_M_one_0 (by decide) ?_
  refine lv_istore_n (pc := 1) (lv' := [(1, .int (nI 0)), (0, .ref (r 0))]) hx hb d_M_one_1 rfl hl (by decide) rfl (fun ls hl => ?_)
  refine lp (α := Nat × (Nat → Int32)) (fun x => 80 - x.1) (fun x H1 locs1 g => ∃ ls, g = F0 m 2 ls [] ∧ lv_has ls 10 [(0, .ref (r 0)), (1, .int (nI x.1))] ∧ va_P (dC, dI) classes (wM cI cB r lim rdy ks opn mac byt hash came rs key pad h blk x.2 sin rt dg res) H1 ∧ va_D A (wM cI cB r lim rdy ks opn mac byt hash came rs key pad h blk x.2 sin rt dg res) ∧ va_S A s.heap H1 locs1 ∧ (x.1 ≤ 80) ∧ (∀ j, j < x.1 → x.2 j = s1xs (wof (nI 1) blk) (x.1 - 16) j)) ?_ (0, w) ⟨ls, rfl, lv_sub hl [1, 0] rfl, hP, hD, hS, (show 0 ≤ 80 from by omega), (show ∀ j, j < 0 → w j = s1xs (wof (nI 1) blk) (0 - 16) j from fun j h => absurd h (Nat.not_lt_zero _))⟩
  rintro ⟨k, f⟩ H locs g ih ⟨ls, rfl, hl, hP, hD, hS, hk, hf⟩
  have hl : lv_has ls 10 [(0, .ref (r 0)), (1, .int (nI k))] := hl
  have hP : va_P (dC, dI) classes (wM cI cB r lim rdy ks opn mac byt hash came rs key pad h blk f sin rt dg res) H := hP
  have hD : va_D A (wM cI cB r lim rdy ks opn mac byt hash came rs key pad h blk f sin rt dg res) := hD
  have hk : k ≤ 80 := hk
  have hf : ∀ j, j < k → f j = s1xs (wof (nI 1) blk) (k - 16) j := hf
  refine lv_iload_n (pc := 2) hx hb d_M_one_2 rfl (lv_at hl 1 rfl) ?_
  refine lv_bipush (pc := 3) (v := (nI 80)) hx hb d_M_one_3 (by decide) ?_
  refine xi_ge (pc := 5) (tgt := 121) hx hb d_M_one_5 (by decide) (by omega) (by omega) (fun c0 => ?_) (fun c0 => ?_)
  · have hs9 : k = 80 := by omega
    subst hs9
    refine lv_aload_n (pc := 121) hx hb d_M_one_121 rfl (lv_at hl 0 rfl) ?_
    refine va_get (pc := 122) (D := (dC, dI)) (ci := 1) (v := .ref (r 3)) (C := R_M) (T := F_M) (N := 18) hx hb hts i_M hown hK hP 0 rfl rfl 9 (by decide) (hts _ fl_M_20) (fun _ h9 => h9) rfl d_M_one_122 ?_
    refine lv_iconst (pc := 125) (v := (nI 0)) hx hb d_M_one_125 (by decide) ?_
    refine xa_iald (pc := 126) hx hb hK hP 3 0 rfl rfl (by omega) (by decide) d_M_one_126 ?_
    refine lv_istore_n (pc := 127) (lv' := [(1, .int (h 0)), (0, .ref (r 0))]) hx hb d_M_one_127 rfl hl (by decide) rfl (fun ls hl => ?_)
    refine lv_aload_n (pc := 128) hx hb d_M_one_128 rfl (lv_at hl 1 rfl) ?_
    refine va_get (pc := 129) (D := (dC, dI)) (ci := 1) (v := .ref (r 3)) (C := R_M) (T := F_M) (N := 18) hx hb hts i_M hown hK hP 0 rfl rfl 9 (by decide) (hts _ fl_M_20) (fun _ h9 => h9) rfl d_M_one_129 ?_
    refine lv_iconst (pc := 132) (v := (nI 1)) hx hb d_M_one_132 (by decide) ?_
    refine xa_iald (pc := 133) hx hb hK hP 3 0 rfl rfl (by omega) (by decide) d_M_one_133 ?_
    refine lv_istore_n (pc := 134) (lv' := [(2, .int (h 1)), (1, .int (h 0)), (0, .ref (r 0))]) hx hb d_M_one_134 rfl hl (by decide) rfl (fun ls hl => ?_)
    refine lv_aload_n (pc := 135) hx hb d_M_one_135 rfl (lv_at hl 2 rfl) ?_
    refine va_get (pc := 136) (D := (dC, dI)) (ci := 1) (v := .ref (r 3)) (C := R_M) (T := F_M) (N := 18) hx hb hts i_M hown hK hP 0 rfl rfl 9 (by decide) (hts _ fl_M_20) (fun _ h9 => h9) rfl d_M_one_136 ?_
    refine lv_iconst (pc := 139) (v := (nI 2)) hx hb d_M_one_139 (by decide) ?_
    refine xa_iald (pc := 140) hx hb hK hP 3 0 rfl rfl (by omega) (by decide) d_M_one_140 ?_
    refine lv_istore_n (pc := 141) (lv' := [(3, .int (h 2)), (2, .int (h 1)), (1, .int (h 0)), (0, .ref (r 0))]) hx hb d_M_one_141 rfl hl (by decide) rfl (fun ls hl => ?_)
    refine lv_aload_n (pc := 142) hx hb d_M_one_142 rfl (lv_at hl 3 rfl) ?_
    refine va_get (pc := 143) (D := (dC, dI)) (ci := 1) (v := .ref (r 3)) (C := R_M) (T := F_M) (N := 18) hx hb hts i_M hown hK hP 0 rfl rfl 9 (by decide) (hts _ fl_M_20) (fun _ h9 => h9) rfl d_M_one_143 ?_
    refine lv_iconst (pc := 146) (v := (nI 3)) hx hb d_M_one_146 (by decide) ?_
    refine xa_iald (pc := 147) hx hb hK hP 3 0 rfl rfl (by omega) (by decide) d_M_one_147 ?_
    refine lv_istore (pc := 148) (lv' := [(4, .int (h 3)), (3, .int (h 2)), (2, .int (h 1)), (1, .int (h 0)), (0, .ref (r 0))]) hx hb d_M_one_148 hl (by decide) rfl (fun ls hl => ?_)
    refine lv_aload_n (pc := 150) hx hb d_M_one_150 rfl (lv_at hl 4 rfl) ?_
    refine va_get (pc := 151) (D := (dC, dI)) (ci := 1) (v := .ref (r 3)) (C := R_M) (T := F_M) (N := 18) hx hb hts i_M hown hK hP 0 rfl rfl 9 (by decide) (hts _ fl_M_20) (fun _ h9 => h9) rfl d_M_one_151 ?_
    refine lv_iconst (pc := 154) (v := (nI 4)) hx hb d_M_one_154 (by decide) ?_
    refine xa_iald (pc := 155) hx hb hK hP 3 0 rfl rfl (by omega) (by decide) d_M_one_155 ?_
    refine lv_istore (pc := 156) (lv' := [(5, .int (h 4)), (4, .int (h 3)), (3, .int (h 2)), (2, .int (h 1)), (1, .int (h 0)), (0, .ref (r 0))]) hx hb d_M_one_156 hl (by decide) rfl (fun ls hl => ?_)
    refine lv_iconst (pc := 158) (v := (nI 0)) hx hb d_M_one_158 (by decide) ?_
    refine lv_istore (pc := 159) (lv' := [(6, .int (nI 0)), (5, .int (h 4)), (4, .int (h 3)), (3, .int (h 2)), (2, .int (h 1)), (1, .int (h 0)), (0, .ref (r 0))]) hx hb d_M_one_159 hl (by decide) rfl (fun ls hl => ?_)
    refine lp (α := Nat × Int32 × Int32 × Int32 × Int32 × Int32) (fun x => 80 - x.1) (fun x H1 locs1 g => ∃ ls, g = F0 m 161 ls [] ∧ lv_has ls 10 [(0, .ref (r 0)), (1, .int x.2.1), (2, .int x.2.2.1), (3, .int x.2.2.2.1), (4, .int x.2.2.2.2.1), (5, .int x.2.2.2.2.2), (6, .int (nI x.1))] ∧ va_P (dC, dI) classes (wM cI cB r lim rdy ks opn mac byt hash came rs key pad h blk f sin rt dg res) H1 ∧ va_D A (wM cI cB r lim rdy ks opn mac byt hash came rs key pad h blk f sin rt dg res) ∧ va_S A s.heap H1 locs1 ∧ (x.1 ≤ 80) ∧ ((x.2.1, x.2.2.1, x.2.2.2.1, x.2.2.2.2.1, x.2.2.2.2.2) = s1run f (h 0, h 1, h 2, h 3, h 4) x.1)) ?_ (0, h 0, h 1, h 2, h 3, h 4) ⟨ls, rfl, lv_sub hl [6, 5, 4, 3, 2, 1, 0] rfl, hP, hD, hS, (show 0 ≤ 80 from by omega), (show ((h 0), (h 1), (h 2), (h 3), (h 4)) = s1run f (h 0, h 1, h 2, h 3, h 4) 0 from rfl)⟩
    rintro ⟨k, a, b, c1, d1, e1⟩ H locs g ih2 ⟨ls, rfl, hl, hP, hD, hS, hk, hq⟩
    have hl : lv_has ls 10 [(0, .ref (r 0)), (1, .int a), (2, .int b), (3, .int c1), (4, .int d1), (5, .int e1), (6, .int (nI k))] := hl
    have hP : va_P (dC, dI) classes (wM cI cB r lim rdy ks opn mac byt hash came rs key pad h blk f sin rt dg res) H := hP
    have hD : va_D A (wM cI cB r lim rdy ks opn mac byt hash came rs key pad h blk f sin rt dg res) := hD
    have hk : k ≤ 80 := hk
    have hq : (a, b, c1, d1, e1) = s1run f (h 0, h 1, h 2, h 3, h 4) k := hq
    refine lv_iload (pc := 161) hx hb d_M_one_161 (lv_at hl 6 rfl) ?_
    refine lv_bipush (pc := 163) (v := (nI 80)) hx hb d_M_one_163 (by decide) ?_
    refine xi_ge (pc := 165) (tgt := 277) hx hb d_M_one_165 (by decide) (by omega) (by omega) (fun c1x => ?_) (fun c1x => ?_)
    · have hs10 : k = 80 := by omega
      subst hs10
      refine lv_aload_n (pc := 277) hx hb d_M_one_277 rfl (lv_at hl 0 rfl) ?_
      refine va_get (pc := 278) (D := (dC, dI)) (ci := 1) (v := .ref (r 3)) (C := R_M) (T := F_M) (N := 18) hx hb hts i_M hown hK hP 0 rfl rfl 9 (by decide) (hts _ fl_M_20) (fun _ h9 => h9) rfl d_M_one_278 ?_
      refine lv_iconst (pc := 281) (v := (nI 0)) hx hb d_M_one_281 (by decide) ?_
      refine lv_dup2_11 (pc := 282) hx hb d_M_one_282 rfl rfl ?_
      refine xa_iald (pc := 283) hx hb hK hP 3 0 rfl rfl (by decide) (by decide) d_M_one_283 ?_
      refine lv_iload_n (pc := 284) hx hb d_M_one_284 rfl (lv_at hl 1 rfl) ?_
      refine lv_iadd (pc := 285) hx hb d_M_one_285 ?_
      refine xa_iast (pc := 286) (x := ((h 0) + a)) hx hb hK hP hD hS 3 0 rfl rfl (by decide) (by decide) d_M_one_286 (fun H locs hP hD hS => ?_)
      have hP : va_P (dC, dI) classes (wM cI cB r lim rdy ks opn mac byt hash came rs key pad (ad h 0 a) blk f sin rt dg res) H := hP
      have hD : va_D A (wM cI cB r lim rdy ks opn mac byt hash came rs key pad (ad h 0 a) blk f sin rt dg res) := hD
      refine lv_aload_n (pc := 287) hx hb d_M_one_287 rfl (lv_at hl 0 rfl) ?_
      refine va_get (pc := 288) (D := (dC, dI)) (ci := 1) (v := .ref (r 3)) (C := R_M) (T := F_M) (N := 18) hx hb hts i_M hown hK hP 0 rfl rfl 9 (by decide) (hts _ fl_M_20) (fun _ h9 => h9) rfl d_M_one_288 ?_
      refine lv_iconst (pc := 291) (v := (nI 1)) hx hb d_M_one_291 (by decide) ?_
      refine lv_dup2_11 (pc := 292) hx hb d_M_one_292 rfl rfl ?_
      refine xa_iald (pc := 293) hx hb hK hP 3 0 rfl rfl (by decide) (by decide) d_M_one_293 ?_
      refine lv_iload_n (pc := 294) hx hb d_M_one_294 rfl (lv_at hl 2 rfl) ?_
      refine lv_iadd (pc := 295) hx hb d_M_one_295 ?_
      refine xa_iast (pc := 296) (x := (((ad h 0 a) 1) + b)) hx hb hK hP hD hS 3 0 rfl rfl (by decide) (by decide) d_M_one_296 (fun H locs hP hD hS => ?_)
      have hP : va_P (dC, dI) classes (wM cI cB r lim rdy ks opn mac byt hash came rs key pad (ad (ad h 0 a) 1 b) blk f sin rt dg res) H := hP
      have hD : va_D A (wM cI cB r lim rdy ks opn mac byt hash came rs key pad (ad (ad h 0 a) 1 b) blk f sin rt dg res) := hD
      refine lv_aload_n (pc := 297) hx hb d_M_one_297 rfl (lv_at hl 0 rfl) ?_
      refine va_get (pc := 298) (D := (dC, dI)) (ci := 1) (v := .ref (r 3)) (C := R_M) (T := F_M) (N := 18) hx hb hts i_M hown hK hP 0 rfl rfl 9 (by decide) (hts _ fl_M_20) (fun _ h9 => h9) rfl d_M_one_298 ?_
      refine lv_iconst (pc := 301) (v := (nI 2)) hx hb d_M_one_301 (by decide) ?_
      refine lv_dup2_11 (pc := 302) hx hb d_M_one_302 rfl rfl ?_
      refine xa_iald (pc := 303) hx hb hK hP 3 0 rfl rfl (by decide) (by decide) d_M_one_303 ?_
      refine lv_iload_n (pc := 304) hx hb d_M_one_304 rfl (lv_at hl 3 rfl) ?_
      refine lv_iadd (pc := 305) hx hb d_M_one_305 ?_
      refine xa_iast (pc := 306) (x := (((ad (ad h 0 a) 1 b) 2) + c1)) hx hb hK hP hD hS 3 0 rfl rfl (by decide) (by decide) d_M_one_306 (fun H locs hP hD hS => ?_)
      have hP : va_P (dC, dI) classes (wM cI cB r lim rdy ks opn mac byt hash came rs key pad (ad (ad (ad h 0 a) 1 b) 2 c1) blk f sin rt dg res) H := hP
      have hD : va_D A (wM cI cB r lim rdy ks opn mac byt hash came rs key pad (ad (ad (ad h 0 a) 1 b) 2 c1) blk f sin rt dg res) := hD
      refine lv_aload_n (pc := 307) hx hb d_M_one_307 rfl (lv_at hl 0 rfl) ?_
      refine va_get (pc := 308) (D := (dC, dI)) (ci := 1) (v := .ref (r 3)) (C := R_M) (T := F_M) (N := 18) hx hb hts i_M hown hK hP 0 rfl rfl 9 (by decide) (hts _ fl_M_20) (fun _ h9 => h9) rfl d_M_one_308 ?_
      refine lv_iconst (pc := 311) (v := (nI 3)) hx hb d_M_one_311 (by decide) ?_
      refine lv_dup2_11 (pc := 312) hx hb d_M_one_312 rfl rfl ?_
      refine xa_iald (pc := 313) hx hb hK hP 3 0 rfl rfl (by decide) (by decide) d_M_one_313 ?_
      refine lv_iload (pc := 314) hx hb d_M_one_314 (lv_at hl 4 rfl) ?_
      refine lv_iadd (pc := 316) hx hb d_M_one_316 ?_
      refine xa_iast (pc := 317) (x := (((ad (ad (ad h 0 a) 1 b) 2 c1) 3) + d1)) hx hb hK hP hD hS 3 0 rfl rfl (by decide) (by decide) d_M_one_317 (fun H locs hP hD hS => ?_)
      have hP : va_P (dC, dI) classes (wM cI cB r lim rdy ks opn mac byt hash came rs key pad (ad (ad (ad (ad h 0 a) 1 b) 2 c1) 3 d1) blk f sin rt dg res) H := hP
      have hD : va_D A (wM cI cB r lim rdy ks opn mac byt hash came rs key pad (ad (ad (ad (ad h 0 a) 1 b) 2 c1) 3 d1) blk f sin rt dg res) := hD
      refine lv_aload_n (pc := 318) hx hb d_M_one_318 rfl (lv_at hl 0 rfl) ?_
      refine va_get (pc := 319) (D := (dC, dI)) (ci := 1) (v := .ref (r 3)) (C := R_M) (T := F_M) (N := 18) hx hb hts i_M hown hK hP 0 rfl rfl 9 (by decide) (hts _ fl_M_20) (fun _ h9 => h9) rfl d_M_one_319 ?_
      refine lv_iconst (pc := 322) (v := (nI 4)) hx hb d_M_one_322 (by decide) ?_
      refine lv_dup2_11 (pc := 323) hx hb d_M_one_323 rfl rfl ?_
      refine xa_iald (pc := 324) hx hb hK hP 3 0 rfl rfl (by decide) (by decide) d_M_one_324 ?_
      refine lv_iload (pc := 325) hx hb d_M_one_325 (lv_at hl 5 rfl) ?_
      refine lv_iadd (pc := 327) hx hb d_M_one_327 ?_
      refine xa_iast (pc := 328) (x := (((ad (ad (ad (ad h 0 a) 1 b) 2 c1) 3 d1) 4) + e1)) hx hb hK hP hD hS 3 0 rfl rfl (by decide) (by decide) d_M_one_328 (fun H locs hP hD hS => ?_)
      have hP : va_P (dC, dI) classes (wM cI cB r lim rdy ks opn mac byt hash came rs key pad (ad (ad (ad (ad (ad h 0 a) 1 b) 2 c1) 3 d1) 4 e1) blk f sin rt dg res) H := hP
      have hD : va_D A (wM cI cB r lim rdy ks opn mac byt hash came rs key pad (ad (ad (ad (ad (ad h 0 a) 1 b) 2 c1) 3 d1) 4 e1) blk f sin rt dg res) := hD
      exact W.vret hx hb hr (fun t ht hW => ⟨⟨((ad (ad (ad (ad (ad h 0 a) 1 b) 2 c1) 3 d1) 4 e1), f), rfl, by rw [← s1mix_congr hf]; show s1fin h (a, b, c1, d1, e1) = _; rw [hq]; rfl, by rw [ht]; exact hP, va_K.moved hW.alike hK, hD⟩, hS.F ht⟩) hS.2.2 d_M_one_329
    · refine lv_iload (pc := 168) hx hb d_M_one_168 (lv_at hl 6 rfl) ?_
      refine lv_bipush (pc := 170) (v := (nI 20)) hx hb d_M_one_170 (by decide) ?_
      refine xi_div (pc := 172) hx hb d_M_one_172 (by omega) (by decide) (by decide) ?_
      refine lv_istore (pc := 173) (lv' := [(7, .int (nI (k / 20))), (0, .ref (r 0)), (1, .int a), (2, .int b), (3, .int c1), (4, .int d1), (5, .int e1), (6, .int (nI k))]) hx hb d_M_one_173 hl (by decide) rfl (fun ls hl => ?_)
      refine jn_i (fun f1 : Int32 => f1 = s1f k b c1 d1) 221 ls [] (fun f1 ef1 => ?_) (fun J => ?_)
      · refine lv_istore (pc := 221) (lv' := [(8, .int f1), (7, .int (nI (k / 20))), (0, .ref (r 0)), (1, .int a), (2, .int b), (3, .int c1), (4, .int d1), (5, .int e1), (6, .int (nI k))]) hx hb d_M_one_221 hl (by decide) rfl (fun ls hl => ?_)
        refine lv_iload_n (pc := 223) hx hb d_M_one_223 rfl (lv_at hl 3 rfl) ?_
        refine lv_iconst (pc := 224) (v := (nI 5)) hx hb d_M_one_224 (by decide) ?_
        refine ksi (pc := 225) (As := [.int a, .int (nI 5)]) (rest := []) ⟨hx, hb, hml, hown, hts⟩ (c_M_left l a 5 (by decide)) (va_cwS 2 hts g_M_98 rfl rfl rfl hs_M_left ⟨by decide, by decide⟩) rfl hl.1 rfl (Nat.le_of_ble_eq_true rfl) d_M_one_225 ⟨by decide, by decide⟩ (fun r11 er12 => ?_)
        subst er12
        refine lv_iload (pc := 228) hx hb d_M_one_228 (lv_at hl 0 rfl) ?_
        refine lv_iadd (pc := 230) hx hb d_M_one_230 ?_
        refine lv_iload (pc := 231) hx hb d_M_one_231 (lv_at hl 7 rfl) ?_
        refine lv_iadd (pc := 233) hx hb d_M_one_233 ?_
        refine lv_aload_n (pc := 234) hx hb d_M_one_234 rfl (lv_at hl 2 rfl) ?_
        refine va_get (pc := 235) (D := (dC, dI)) (ci := 1) (v := .ref (r 7)) (C := R_M) (T := F_M) (N := 18) hx hb hts i_M hown hK hP 0 rfl rfl 14 (by decide) (hts _ fl_M_32) (fun _ h9 => h9) rfl d_M_one_235 ?_
        refine lv_iload (pc := 238) hx hb d_M_one_238 (lv_at hl 1 rfl) ?_
        refine xa_iald (pc := 240) hx hb hK hP 7 0 rfl rfl (by omega) (by decide) d_M_one_240 ?_
        refine xs_i (y := (addedT (k / 20))) (hrt _ (by omega)) ?_
        refine lv_iadd (pc := 241) hx hb d_M_one_241 ?_
        refine lv_aload_n (pc := 242) hx hb d_M_one_242 rfl (lv_at hl 2 rfl) ?_
        refine va_get (pc := 243) (D := (dC, dI)) (ci := 1) (v := .ref (r 5)) (C := R_M) (T := F_M) (N := 18) hx hb hts i_M hown hK hP 0 rfl rfl 12 (by decide) (hts _ fl_M_26) (fun _ h9 => h9) rfl d_M_one_243 ?_
        refine lv_iload (pc := 246) hx hb d_M_one_246 (lv_at hl 8 rfl) ?_
        refine xa_iald (pc := 248) hx hb hK hP 5 0 rfl rfl (by omega) (by decide) d_M_one_248 ?_
        refine lv_iadd (pc := 249) hx hb d_M_one_249 ?_
        refine lv_istore (pc := 250) (lv' := [(9, .int (((((rotl a (nI 5)) + f1) + e1) + (addedT (k / 20))) + (f k))), (8, .int f1), (7, .int (nI (k / 20))), (0, .ref (r 0)), (1, .int a), (2, .int b), (3, .int c1), (4, .int d1), (5, .int e1), (6, .int (nI k))]) hx hb d_M_one_250 hl (by decide) rfl (fun ls hl => ?_)
        refine lv_iload (pc := 252) hx hb d_M_one_252 (lv_at hl 7 rfl) ?_
        refine lv_istore (pc := 254) (lv' := [(5, .int d1), (9, .int (((((rotl a (nI 5)) + f1) + e1) + (addedT (k / 20))) + (f k))), (8, .int f1), (7, .int (nI (k / 20))), (0, .ref (r 0)), (1, .int a), (2, .int b), (3, .int c1), (4, .int d1), (6, .int (nI k))]) hx hb d_M_one_254 hl (by decide) rfl (fun ls hl => ?_)
        refine lv_iload_n (pc := 256) hx hb d_M_one_256 rfl (lv_at hl 7 rfl) ?_
        refine lv_istore (pc := 257) (lv' := [(4, .int c1), (5, .int d1), (9, .int (((((rotl a (nI 5)) + f1) + e1) + (addedT (k / 20))) + (f k))), (8, .int f1), (7, .int (nI (k / 20))), (0, .ref (r 0)), (1, .int a), (2, .int b), (3, .int c1), (6, .int (nI k))]) hx hb d_M_one_257 hl (by decide) rfl (fun ls hl => ?_)
        refine lv_iload_n (pc := 259) hx hb d_M_one_259 rfl (lv_at hl 7 rfl) ?_
        refine lv_bipush (pc := 260) (v := (nI 30)) hx hb d_M_one_260 (by decide) ?_
        refine ksi (pc := 262) (As := [.int b, .int (nI 30)]) (rest := []) ⟨hx, hb, hml, hown, hts⟩ (c_M_left l b 30 (by decide)) (va_cwS 2 hts g_M_98 rfl rfl rfl hs_M_left ⟨by decide, by decide⟩) rfl hl.1 rfl (Nat.le_of_ble_eq_true rfl) d_M_one_262 ⟨by decide, by decide⟩ (fun r13 er14 => ?_)
        subst er14
        refine lv_istore_n (pc := 265) (lv' := [(3, .int (rotl b (nI 30))), (4, .int c1), (5, .int d1), (9, .int (((((rotl a (nI 5)) + f1) + e1) + (addedT (k / 20))) + (f k))), (8, .int f1), (7, .int (nI (k / 20))), (0, .ref (r 0)), (1, .int a), (2, .int b), (6, .int (nI k))]) hx hb d_M_one_265 rfl hl (by decide) rfl (fun ls hl => ?_)
        refine lv_iload_n (pc := 266) hx hb d_M_one_266 rfl (lv_at hl 7 rfl) ?_
        refine lv_istore_n (pc := 267) (lv' := [(2, .int a), (3, .int (rotl b (nI 30))), (4, .int c1), (5, .int d1), (9, .int (((((rotl a (nI 5)) + f1) + e1) + (addedT (k / 20))) + (f k))), (8, .int f1), (7, .int (nI (k / 20))), (0, .ref (r 0)), (1, .int a), (6, .int (nI k))]) hx hb d_M_one_267 rfl hl (by decide) rfl (fun ls hl => ?_)
        refine lv_iload (pc := 268) hx hb d_M_one_268 (lv_at hl 4 rfl) ?_
        refine lv_istore_n (pc := 270) (lv' := [(1, .int (((((rotl a (nI 5)) + f1) + e1) + (addedT (k / 20))) + (f k))), (2, .int a), (3, .int (rotl b (nI 30))), (4, .int c1), (5, .int d1), (9, .int (((((rotl a (nI 5)) + f1) + e1) + (addedT (k / 20))) + (f k))), (8, .int f1), (7, .int (nI (k / 20))), (0, .ref (r 0)), (6, .int (nI k))]) hx hb d_M_one_270 rfl hl (by decide) rfl (fun ls hl => ?_)
        refine lv_iinc (pc := 271) (v := (nI (k + 1))) (lv' := [(6, .int (nI (k + 1))), (1, .int (((((rotl a (nI 5)) + f1) + e1) + (addedT (k / 20))) + (f k))), (2, .int a), (3, .int (rotl b (nI 30))), (4, .int c1), (5, .int d1), (9, .int (((((rotl a (nI 5)) + f1) + e1) + (addedT (k / 20))) + (f k))), (8, .int f1), (7, .int (nI (k / 20))), (0, .ref (r 0))]) hx hb d_M_one_271 hl (k := 9) rfl (inc1 _) (by decide) rfl (fun ls hl => ?_)
        refine lv_goto (pc := 274) (tgt := 161) hx hb d_M_one_274 (by decide) ?_
        exact ih2 (k + 1, rotl a (nI 5) + f1 + e1 + addedT (k / 20) + f k, a, rotl b (nI 30), c1, d1) _ _ _ (by show 80 - (k + 1) < 80 - k; omega) ⟨ls, rfl, lv_sub hl [9, 1, 2, 3, 4, 5, 0] rfl, hP, hD, hS, (show (k + 1) ≤ 80 from by omega), (show ((rotl a (nI 5) + f1 + e1 + addedT (k / 20) + f k), a, (rotl b (nI 30)), c1, d1) = s1run f (h 0, h 1, h 2, h 3, h 4) (k + 1) from by rw [ef1]; show s1step f k (a, b, c1, d1, e1) = s1step f k _; rw [hq])⟩
      · refine lv_iload (pc := 175) hx hb d_M_one_175 (lv_at hl 0 rfl) ?_
        refine xi_ne0 (pc := 177) (tgt := 193) hx hb d_M_one_177 (by decide) (by omega) (fun r0 => ?_) (fun r0 => ?_)
        · refine lv_iload (pc := 193) hx hb d_M_one_193 (lv_at hl 0 rfl) ?_
          refine lv_iconst (pc := 195) (v := (nI 2)) hx hb d_M_one_195 (by decide) ?_
          refine xi_ne (pc := 196) (tgt := 215) hx hb d_M_one_196 (by decide) (by omega) (by omega) (fun r2 => ?_) (fun r2 => ?_)
          · refine lv_iload_n (pc := 215) hx hb d_M_one_215 rfl (lv_at hl 3 rfl) ?_
            refine lv_iload_n (pc := 216) hx hb d_M_one_216 rfl (lv_at hl 4 rfl) ?_
            refine lv_ixor (pc := 217) hx hb d_M_one_217 ?_
            refine lv_iload (pc := 218) hx hb d_M_one_218 (lv_at hl 5 rfl) ?_
            refine lv_ixor (pc := 220) hx hb d_M_one_220 ?_
            exact J _ (by rw [s1f, if_neg r0, if_neg r2])
          · refine lv_iload_n (pc := 199) hx hb d_M_one_199 rfl (lv_at hl 3 rfl) ?_
            refine lv_iload_n (pc := 200) hx hb d_M_one_200 rfl (lv_at hl 4 rfl) ?_
            refine lv_iand (pc := 201) hx hb d_M_one_201 ?_
            refine lv_iload_n (pc := 202) hx hb d_M_one_202 rfl (lv_at hl 3 rfl) ?_
            refine lv_iload (pc := 203) hx hb d_M_one_203 (lv_at hl 5 rfl) ?_
            refine lv_iand (pc := 205) hx hb d_M_one_205 ?_
            refine lv_ior (pc := 206) hx hb d_M_one_206 ?_
            refine lv_iload_n (pc := 207) hx hb d_M_one_207 rfl (lv_at hl 4 rfl) ?_
            refine lv_iload (pc := 208) hx hb d_M_one_208 (lv_at hl 5 rfl) ?_
            refine lv_iand (pc := 210) hx hb d_M_one_210 ?_
            refine lv_ior (pc := 211) hx hb d_M_one_211 ?_
            refine lv_goto (pc := 212) (tgt := 221) hx hb d_M_one_212 (by decide) ?_
            exact J _ (by rw [s1f, if_neg r0, if_pos r2])
        · refine lv_iload_n (pc := 180) hx hb d_M_one_180 rfl (lv_at hl 3 rfl) ?_
          refine lv_iload_n (pc := 181) hx hb d_M_one_181 rfl (lv_at hl 4 rfl) ?_
          refine lv_iand (pc := 182) hx hb d_M_one_182 ?_
          refine lv_iload_n (pc := 183) hx hb d_M_one_183 rfl (lv_at hl 3 rfl) ?_
          refine lv_iconst (pc := 184) (v := (-1)) hx hb d_M_one_184 (by decide) ?_
          refine lv_ixor (pc := 185) hx hb d_M_one_185 ?_
          refine lv_iload (pc := 186) hx hb d_M_one_186 (lv_at hl 5 rfl) ?_
          refine lv_iand (pc := 188) hx hb d_M_one_188 ?_
          refine lv_ior (pc := 189) hx hb d_M_one_189 ?_
          refine lv_goto (pc := 190) (tgt := 221) hx hb d_M_one_190 (by decide) ?_
          exact J _ (by rw [s1f, if_pos r0]; rfl)
  · refine lv_aload_n (pc := 8) hx hb d_M_one_8 rfl (lv_at hl 0 rfl) ?_
    refine va_get (pc := 9) (D := (dC, dI)) (ci := 1) (v := .ref (r 5)) (C := R_M) (T := F_M) (N := 18) hx hb hts i_M hown hK hP 0 rfl rfl 12 (by decide) (hts _ fl_M_26) (fun _ h9 => h9) rfl d_M_one_9 ?_
    refine lv_iload_n (pc := 12) hx hb d_M_one_12 rfl (lv_at hl 1 rfl) ?_
    refine jn_i (fun x1 : Int32 => x1 = s1xs (wof (nI 1) blk) (k + 1 - 16) k) 114 ls [.int (nI k), .ref (r 5)] (fun x1 ex1 => ?_) (fun J => ?_)
    · refine xa_iast (pc := 114) (x := x1) hx hb hK hP hD hS 5 0 rfl rfl (by omega) (by decide) d_M_one_114 (fun H locs hP hD hS => ?_)
      have hP : va_P (dC, dI) classes (wM cI cB r lim rdy ks opn mac byt hash came rs key pad h blk (upd f k x1) sin rt dg res) H := hP
      have hD : va_D A (wM cI cB r lim rdy ks opn mac byt hash came rs key pad h blk (upd f k x1) sin rt dg res) := hD
      refine lv_iinc (pc := 115) (v := (nI (k + 1))) (lv' := [(1, .int (nI (k + 1))), (0, .ref (r 0))]) hx hb d_M_one_115 hl (k := 1) rfl (inc1 _) (by decide) rfl (fun ls hl => ?_)
      refine lv_goto (pc := 118) (tgt := 2) hx hb d_M_one_118 (by decide) ?_
      exact ih (k + 1, upd f k x1) _ _ _ (by show 80 - (k + 1) < 80 - k; omega) ⟨ls, rfl, lv_sub hl [1, 0] rfl, hP, hD, hS, (show (k + 1) ≤ 80 from by omega), (show ∀ j, j < (k + 1) → (upd f k x1) j = s1xs (wof (nI 1) blk) ((k + 1) - 16) j from s1_upd hf ex1)⟩
    · refine lv_iload_n (pc := 13) hx hb d_M_one_13 rfl (lv_at hl 1 rfl) ?_
      refine lv_bipush (pc := 14) (v := (nI 16)) hx hb d_M_one_14 (by decide) ?_
      refine xi_ge (pc := 16) (tgt := 72) hx hb d_M_one_16 (by decide) (by omega) (by omega) (fun c2 => ?_) (fun c2 => ?_)
      · refine lv_aload_n (pc := 72) hx hb d_M_one_72 rfl (lv_at hl 0 rfl) ?_
        refine va_get (pc := 73) (D := (dC, dI)) (ci := 1) (v := .ref (r 5)) (C := R_M) (T := F_M) (N := 18) hx hb hts i_M hown hK hP 0 rfl rfl 12 (by decide) (hts _ fl_M_26) (fun _ h9 => h9) rfl d_M_one_73 ?_
        refine lv_iload_n (pc := 76) hx hb d_M_one_76 rfl (lv_at hl 1 rfl) ?_
        refine lv_iconst (pc := 77) (v := (nI 3)) hx hb d_M_one_77 (by decide) ?_
        refine xi_sub (pc := 78) hx hb d_M_one_78 (by omega) ?_
        refine xa_iald (pc := 79) hx hb hK hP 5 0 rfl rfl (by omega) (by decide) d_M_one_79 ?_
        refine lv_aload_n (pc := 80) hx hb d_M_one_80 rfl (lv_at hl 0 rfl) ?_
        refine va_get (pc := 81) (D := (dC, dI)) (ci := 1) (v := .ref (r 5)) (C := R_M) (T := F_M) (N := 18) hx hb hts i_M hown hK hP 0 rfl rfl 12 (by decide) (hts _ fl_M_26) (fun _ h9 => h9) rfl d_M_one_81 ?_
        refine lv_iload_n (pc := 84) hx hb d_M_one_84 rfl (lv_at hl 1 rfl) ?_
        refine lv_bipush (pc := 85) (v := (nI 8)) hx hb d_M_one_85 (by decide) ?_
        refine xi_sub (pc := 87) hx hb d_M_one_87 (by omega) ?_
        refine xa_iald (pc := 88) hx hb hK hP 5 0 rfl rfl (by omega) (by decide) d_M_one_88 ?_
        refine lv_ixor (pc := 89) hx hb d_M_one_89 ?_
        refine lv_aload_n (pc := 90) hx hb d_M_one_90 rfl (lv_at hl 0 rfl) ?_
        refine va_get (pc := 91) (D := (dC, dI)) (ci := 1) (v := .ref (r 5)) (C := R_M) (T := F_M) (N := 18) hx hb hts i_M hown hK hP 0 rfl rfl 12 (by decide) (hts _ fl_M_26) (fun _ h9 => h9) rfl d_M_one_91 ?_
        refine lv_iload_n (pc := 94) hx hb d_M_one_94 rfl (lv_at hl 1 rfl) ?_
        refine lv_bipush (pc := 95) (v := (nI 14)) hx hb d_M_one_95 (by decide) ?_
        refine xi_sub (pc := 97) hx hb d_M_one_97 (by omega) ?_
        refine xa_iald (pc := 98) hx hb hK hP 5 0 rfl rfl (by omega) (by decide) d_M_one_98 ?_
        refine lv_ixor (pc := 99) hx hb d_M_one_99 ?_
        refine lv_aload_n (pc := 100) hx hb d_M_one_100 rfl (lv_at hl 0 rfl) ?_
        refine va_get (pc := 101) (D := (dC, dI)) (ci := 1) (v := .ref (r 5)) (C := R_M) (T := F_M) (N := 18) hx hb hts i_M hown hK hP 0 rfl rfl 12 (by decide) (hts _ fl_M_26) (fun _ h9 => h9) rfl d_M_one_101 ?_
        refine lv_iload_n (pc := 104) hx hb d_M_one_104 rfl (lv_at hl 1 rfl) ?_
        refine lv_bipush (pc := 105) (v := (nI 16)) hx hb d_M_one_105 (by decide) ?_
        refine xi_sub (pc := 107) hx hb d_M_one_107 (by omega) ?_
        refine xa_iald (pc := 108) hx hb hK hP 5 0 rfl rfl (by omega) (by decide) d_M_one_108 ?_
        refine lv_ixor (pc := 109) hx hb d_M_one_109 ?_
        refine lv_iconst (pc := 110) (v := (nI 1)) hx hb d_M_one_110 (by decide) ?_
        refine ksi (pc := 111) (As := [.int ((((f (k - 3)) ^^^ (f (k - 8))) ^^^ (f (k - 14))) ^^^ (f (k - 16))), .int (nI 1)]) (rest := [.int (nI k), .ref (r 5)]) ⟨hx, hb, hml, hown, hts⟩ (c_M_left l ((((f (k - 3)) ^^^ (f (k - 8))) ^^^ (f (k - 14))) ^^^ (f (k - 16))) 1 (by decide)) (va_cwS 2 hts g_M_98 rfl rfl rfl hs_M_left ⟨by decide, by decide⟩) rfl hl.1 rfl (Nat.le_of_ble_eq_true rfl) d_M_one_111 ⟨by decide, by decide⟩ (fun r7 er8 => ?_)
        subst er8
        exact J _ (s1_hi c2 hf)
      · refine lv_aload_n (pc := 19) hx hb d_M_one_19 rfl (lv_at hl 0 rfl) ?_
        refine va_get (pc := 20) (D := (dC, dI)) (ci := 1) (v := .ref (r 4)) (C := R_M) (T := F_M) (N := 18) hx hb hts i_M hown hK hP 0 rfl rfl 10 (by decide) (hts _ fl_M_23) (fun _ h9 => h9) rfl d_M_one_20 ?_
        refine lv_iconst (pc := 23) (v := (nI 4)) hx hb d_M_one_23 (by decide) ?_
        refine lv_iload_n (pc := 24) hx hb d_M_one_24 rfl (lv_at hl 1 rfl) ?_
        refine xi_mul (pc := 25) hx hb d_M_one_25 ?_
        refine xa_iald (pc := 26) hx hb hK hP 4 0 rfl rfl (by omega) (by decide) d_M_one_26 ?_
        refine lv_bipush (pc := 27) (v := (nI 24)) hx hb d_M_one_27 (by decide) ?_
        refine lv_ishl (pc := 29) hx hb d_M_one_29 ?_
        refine lv_aload_n (pc := 30) hx hb d_M_one_30 rfl (lv_at hl 0 rfl) ?_
        refine va_get (pc := 31) (D := (dC, dI)) (ci := 1) (v := .ref (r 4)) (C := R_M) (T := F_M) (N := 18) hx hb hts i_M hown hK hP 0 rfl rfl 10 (by decide) (hts _ fl_M_23) (fun _ h9 => h9) rfl d_M_one_31 ?_
        refine lv_iconst (pc := 34) (v := (nI 4)) hx hb d_M_one_34 (by decide) ?_
        refine lv_iload_n (pc := 35) hx hb d_M_one_35 rfl (lv_at hl 1 rfl) ?_
        refine xi_mul (pc := 36) hx hb d_M_one_36 ?_
        refine lv_iconst (pc := 37) (v := (nI 1)) hx hb d_M_one_37 (by decide) ?_
        refine xi_add (pc := 38) hx hb d_M_one_38 ?_
        refine xa_iald (pc := 39) hx hb hK hP 4 0 rfl rfl (by omega) (by decide) d_M_one_39 ?_
        refine lv_bipush (pc := 40) (v := (nI 16)) hx hb d_M_one_40 (by decide) ?_
        refine lv_ishl (pc := 42) hx hb d_M_one_42 ?_
        refine lv_ior (pc := 43) hx hb d_M_one_43 ?_
        refine lv_aload_n (pc := 44) hx hb d_M_one_44 rfl (lv_at hl 0 rfl) ?_
        refine va_get (pc := 45) (D := (dC, dI)) (ci := 1) (v := .ref (r 4)) (C := R_M) (T := F_M) (N := 18) hx hb hts i_M hown hK hP 0 rfl rfl 10 (by decide) (hts _ fl_M_23) (fun _ h9 => h9) rfl d_M_one_45 ?_
        refine lv_iconst (pc := 48) (v := (nI 4)) hx hb d_M_one_48 (by decide) ?_
        refine lv_iload_n (pc := 49) hx hb d_M_one_49 rfl (lv_at hl 1 rfl) ?_
        refine xi_mul (pc := 50) hx hb d_M_one_50 ?_
        refine lv_iconst (pc := 51) (v := (nI 2)) hx hb d_M_one_51 (by decide) ?_
        refine xi_add (pc := 52) hx hb d_M_one_52 ?_
        refine xa_iald (pc := 53) hx hb hK hP 4 0 rfl rfl (by omega) (by decide) d_M_one_53 ?_
        refine lv_bipush (pc := 54) (v := (nI 8)) hx hb d_M_one_54 (by decide) ?_
        refine lv_ishl (pc := 56) hx hb d_M_one_56 ?_
        refine lv_ior (pc := 57) hx hb d_M_one_57 ?_
        refine lv_aload_n (pc := 58) hx hb d_M_one_58 rfl (lv_at hl 0 rfl) ?_
        refine va_get (pc := 59) (D := (dC, dI)) (ci := 1) (v := .ref (r 4)) (C := R_M) (T := F_M) (N := 18) hx hb hts i_M hown hK hP 0 rfl rfl 10 (by decide) (hts _ fl_M_23) (fun _ h9 => h9) rfl d_M_one_59 ?_
        refine lv_iconst (pc := 62) (v := (nI 4)) hx hb d_M_one_62 (by decide) ?_
        refine lv_iload_n (pc := 63) hx hb d_M_one_63 rfl (lv_at hl 1 rfl) ?_
        refine xi_mul (pc := 64) hx hb d_M_one_64 ?_
        refine lv_iconst (pc := 65) (v := (nI 3)) hx hb d_M_one_65 (by decide) ?_
        refine xi_add (pc := 66) hx hb d_M_one_66 ?_
        refine xa_iald (pc := 67) hx hb hK hP 4 0 rfl rfl (by omega) (by decide) d_M_one_67 ?_
        refine lv_ior (pc := 68) hx hb d_M_one_68 ?_
        refine xs_i (y := (wof (nI 1) blk k)) (wof_1) ?_
        refine lv_goto (pc := 69) (tgt := 114) hx hb d_M_one_69 (by decide) ?_
        exact J _ ((s1_lo c2).symm)
end
section
theorem mayS_neg {rdy wh : Int32} (h : wh < 0) : mayS rdy wh = 0 := by
  unfold mayS
  split
  · rfl
  · rw [if_neg (fun z => by rw [z] at h; exact absurd h (by decide)), if_neg (fun z => by rw [z] at h; exact absurd h (by decide))]; rfl
theorem mayS_big {rdy wh : Int32} (h : ¬ wh ≤ nI 1) : mayS rdy wh = 0 := by
  unfold mayS
  split
  · rfl
  · rw [if_neg (fun z => h (by rw [z]; decide)), if_neg (fun z => h (by rw [z]; decide))]; rfl
theorem mayS_no {rdy wh : Int32} (h : rdy = 0) : mayS rdy wh = 0 := by rw [mayS, if_pos h]; rfl
theorem mayS_ok {rdy wh : Int32} (h : ¬ rdy = 0) (h0 : ¬ wh < 0) (h1 : wh ≤ nI 1) : ¬ mayS rdy wh = 0 := by
  obtain ⟨j, hj, rfl⟩ := nI_of2 (M := nI 1) (n := 1) (by decide) h0 h1
  have : j = 0 ∨ j = 1 := by omega
  rcases this with rfl | rfl
  · rw [mayS, if_neg h, if_pos (by decide)]; decide
  · rw [mayS, if_neg h, if_neg (by decide), if_pos rfl]; decide
theorem mayS_or {rdy wh : Int32} (h : ¬ mayS rdy wh = 0) : ¬ rdy = 0 ∧ (wh = 0 ∨ wh = nI 1) := by
  unfold mayS at h
  by_cases c : rdy = 0
  · rw [if_pos c] at h; exact absurd rfl h
  · rw [if_neg c] at h
    by_cases c1 : wh = 0
    · exact ⟨c, Or.inl c1⟩
    · rw [if_neg c1] at h
      by_cases c2 : wh = nI 1
      · exact ⟨c, Or.inr c2⟩
      · rw [if_neg c2] at h; exact absurd rfl h
theorem hputM_1 {alg b : Int32} {st blk : Nat → Int32} {n : Nat} (h : n % 64 = 63) (c : alg = 0) : m5mix st (wof 0 (upd blk (n % 64) b)) = (hput alg b (st, blk, n)).1 := by
  rw [hput_2 h, comp, if_pos c, c]
theorem hputM_2 {alg b : Int32} {st blk : Nat → Int32} {n : Nat} (h : n % 64 = 63) (c : ¬ alg = 0) : s1mix st (s1xs (wof (nI 1) (upd blk (n % 64) b)) 64) = (hput alg b (st, blk, n)).1 := by
  rw [hput_2 h, comp, if_neg c, wof_ne c]
end
section
set_option maxHeartbeats 4000000 in
set_option maxRecDepth 100000 in
theorem c_M_width (l : Launch) (dC : Nat → ClassId) (dI : Nat → Nat → Nat) (cI cB : ClassId) (r : Nat → Nat) (sz : Nat) (lim rdy ks opn mac hash rs : Int32) (byt came : Int64) (key pad h blk w sin rt dg res : Nat → Int32)  : Met l y_M_width (k_M_width :: tT) ({ frames := 0, cells := 0, slots := 0, locals := 0 }) (va_Pc [.ref (r 0)] (pD (dC, dI) cI cB sz (wM cI cB r lim rdy ks opn mac byt hash came rs key pad h blk w sin rt dg res))) (va_Qi (fun (rr : Int32) (u : Unit) => rr = nI (hlen hash)) (fun u t => qD (dC, dI) cI cB (va_A (wM cI cB r lim rdy ks opn mac byt hash came rs key pad h blk w sin rt dg res) sz) (wM cI cB r lim rdy ks opn mac byt hash came rs key pad h blk w sin rt dg res) t) (va_A (wM cI cB r lim rdy ks opn mac byt hash came rs key pad h blk w sin rt dg res) sz)) 0 0 (va_A (wM cI cB r lim rdy ks opn mac byt hash came rs key pad h blk w sin rt dg res) sz) := by
  refine Met.ofW (cc := b_M_width) (maxL := 1) (ret := (some .int)) (by decide) rfl ?_
  intro p e s m args below meth c s₁ B hml hv
  obtain ⟨rfl, hsz, hP, hK, hD0, hST⟩ := hv
  have hx := B.exec
  have hb := B.bytes
  have hr := B.returns
  have hts : ∀ w ∈ tT, w.before _ s = true := fun w h => atoms_spec (ws := k_M_width :: tT) B.pre w (List.mem_cons_of_mem _ h)
  have hown : s.vm.findClass R_M = some m.cls := findClass_of_methodNamed B.named
  have hlocks := B.notSynchronized
  subst hsz
  have hD := hD0.self (sz := s.heap.size)
  generalize hAe : va_A (wM cI cB r lim rdy ks opn mac byt hash came rs key pad h blk w sin rt dg res) s.heap.size = A at hD hST ⊢
  have hA : ∀ q : Nat, s.heap.size ≤ q → A q := fun q h => by rw [← hAe]; exact Or.inr h
  have hS : va_S A s.heap s.heap [] := va_S.rf
  have hP : va_P (dC, dI) classes (wM cI cB r lim rdy ks opn mac byt hash came rs key pad h blk w sin rt dg res) s.heap := hP
  have hl := lv_entry ([.ref (r 0)]) (n := 1) (Nat.le_of_ble_eq_true rfl)
  rw [lg_entry_eq]
  generalize (lg_sl ([.ref (r 0)]) ++ List.replicate (1 - (lg_sl ([.ref (r 0)])).length) Slot.unset).toArray = ls at hl ⊢
  have hl : lv_has ls 1 [(0, .ref (r 0))] := hl
  refine lv_aload_n (pc := 0) hx hb d_M_width_0 rfl (lv_at hl 0 rfl) ?_
  refine va_get (pc := 1) (D := (dC, dI)) (ci := 1) (v := .int hash) (C := R_M) (T := F_M) (N := 18) hx hb hts i_M hown hK hP 0 rfl rfl 8 (by decide) (hts _ fl_M_74) (fun _ h9 => h9) rfl d_M_width_1 ?_
  refine lv_if_ne (pc := 4) (tgt := 12) hx hb d_M_width_4 (by decide) (fun c0 => ?_) (fun c0 => ?_)
  · refine lv_bipush (pc := 12) (v := (nI 20)) hx hb d_M_width_12 (by decide) ?_
    exact W.iret (v := (nI 20)) hx hb hr (fun t ht hW => ⟨⟨(nI 20), (), rfl, by rw [hlen, if_neg c0], by rw [ht]; exact hP, va_K.moved hW.alike hK, hD⟩, hS.F ht⟩) hS.2.2 d_M_width_14
  · refine lv_bipush (pc := 7) (v := (nI 16)) hx hb d_M_width_7 (by decide) ?_
    refine lv_goto (pc := 9) (tgt := 14) hx hb d_M_width_9 (by decide) ?_
    exact W.iret (v := (nI 16)) hx hb hr (fun t ht hW => ⟨⟨(nI 16), (), rfl, by rw [hlen, if_pos c0], by rw [ht]; exact hP, va_K.moved hW.alike hK, hD⟩, hS.F ht⟩) hS.2.2 d_M_width_14
set_option maxHeartbeats 4000000 in
set_option maxRecDepth 100000 in
theorem c_M_begin (l : Launch) (dC : Nat → ClassId) (dI : Nat → Nat → Nat) (cI cB : ClassId) (r : Nat → Nat) (sz : Nat) (lim rdy ks opn mac hash rs : Int32) (byt came : Int64) (key pad h blk w sin rt dg res : Nat → Int32) (wh : Int32)  : Met l y_M_begin (k_M_begin :: tT) ({ frames := 0, cells := 0, slots := 0, locals := 0 }) (va_Pc [.ref (r 0), .int wh] (pD (dC, dI) cI cB sz (wM cI cB r lim rdy ks opn mac byt hash came rs key pad h blk w sin rt dg res))) (va_Qv (fun u : Unit => True) (fun u t => qD (dC, dI) cI cB (va_A (wM cI cB r lim rdy ks opn mac byt hash came rs key pad h blk w sin rt dg res) sz) (wM cI cB r lim rdy ks opn mac byt wh (lN 0) rs key pad (hini h) blk w sin rt dg res) t) (va_A (wM cI cB r lim rdy ks opn mac byt hash came rs key pad h blk w sin rt dg res) sz)) 0 0 (va_A (wM cI cB r lim rdy ks opn mac byt hash came rs key pad h blk w sin rt dg res) sz) := by
  refine Met.ofW (cc := b_M_begin) (maxL := 2) (ret := none) (by decide) rfl ?_
  intro p e s m args below meth c s₁ B hml hv
  obtain ⟨rfl, hsz, hP, hK, hD0, hST⟩ := hv
  have hx := B.exec
  have hb := B.bytes
  have hr := B.returns
  have hts : ∀ w ∈ tT, w.before _ s = true := fun w h => atoms_spec (ws := k_M_begin :: tT) B.pre w (List.mem_cons_of_mem _ h)
  have hown : s.vm.findClass R_M = some m.cls := findClass_of_methodNamed B.named
  have hlocks := B.notSynchronized
  subst hsz
  have hD := hD0.self (sz := s.heap.size)
  generalize hAe : va_A (wM cI cB r lim rdy ks opn mac byt hash came rs key pad h blk w sin rt dg res) s.heap.size = A at hD hST ⊢
  have hA : ∀ q : Nat, s.heap.size ≤ q → A q := fun q h => by rw [← hAe]; exact Or.inr h
  have hS : va_S A s.heap s.heap [] := va_S.rf
  have hP : va_P (dC, dI) classes (wM cI cB r lim rdy ks opn mac byt hash came rs key pad h blk w sin rt dg res) s.heap := hP
  have hl := lv_entry ([.ref (r 0), .int wh]) (n := 2) (Nat.le_of_ble_eq_true rfl)
  rw [lg_entry_eq]
  generalize (lg_sl ([.ref (r 0), .int wh]) ++ List.replicate (2 - (lg_sl ([.ref (r 0), .int wh])).length) Slot.unset).toArray = ls at hl ⊢
  have hl : lv_has ls 2 [(0, .ref (r 0)), (1, .int wh)] := hl
  refine lv_aload_n (pc := 0) hx hb d_M_begin_0 rfl (lv_at hl 0 rfl) ?_
  refine lv_iload_n (pc := 1) hx hb d_M_begin_1 rfl (lv_at hl 1 rfl) ?_
  refine va_put (pc := 2) (D := (dC, dI)) (ci := 1) (v := .int wh) (ty := .int) (C := R_M) (T := F_M) (N := 18) hx hb hts i_M t_M t_M_ok n_M hown hK hP hD hS 0 rfl rfl 8 (by decide) (hts _ fl_M_74) (fun _ h9 => h9) rfl (by decide +kernel) rfl rfl (Nat.le_of_ble_eq_true rfl) d_M_begin_2 (fun H locs hP hD hS => ?_)
  have hP : va_P (dC, dI) classes (wM cI cB r lim rdy ks opn mac byt wh came rs key pad h blk w sin rt dg res) H := hP
  have hD : va_D A (wM cI cB r lim rdy ks opn mac byt wh came rs key pad h blk w sin rt dg res) := hD
  refine lv_aload_n (pc := 5) hx hb d_M_begin_5 rfl (lv_at hl 0 rfl) ?_
  refine va_get (pc := 6) (D := (dC, dI)) (ci := 1) (v := .ref (r 3)) (C := R_M) (T := F_M) (N := 18) hx hb hts i_M hown hK hP 0 rfl rfl 9 (by decide) (hts _ fl_M_20) (fun _ h9 => h9) rfl d_M_begin_6 ?_
  refine lv_iconst (pc := 9) (v := (nI 0)) hx hb d_M_begin_9 (by decide) ?_
  refine lv_ldc (pc := 10) hx hb hown (hts _ cn_M_77) d_M_begin_10 ?_
  refine xa_iast (pc := 12) (x := (1732584193)) hx hb hK hP hD hS 3 0 rfl rfl (by decide) (by decide) d_M_begin_12 (fun H locs hP hD hS => ?_)
  have hP : va_P (dC, dI) classes (wM cI cB r lim rdy ks opn mac byt wh came rs key pad (upd h 0 (startT 0)) blk w sin rt dg res) H := hP
  have hD : va_D A (wM cI cB r lim rdy ks opn mac byt wh came rs key pad (upd h 0 (startT 0)) blk w sin rt dg res) := hD
  refine lv_aload_n (pc := 13) hx hb d_M_begin_13 rfl (lv_at hl 0 rfl) ?_
  refine va_get (pc := 14) (D := (dC, dI)) (ci := 1) (v := .ref (r 3)) (C := R_M) (T := F_M) (N := 18) hx hb hts i_M hown hK hP 0 rfl rfl 9 (by decide) (hts _ fl_M_20) (fun _ h9 => h9) rfl d_M_begin_14 ?_
  refine lv_iconst (pc := 17) (v := (nI 1)) hx hb d_M_begin_17 (by decide) ?_
  refine lv_ldc (pc := 18) hx hb hown (hts _ cn_M_78) d_M_begin_18 ?_
  refine xa_iast (pc := 20) (x := (-271733879)) hx hb hK hP hD hS 3 0 rfl rfl (by decide) (by decide) d_M_begin_20 (fun H locs hP hD hS => ?_)
  have hP : va_P (dC, dI) classes (wM cI cB r lim rdy ks opn mac byt wh came rs key pad (upd (upd h 0 (startT 0)) 1 (startT 1)) blk w sin rt dg res) H := hP
  have hD : va_D A (wM cI cB r lim rdy ks opn mac byt wh came rs key pad (upd (upd h 0 (startT 0)) 1 (startT 1)) blk w sin rt dg res) := hD
  refine lv_aload_n (pc := 21) hx hb d_M_begin_21 rfl (lv_at hl 0 rfl) ?_
  refine va_get (pc := 22) (D := (dC, dI)) (ci := 1) (v := .ref (r 3)) (C := R_M) (T := F_M) (N := 18) hx hb hts i_M hown hK hP 0 rfl rfl 9 (by decide) (hts _ fl_M_20) (fun _ h9 => h9) rfl d_M_begin_22 ?_
  refine lv_iconst (pc := 25) (v := (nI 2)) hx hb d_M_begin_25 (by decide) ?_
  refine lv_ldc (pc := 26) hx hb hown (hts _ cn_M_79) d_M_begin_26 ?_
  refine xa_iast (pc := 28) (x := (-1732584194)) hx hb hK hP hD hS 3 0 rfl rfl (by decide) (by decide) d_M_begin_28 (fun H locs hP hD hS => ?_)
  have hP : va_P (dC, dI) classes (wM cI cB r lim rdy ks opn mac byt wh came rs key pad (upd (upd (upd h 0 (startT 0)) 1 (startT 1)) 2 (startT 2)) blk w sin rt dg res) H := hP
  have hD : va_D A (wM cI cB r lim rdy ks opn mac byt wh came rs key pad (upd (upd (upd h 0 (startT 0)) 1 (startT 1)) 2 (startT 2)) blk w sin rt dg res) := hD
  refine lv_aload_n (pc := 29) hx hb d_M_begin_29 rfl (lv_at hl 0 rfl) ?_
  refine va_get (pc := 30) (D := (dC, dI)) (ci := 1) (v := .ref (r 3)) (C := R_M) (T := F_M) (N := 18) hx hb hts i_M hown hK hP 0 rfl rfl 9 (by decide) (hts _ fl_M_20) (fun _ h9 => h9) rfl d_M_begin_30 ?_
  refine lv_iconst (pc := 33) (v := (nI 3)) hx hb d_M_begin_33 (by decide) ?_
  refine lv_ldc (pc := 34) hx hb hown (hts _ cn_M_80) d_M_begin_34 ?_
  refine xa_iast (pc := 36) (x := (271733878)) hx hb hK hP hD hS 3 0 rfl rfl (by decide) (by decide) d_M_begin_36 (fun H locs hP hD hS => ?_)
  have hP : va_P (dC, dI) classes (wM cI cB r lim rdy ks opn mac byt wh came rs key pad (upd (upd (upd (upd h 0 (startT 0)) 1 (startT 1)) 2 (startT 2)) 3 (startT 3)) blk w sin rt dg res) H := hP
  have hD : va_D A (wM cI cB r lim rdy ks opn mac byt wh came rs key pad (upd (upd (upd (upd h 0 (startT 0)) 1 (startT 1)) 2 (startT 2)) 3 (startT 3)) blk w sin rt dg res) := hD
  refine lv_aload_n (pc := 37) hx hb d_M_begin_37 rfl (lv_at hl 0 rfl) ?_
  refine va_get (pc := 38) (D := (dC, dI)) (ci := 1) (v := .ref (r 3)) (C := R_M) (T := F_M) (N := 18) hx hb hts i_M hown hK hP 0 rfl rfl 9 (by decide) (hts _ fl_M_20) (fun _ h9 => h9) rfl d_M_begin_38 ?_
  refine lv_iconst (pc := 41) (v := (nI 4)) hx hb d_M_begin_41 (by decide) ?_
  refine lv_ldc (pc := 42) hx hb hown (hts _ cn_M_81) d_M_begin_42 ?_
  refine xa_iast (pc := 44) (x := (-1009589776)) hx hb hK hP hD hS 3 0 rfl rfl (by decide) (by decide) d_M_begin_44 (fun H locs hP hD hS => ?_)
  have hP : va_P (dC, dI) classes (wM cI cB r lim rdy ks opn mac byt wh came rs key pad (upd (upd (upd (upd (upd h 0 (startT 0)) 1 (startT 1)) 2 (startT 2)) 3 (startT 3)) 4 (startT 4)) blk w sin rt dg res) H := hP
  have hD : va_D A (wM cI cB r lim rdy ks opn mac byt wh came rs key pad (upd (upd (upd (upd (upd h 0 (startT 0)) 1 (startT 1)) 2 (startT 2)) 3 (startT 3)) 4 (startT 4)) blk w sin rt dg res) := hD
  refine lv_aload_n (pc := 45) hx hb d_M_begin_45 rfl (lv_at hl 0 rfl) ?_
  refine lv_lconst (pc := 46) (v := (lN 0)) hx hb d_M_begin_46 rfl ?_
  refine va_put (pc := 47) (D := (dC, dI)) (ci := 1) (v := .long (lN 0)) (ty := .long) (C := R_M) (T := F_M) (N := 18) hx hb hts i_M t_M t_M_ok n_M hown hK hP hD hS 0 rfl rfl 11 (by decide) (hts _ fl_M_82) (fun _ h9 => h9) rfl (by decide +kernel) rfl rfl (Nat.le_of_ble_eq_true rfl) d_M_begin_47 (fun H locs hP hD hS => ?_)
  have hP : va_P (dC, dI) classes (wM cI cB r lim rdy ks opn mac byt wh (lN 0) rs key pad (upd (upd (upd (upd (upd h 0 (startT 0)) 1 (startT 1)) 2 (startT 2)) 3 (startT 3)) 4 (startT 4)) blk w sin rt dg res) H := hP
  have hD : va_D A (wM cI cB r lim rdy ks opn mac byt wh (lN 0) rs key pad (upd (upd (upd (upd (upd h 0 (startT 0)) 1 (startT 1)) 2 (startT 2)) 3 (startT 3)) 4 (startT 4)) blk w sin rt dg res) := hD
  exact W.vret hx hb hr (fun t ht hW => ⟨⟨(), rfl, trivial, by rw [ht]; exact hP, va_K.moved hW.alike hK, hD⟩, hS.F ht⟩) hS.2.2 d_M_begin_50
set_option maxHeartbeats 4000000 in
set_option maxRecDepth 100000 in
theorem c_M_add (l : Launch) (dC : Nat → ClassId) (dI : Nat → Nat → Nat) (cI cB : ClassId) (r : Nat → Nat) (sz : Nat) (lim rdy ks opn mac hash rs : Int32) (byt : Int64) (key pad h blk w sin rt dg res : Nat → Int32) (n : Nat) (b : Int32) (hn : n < 2 ^ 61) (hsin : ∀ j, j < 64 → sin j = sinesT j) (hrt : ∀ j, j < 4 → rt j = addedT j) : Met l y_M_add (k_M_add :: tT) ({ frames := 2, cells := 0, slots := 0, locals := 51 }) (va_Pc [.ref (r 0), .int b] (pD (dC, dI) cI cB sz (wM cI cB r lim rdy ks opn mac byt hash (lN n) rs key pad h blk w sin rt dg res))) (va_Qv (fun u : (Nat → Int32) × (Nat → Int32) => u.1 = (hput hash b (h, blk, n)).1) (fun u t => qD (dC, dI) cI cB (va_A (wM cI cB r lim rdy ks opn mac byt hash (lN n) rs key pad h blk w sin rt dg res) sz) (wM cI cB r lim rdy ks opn mac byt hash (lN (n + 1)) rs key pad u.1 (upd blk (n % 64) b) u.2 sin rt dg res) t) (va_A (wM cI cB r lim rdy ks opn mac byt hash (lN n) rs key pad h blk w sin rt dg res) sz)) 0 0 (va_A (wM cI cB r lim rdy ks opn mac byt hash (lN n) rs key pad h blk w sin rt dg res) sz) := by
  refine Met.ofW (cc := b_M_add) (maxL := 3) (ret := none) (by decide) rfl ?_
  intro p e s m args below meth c s₁ B hml hv
  obtain ⟨rfl, hsz, hP, hK, hD0, hST⟩ := hv
  have hx := B.exec
  have hb := B.bytes
  have hr := B.returns
  have hts : ∀ w ∈ tT, w.before _ s = true := fun w h => atoms_spec (ws := k_M_add :: tT) B.pre w (List.mem_cons_of_mem _ h)
  have hown : s.vm.findClass R_M = some m.cls := findClass_of_methodNamed B.named
  have hlocks := B.notSynchronized
  subst hsz
  have hD := hD0.self (sz := s.heap.size)
  generalize hAe : va_A (wM cI cB r lim rdy ks opn mac byt hash (lN n) rs key pad h blk w sin rt dg res) s.heap.size = A at hD hST ⊢
  have hA : ∀ q : Nat, s.heap.size ≤ q → A q := fun q h => by rw [← hAe]; exact Or.inr h
  have hS : va_S A s.heap s.heap [] := va_S.rf
  have hP : va_P (dC, dI) classes (wM cI cB r lim rdy ks opn mac byt hash (lN n) rs key pad h blk w sin rt dg res) s.heap := hP
  have hl := lv_entry ([.ref (r 0), .int b]) (n := 3) (Nat.le_of_ble_eq_true rfl)
  rw [lg_entry_eq]
  generalize (lg_sl ([.ref (r 0), .int b]) ++ List.replicate (3 - (lg_sl ([.ref (r 0), .int b])).length) Slot.unset).toArray = ls at hl ⊢
  have hl : lv_has ls 3 [(0, .ref (r 0)), (1, .int b)] := hl
  refine lv_aload_n (pc := 0) hx hb d_M_add_0 rfl (lv_at hl 0 rfl) ?_
  refine va_get (pc := 1) (D := (dC, dI)) (ci := 1) (v := .long (lN n)) (C := R_M) (T := F_M) (N := 18) hx hb hts i_M hown hK hP 0 rfl rfl 11 (by decide) (hts _ fl_M_82) (fun _ h9 => h9) rfl d_M_add_1 ?_
  refine lv_ldc2 (pc := 4) hx hb hown (hts _ cn_M_86) d_M_add_4 ?_
  refine xs_l (y := (lN 64)) (rfl) ?_
  refine xl_rem (pc := 7) hx hb d_M_add_7 (by omega) (by decide) (by decide) ?_
  refine lv_l2i (pc := 8) (v := nI (n % 64)) hx hb d_M_add_8 (lN_i _) ?_
  refine lv_istore_n (pc := 9) (lv' := [(2, .int (nI (n % 64))), (0, .ref (r 0)), (1, .int b)]) hx hb d_M_add_9 rfl hl (by decide) rfl (fun ls hl => ?_)
  refine lv_aload_n (pc := 10) hx hb d_M_add_10 rfl (lv_at hl 1 rfl) ?_
  refine va_get (pc := 11) (D := (dC, dI)) (ci := 1) (v := .ref (r 4)) (C := R_M) (T := F_M) (N := 18) hx hb hts i_M hown hK hP 0 rfl rfl 10 (by decide) (hts _ fl_M_23) (fun _ h9 => h9) rfl d_M_add_11 ?_
  refine lv_iload_n (pc := 14) hx hb d_M_add_14 rfl (lv_at hl 0 rfl) ?_
  refine lv_iload_n (pc := 15) hx hb d_M_add_15 rfl (lv_at hl 2 rfl) ?_
  refine xa_iast (pc := 16) (x := b) hx hb hK hP hD hS 4 0 rfl rfl (by omega) (by decide) d_M_add_16 (fun H locs hP hD hS => ?_)
  have hP : va_P (dC, dI) classes (wM cI cB r lim rdy ks opn mac byt hash (lN n) rs key pad h (upd blk (n % 64) b) w sin rt dg res) H := hP
  have hD : va_D A (wM cI cB r lim rdy ks opn mac byt hash (lN n) rs key pad h (upd blk (n % 64) b) w sin rt dg res) := hD
  refine lv_aload_n (pc := 17) hx hb d_M_add_17 rfl (lv_at hl 1 rfl) ?_
  refine lv_dup (pc := 18) hx hb d_M_add_18 rfl ?_
  refine va_get (pc := 19) (D := (dC, dI)) (ci := 1) (v := .long (lN n)) (C := R_M) (T := F_M) (N := 18) hx hb hts i_M hown hK hP 0 rfl rfl 11 (by decide) (hts _ fl_M_82) (fun _ h9 => h9) rfl d_M_add_19 ?_
  refine lv_lconst (pc := 22) (v := (lN 1)) hx hb d_M_add_22 rfl ?_
  refine xl_add (pc := 23) hx hb d_M_add_23 ?_
  refine va_put (pc := 24) (D := (dC, dI)) (ci := 1) (v := .long (lN (n + 1))) (ty := .long) (C := R_M) (T := F_M) (N := 18) hx hb hts i_M t_M t_M_ok n_M hown hK hP hD hS 0 rfl rfl 11 (by decide) (hts _ fl_M_82) (fun _ h9 => h9) rfl (by decide +kernel) rfl rfl (Nat.le_of_ble_eq_true rfl) d_M_add_24 (fun H locs hP hD hS => ?_)
  have hP : va_P (dC, dI) classes (wM cI cB r lim rdy ks opn mac byt hash (lN (n + 1)) rs key pad h (upd blk (n % 64) b) w sin rt dg res) H := hP
  have hD : va_D A (wM cI cB r lim rdy ks opn mac byt hash (lN (n + 1)) rs key pad h (upd blk (n % 64) b) w sin rt dg res) := hD
  refine lv_iload_n (pc := 27) hx hb d_M_add_27 rfl (lv_at hl 0 rfl) ?_
  refine lv_bipush (pc := 28) (v := (nI 63)) hx hb d_M_add_28 (by decide) ?_
  refine xi_ne (pc := 30) (tgt := 51) hx hb d_M_add_30 (by decide) (by omega) (by omega) (fun c0 => ?_) (fun c0 => ?_)
  · exact W.vret hx hb hr (fun t ht hW => ⟨⟨(h, w), rfl, (hput_1 c0).symm, by rw [ht]; exact hP, va_K.moved hW.alike hK, hD⟩, hS.F ht⟩) hS.2.2 d_M_add_51
  · refine lv_aload_n (pc := 33) hx hb d_M_add_33 rfl (lv_at hl 1 rfl) ?_
    refine va_get (pc := 34) (D := (dC, dI)) (ci := 1) (v := .int hash) (C := R_M) (T := F_M) (N := 18) hx hb hts i_M hown hK hP 0 rfl rfl 8 (by decide) (hts _ fl_M_74) (fun _ h9 => h9) rfl d_M_add_34 ?_
    refine lv_if_ne (pc := 37) (tgt := 47) hx hb d_M_add_37 (by decide) (fun c1 => ?_) (fun c1 => ?_)
    · refine lv_aload_n (pc := 47) hx hb d_M_add_47 rfl (lv_at hl 1 rfl) ?_
      refine kvG (pc := 48) (As := []) (rest := []) (wr := []) (ci := 1) ⟨hx, hb, hml, hown, hts⟩ (c_M_one l dC dI cI cB r H.size lim rdy ks opn mac hash rs byt (lN (n + 1)) key pad h (upd blk (n % 64) b) w sin rt dg res hrt) (cwV 0 hts g_M_91 rfl rfl rfl hd_M_one ⟨by decide, by decide⟩) hK hP hD hS hA hST [0, 1, 2, 3, 4, 5, 6, 7, 8, 9] [] rfl rfl (by decide) (by decide) (by decide) rfl rfl rfl hl.1 rfl (Nat.le_of_ble_eq_true rfl) d_M_add_48 ⟨by decide, by decide⟩ (fun u H locs hw hP hD hS => ?_)
      obtain ⟨u1, u2⟩ := u
      have hP : va_P (dC, dI) classes (wM cI cB r lim rdy ks opn mac byt hash (lN (n + 1)) rs key pad u1 (upd blk (n % 64) b) u2 sin rt dg res) H := hP
      have hD : va_D A (wM cI cB r lim rdy ks opn mac byt hash (lN (n + 1)) rs key pad u1 (upd blk (n % 64) b) u2 sin rt dg res) := hD
      exact W.vret hx hb hr (fun t ht hW => ⟨⟨(u1, u2), rfl, hw.trans (hputM_2 c0 c1), by rw [ht]; exact hP, va_K.moved hW.alike hK, hD⟩, hS.F ht⟩) hS.2.2 d_M_add_51
    · refine lv_aload_n (pc := 40) hx hb d_M_add_40 rfl (lv_at hl 1 rfl) ?_
      refine kvG (pc := 41) (As := []) (rest := []) (wr := []) (ci := 1) ⟨hx, hb, hml, hown, hts⟩ (c_M_five l dC dI cI cB r H.size lim rdy ks opn mac hash rs byt (lN (n + 1)) key pad h (upd blk (n % 64) b) w sin rt dg res hsin) (cwV 0 hts g_M_88 rfl rfl rfl hd_M_five ⟨by decide, by decide⟩) hK hP hD hS hA hST [0, 1, 2, 3, 4, 5, 6, 7, 8, 9] [] rfl rfl (by decide) (by decide) (by decide) rfl rfl rfl hl.1 rfl (Nat.le_of_ble_eq_true rfl) d_M_add_41 ⟨by decide, by decide⟩ (fun u H locs hw hP hD hS => ?_)
      obtain ⟨u1, u2⟩ := u
      have hP : va_P (dC, dI) classes (wM cI cB r lim rdy ks opn mac byt hash (lN (n + 1)) rs key pad u1 (upd blk (n % 64) b) u2 sin rt dg res) H := hP
      have hD : va_D A (wM cI cB r lim rdy ks opn mac byt hash (lN (n + 1)) rs key pad u1 (upd blk (n % 64) b) u2 sin rt dg res) := hD
      refine lv_goto (pc := 44) (tgt := 51) hx hb d_M_add_44 (by decide) ?_
      exact W.vret hx hb hr (fun t ht hW => ⟨⟨(u1, u2), rfl, hw.trans (hputM_1 c0 c1), by rw [ht]; exact hP, va_K.moved hW.alike hK, hD⟩, hS.F ht⟩) hS.2.2 d_M_add_51
set_option maxHeartbeats 4000000 in
set_option maxRecDepth 100000 in
theorem c_M_end (l : Launch) (dC : Nat → ClassId) (dI : Nat → Nat → Nat) (cI cB : ClassId) (r : Nat → Nat) (sz : Nat) (lim rdy ks opn mac hash rs : Int32) (byt : Int64) (key pad h blk w sin rt dg res : Nat → Int32) (n : Nat) (hn : n < 2 ^ 60) (hsin : ∀ j, j < 64 → sin j = sinesT j) (hrt : ∀ j, j < 4 → rt j = addedT j) : Met l y_M_end (k_M_end :: tT) ({ frames := 3, cells := 0, slots := 0, locals := 73 }) (va_Pc [.ref (r 0)] (pD (dC, dI) cI cB sz (wM cI cB r lim rdy ks opn mac byt hash (lN n) rs key pad h blk w sin rt dg res))) (va_Qv (fun u : (Nat → Int32) => True) (fun u t => qD (dC, dI) cI cB (va_A (wM cI cB r lim rdy ks opn mac byt hash (lN n) rs key pad h blk w sin rt dg res) sz) (wM cI cB r lim rdy ks opn mac byt hash (lN ((hend hash (h, blk, n)).2.2)) rs key pad ((hend hash (h, blk, n)).1) ((hend hash (h, blk, n)).2.1) u sin rt (digU hash (hend hash (h, blk, n)).1 dg (hlen hash)) res) t) (va_A (wM cI cB r lim rdy ks opn mac byt hash (lN n) rs key pad h blk w sin rt dg res) sz)) 0 0 (va_A (wM cI cB r lim rdy ks opn mac byt hash (lN n) rs key pad h blk w sin rt dg res) sz) := by
  refine Met.ofW (cc := b_M_end) (maxL := 4) (ret := none) (by decide) rfl ?_
  intro p e s m args below meth c s₁ B hml hv
  obtain ⟨rfl, hsz, hP, hK, hD0, hST⟩ := hv
  have hx := B.exec
  have hb := B.bytes
  have hr := B.returns
  have hts : ∀ w ∈ tT, w.before _ s = true := fun w h => atoms_spec (ws := k_M_end :: tT) B.pre w (List.mem_cons_of_mem _ h)
  have hown : s.vm.findClass R_M = some m.cls := findClass_of_methodNamed B.named
  have hlocks := B.notSynchronized
  subst hsz
  have hD := hD0.self (sz := s.heap.size)
  generalize hAe : va_A (wM cI cB r lim rdy ks opn mac byt hash (lN n) rs key pad h blk w sin rt dg res) s.heap.size = A at hD hST ⊢
  have hA : ∀ q : Nat, s.heap.size ≤ q → A q := fun q h => by rw [← hAe]; exact Or.inr h
  have hS : va_S A s.heap s.heap [] := va_S.rf
  have hP : va_P (dC, dI) classes (wM cI cB r lim rdy ks opn mac byt hash (lN n) rs key pad h blk w sin rt dg res) s.heap := hP
  have hl := lv_entry ([.ref (r 0)]) (n := 4) (Nat.le_of_ble_eq_true rfl)
  rw [lg_entry_eq]
  generalize (lg_sl ([.ref (r 0)]) ++ List.replicate (4 - (lg_sl ([.ref (r 0)])).length) Slot.unset).toArray = ls at hl ⊢
  have hl : lv_has ls 4 [(0, .ref (r 0))] := hl
  refine lv_ldc2 (pc := 0) hx hb hown (hts _ cn_M_102) d_M_end_0 ?_
  refine xs_l (y := (lN 8)) (rfl) ?_
  refine lv_aload_n (pc := 3) hx hb d_M_end_3 rfl (lv_at hl 0 rfl) ?_
  refine va_get (pc := 4) (D := (dC, dI)) (ci := 1) (v := .long (lN n)) (C := R_M) (T := F_M) (N := 18) hx hb hts i_M hown hK hP 0 rfl rfl 11 (by decide) (hts _ fl_M_82) (fun _ h9 => h9) rfl d_M_end_4 ?_
  refine xl_mul (pc := 7) hx hb d_M_end_7 ?_
  refine lv_lstore_n (pc := 8) (lv' := [(1, .long (lN (8 * n))), (0, .ref (r 0))]) hx hb d_M_end_8 rfl hl (by decide) rfl (fun ls hl => ?_)
  refine lv_aload_n (pc := 9) hx hb d_M_end_9 rfl (lv_at hl 1 rfl) ?_
  refine lv_sipush (pc := 10) (v := (nI 128)) hx hb d_M_end_10 (by decide) ?_
  refine kvG (pc := 13) (As := [.int (nI 128)]) (rest := []) (wr := []) (ci := 1) ⟨hx, hb, hml, hown, hts⟩ (c_M_add l dC dI cI cB r s.heap.size lim rdy ks opn mac hash rs byt key pad h blk w sin rt dg res n (nI 128) (by omega) hsin hrt) (cwV 1 hts g_M_104 rfl rfl rfl hd_M_add ⟨by decide, by decide⟩) hK hP hD hS hA hST [0, 1, 2, 3, 4, 5, 6, 7, 8, 9] [] rfl rfl (by decide) (by decide) (by decide) rfl rfl rfl hl.1 rfl (Nat.le_of_ble_eq_true rfl) d_M_end_13 ⟨by decide, by decide⟩ (fun u H locs hw hP hD hS => ?_)
  obtain ⟨v1, v2⟩ := u
  have hP : va_P (dC, dI) classes (wM cI cB r lim rdy ks opn mac byt hash (lN (n + 1)) rs key pad v1 (upd blk (n % 64) (nI 128)) v2 sin rt dg res) H := hP
  have hD : va_D A (wM cI cB r lim rdy ks opn mac byt hash (lN (n + 1)) rs key pad v1 (upd blk (n % 64) (nI 128)) v2 sin rt dg res) := hD
  dsimp only at hw
  subst hw
  refine lp (α := Nat × (Nat → Int32)) (fun x => 64 - x.1) (fun x H1 locs1 g => ∃ ls, g = F0 m 16 ls [] ∧ lv_has ls 4 [(0, .ref (r 0)), (1, .long (lN (8 * n)))] ∧ va_P (dC, dI) classes (wM cI cB r lim rdy ks opn mac byt hash (lN ((hputs hash (fun _ => nI 0) (hend1 hash (h, blk, n)) x.1).2.2)) rs key pad ((hputs hash (fun _ => nI 0) (hend1 hash (h, blk, n)) x.1).1) ((hputs hash (fun _ => nI 0) (hend1 hash (h, blk, n)) x.1).2.1) x.2 sin rt dg res) H1 ∧ va_D A (wM cI cB r lim rdy ks opn mac byt hash (lN ((hputs hash (fun _ => nI 0) (hend1 hash (h, blk, n)) x.1).2.2)) rs key pad ((hputs hash (fun _ => nI 0) (hend1 hash (h, blk, n)) x.1).1) ((hputs hash (fun _ => nI 0) (hend1 hash (h, blk, n)) x.1).2.1) x.2 sin rt dg res) ∧ va_S A s.heap H1 locs1 ∧ (x.1 ≤ hzn (n + 1))) ?_ (0, v2) ⟨ls, rfl, lv_sub hl [1, 0] rfl, hP, hD, hS, (show 0 ≤ hzn (n + 1) from Nat.zero_le _)⟩
  rintro ⟨j, wd⟩ H locs g ih ⟨ls, rfl, hl, hP, hD, hS, hj⟩
  have hl : lv_has ls 4 [(0, .ref (r 0)), (1, .long (lN (8 * n)))] := hl
  have hP : va_P (dC, dI) classes (wM cI cB r lim rdy ks opn mac byt hash (lN ((hputs hash (fun _ => nI 0) (hend1 hash (h, blk, n)) j).2.2)) rs key pad ((hputs hash (fun _ => nI 0) (hend1 hash (h, blk, n)) j).1) ((hputs hash (fun _ => nI 0) (hend1 hash (h, blk, n)) j).2.1) wd sin rt dg res) H := hP
  have hD : va_D A (wM cI cB r lim rdy ks opn mac byt hash (lN ((hputs hash (fun _ => nI 0) (hend1 hash (h, blk, n)) j).2.2)) rs key pad ((hputs hash (fun _ => nI 0) (hend1 hash (h, blk, n)) j).1) ((hputs hash (fun _ => nI 0) (hend1 hash (h, blk, n)) j).2.1) wd sin rt dg res) := hD
  have hj : j ≤ hzn (n + 1) := hj
  have hz := hzn_le (n + 1)
  have hjn : (hputs hash (fun _ => nI 0) (hend1 hash (h, blk, n)) j).2.2 = n + 1 + j := hputs_n _ _ _ _
  refine lv_aload_n (pc := 16) hx hb d_M_end_16 rfl (lv_at hl 0 rfl) ?_
  refine va_get (pc := 17) (D := (dC, dI)) (ci := 1) (v := .long (lN ((hputs hash (fun _ => nI 0) (hend1 hash (h, blk, n)) j).2.2))) (C := R_M) (T := F_M) (N := 18) hx hb hts i_M hown hK hP 0 rfl rfl 11 (by decide) (hts _ fl_M_82) (fun _ h9 => h9) rfl d_M_end_17 ?_
  refine lv_ldc2 (pc := 20) hx hb hown (hts _ cn_M_86) d_M_end_20 ?_
  refine xs_l (y := (lN 64)) (rfl) ?_
  refine xl_rem (pc := 23) hx hb d_M_end_23 (by omega) (by decide) (by decide) ?_
  refine lv_ldc2 (pc := 24) hx hb hown (hts _ cn_M_108) d_M_end_24 ?_
  refine xs_l (y := (lN 56)) (rfl) ?_
  refine W.lcmp (pc := 27) hx hb d_M_end_27 ?_
  refine lv_if_eq (pc := 28) (tgt := 39) hx hb d_M_end_28 (by decide) (fun c0 => ?_) (fun c0 => ?_)
  · have c1 := hzn_end hj (by rw [← hjn]; exact (lc0 (by omega) (by decide)).mp c0)
    subst c1
    refine lv_iconst (pc := 39) (v := (nI 0)) hx hb d_M_end_39 (by decide) ?_
    refine lv_istore_n (pc := 40) (lv' := [(3, .int (nI 0)), (0, .ref (r 0)), (1, .long (lN (8 * n)))]) hx hb d_M_end_40 rfl hl (by decide) rfl (fun ls hl => ?_)
    refine lp (α := Nat × (Nat → Int32)) (fun x => 8 - x.1) (fun x H1 locs1 g => ∃ ls, g = F0 m 41 ls [] ∧ lv_has ls 4 [(0, .ref (r 0)), (1, .long (lN (8 * n))), (3, .int (nI x.1))] ∧ va_P (dC, dI) classes (wM cI cB r lim rdy ks opn mac byt hash (lN ((hputs hash (bitb hash n) (hend2 hash (h, blk, n)) x.1).2.2)) rs key pad ((hputs hash (bitb hash n) (hend2 hash (h, blk, n)) x.1).1) ((hputs hash (bitb hash n) (hend2 hash (h, blk, n)) x.1).2.1) x.2 sin rt dg res) H1 ∧ va_D A (wM cI cB r lim rdy ks opn mac byt hash (lN ((hputs hash (bitb hash n) (hend2 hash (h, blk, n)) x.1).2.2)) rs key pad ((hputs hash (bitb hash n) (hend2 hash (h, blk, n)) x.1).1) ((hputs hash (bitb hash n) (hend2 hash (h, blk, n)) x.1).2.1) x.2 sin rt dg res) ∧ va_S A s.heap H1 locs1 ∧ (x.1 ≤ 8)) ?_ (0, wd) ⟨ls, rfl, lv_sub hl [1, 2, 0] rfl, hP, hD, hS, (show 0 ≤ 8 from by decide)⟩
    rintro ⟨k, wd⟩ H locs g ih2 ⟨ls, rfl, hl, hP, hD, hS, hk⟩
    have hl : lv_has ls 4 [(0, .ref (r 0)), (1, .long (lN (8 * n))), (3, .int (nI k))] := hl
    have hP : va_P (dC, dI) classes (wM cI cB r lim rdy ks opn mac byt hash (lN ((hputs hash (bitb hash n) (hend2 hash (h, blk, n)) k).2.2)) rs key pad ((hputs hash (bitb hash n) (hend2 hash (h, blk, n)) k).1) ((hputs hash (bitb hash n) (hend2 hash (h, blk, n)) k).2.1) wd sin rt dg res) H := hP
    have hD : va_D A (wM cI cB r lim rdy ks opn mac byt hash (lN ((hputs hash (bitb hash n) (hend2 hash (h, blk, n)) k).2.2)) rs key pad ((hputs hash (bitb hash n) (hend2 hash (h, blk, n)) k).1) ((hputs hash (bitb hash n) (hend2 hash (h, blk, n)) k).2.1) wd sin rt dg res) := hD
    have hk : k ≤ 8 := hk
    have hkn : (hputs hash (bitb hash n) (hend2 hash (h, blk, n)) k).2.2 = n + 1 + hzn (n + 1) + k := (hputs_n _ _ _ _).trans (by rw [show (hend2 hash (h, blk, n)).2.2 = n + 1 + hzn (n + 1) from hputs_n _ _ _ _])
    refine lv_iload_n (pc := 41) hx hb d_M_end_41 rfl (lv_at hl 2 rfl) ?_
    refine lv_bipush (pc := 42) (v := (nI 8)) hx hb d_M_end_42 (by decide) ?_
    refine xi_ge (pc := 44) (tgt := 85) hx hb d_M_end_44 (by decide) (by omega) (by omega) (fun c2 => ?_) (fun c2 => ?_)
    · have hs1 : k = 8 := by omega
      subst hs1
      refine lv_iconst (pc := 85) (v := (nI 0)) hx hb d_M_end_85 (by decide) ?_
      refine lv_istore_n (pc := 86) (lv' := [(3, .int (nI 0)), (0, .ref (r 0)), (1, .long (lN (8 * n)))]) hx hb d_M_end_86 rfl hl (by decide) rfl (fun ls hl => ?_)
      refine lp (α := Nat) (fun x => 20 - x) (fun x H1 locs1 g => ∃ ls, g = F0 m 87 ls [] ∧ lv_has ls 4 [(0, .ref (r 0)), (3, .int (nI x))] ∧ va_P (dC, dI) classes (wM cI cB r lim rdy ks opn mac byt hash (lN ((hend hash (h, blk, n)).2.2)) rs key pad ((hend hash (h, blk, n)).1) ((hend hash (h, blk, n)).2.1) wd sin rt (digU hash (hend hash (h, blk, n)).1 dg x) res) H1 ∧ va_D A (wM cI cB r lim rdy ks opn mac byt hash (lN ((hend hash (h, blk, n)).2.2)) rs key pad ((hend hash (h, blk, n)).1) ((hend hash (h, blk, n)).2.1) wd sin rt (digU hash (hend hash (h, blk, n)).1 dg x) res) ∧ va_S A s.heap H1 locs1 ∧ (x ≤ hlen hash)) ?_ (0) ⟨ls, rfl, lv_sub hl [1, 0] rfl, hP, hD, hS, (show 0 ≤ hlen hash from Nat.zero_le _)⟩
      rintro k H locs g ih3 ⟨ls, rfl, hl, hP, hD, hS, hk⟩
      have hl : lv_has ls 4 [(0, .ref (r 0)), (3, .int (nI k))] := hl
      have hP : va_P (dC, dI) classes (wM cI cB r lim rdy ks opn mac byt hash (lN ((hend hash (h, blk, n)).2.2)) rs key pad ((hend hash (h, blk, n)).1) ((hend hash (h, blk, n)).2.1) wd sin rt (digU hash (hend hash (h, blk, n)).1 dg k) res) H := hP
      have hD : va_D A (wM cI cB r lim rdy ks opn mac byt hash (lN ((hend hash (h, blk, n)).2.2)) rs key pad ((hend hash (h, blk, n)).1) ((hend hash (h, blk, n)).2.1) wd sin rt (digU hash (hend hash (h, blk, n)).1 dg k) res) := hD
      have hk : k ≤ hlen hash := hk
      have hle := hlen_le hash
      refine lv_iload_n (pc := 87) hx hb d_M_end_87 rfl (lv_at hl 1 rfl) ?_
      refine lv_aload_n (pc := 88) hx hb d_M_end_88 rfl (lv_at hl 0 rfl) ?_
      refine kiG (pc := 89) (As := []) (rest := [.int (nI k)]) (wr := []) (ci := 1) ⟨hx, hb, hml, hown, hts⟩ (c_M_width l dC dI cI cB r H.size lim rdy ks opn mac hash rs byt (lN ((hend hash (h, blk, n)).2.2)) key pad ((hend hash (h, blk, n)).1) ((hend hash (h, blk, n)).2.1) wd sin rt (digU hash (hend hash (h, blk, n)).1 dg k) res) (cwV 0 hts g_M_112 rfl rfl rfl hd_M_width ⟨by decide, by decide⟩) hK hP hD hS hA hST [0, 1, 2, 3, 4, 5, 6, 7, 8, 9] [] rfl rfl (by decide) (by decide) (by decide) rfl rfl rfl hl.1 rfl (Nat.le_of_ble_eq_true rfl) d_M_end_89 ⟨by decide, by decide⟩ (fun rr u H locs hw hP hD hS => ?_)
      have hP : va_P (dC, dI) classes (wM cI cB r lim rdy ks opn mac byt hash (lN ((hend hash (h, blk, n)).2.2)) rs key pad ((hend hash (h, blk, n)).1) ((hend hash (h, blk, n)).2.1) wd sin rt (digU hash (hend hash (h, blk, n)).1 dg k) res) H := hP
      have hD : va_D A (wM cI cB r lim rdy ks opn mac byt hash (lN ((hend hash (h, blk, n)).2.2)) rs key pad ((hend hash (h, blk, n)).1) ((hend hash (h, blk, n)).2.1) wd sin rt (digU hash (hend hash (h, blk, n)).1 dg k) res) := hD
      subst hw
      refine xi_ge (pc := 92) (tgt := 145) hx hb d_M_end_92 (by decide) (by omega) (by omega) (fun c5 => ?_) (fun c5 => ?_)
      · have hs2 : k = hlen hash := by omega
        subst hs2
        exact W.vret hx hb hr (fun t ht hW => ⟨⟨wd, rfl, trivial, by rw [ht]; exact hP, va_K.moved hW.alike hK, hD⟩, hS.F ht⟩) hS.2.2 d_M_end_145
      · refine lv_aload_n (pc := 95) hx hb d_M_end_95 rfl (lv_at hl 0 rfl) ?_
        refine va_get (pc := 96) (D := (dC, dI)) (ci := 1) (v := .ref (r 8)) (C := R_M) (T := F_M) (N := 18) hx hb hts i_M hown hK hP 0 rfl rfl 15 (by decide) (hts _ fl_M_35) (fun _ h9 => h9) rfl d_M_end_96 ?_
        refine lv_iload_n (pc := 99) hx hb d_M_end_99 rfl (lv_at hl 1 rfl) ?_
        refine lv_aload_n (pc := 100) hx hb d_M_end_100 rfl (lv_at hl 0 rfl) ?_
        refine va_get (pc := 101) (D := (dC, dI)) (ci := 1) (v := .ref (r 3)) (C := R_M) (T := F_M) (N := 18) hx hb hts i_M hown hK hP 0 rfl rfl 9 (by decide) (hts _ fl_M_20) (fun _ h9 => h9) rfl d_M_end_101 ?_
        refine lv_iload_n (pc := 104) hx hb d_M_end_104 rfl (lv_at hl 1 rfl) ?_
        refine lv_iconst (pc := 105) (v := (nI 4)) hx hb d_M_end_105 (by decide) ?_
        refine xi_div (pc := 106) hx hb d_M_end_106 (by omega) (by decide) (by decide) ?_
        refine xa_iald (pc := 107) hx hb hK hP 3 0 rfl rfl (by omega) (by decide) d_M_end_107 ?_
        refine lv_aload_n (pc := 108) hx hb d_M_end_108 rfl (lv_at hl 0 rfl) ?_
        refine va_get (pc := 109) (D := (dC, dI)) (ci := 1) (v := .int hash) (C := R_M) (T := F_M) (N := 18) hx hb hts i_M hown hK hP 0 rfl rfl 8 (by decide) (hts _ fl_M_74) (fun _ h9 => h9) rfl d_M_end_109 ?_
        refine jn_i (fun s1 : Int32 => s1 = nI (dsh hash k)) 133 ls [.int (((hend hash (h, blk, n)).1) (k / 4)), .int (nI k), .ref (r 8)] (fun s1 es1 => ?_) (fun J => ?_)
        · refine xs_i (y := (nI (dsh hash k))) (es1) ?_
          refine lv_iushr (pc := 133) (v := ((((hend hash (h, blk, n)).1) (k / 4)).toUInt32 >>> ((nI (dsh hash k)).toUInt32 &&& Int32.toUInt32 31)).toInt32) hx hb d_M_end_133 rfl ?_
          refine lv_sipush (pc := 134) (v := (nI 255)) hx hb d_M_end_134 (by decide) ?_
          refine lv_iand (pc := 137) hx hb d_M_end_137 ?_
          refine xa_iast (pc := 138) (x := ((((((hend hash (h, blk, n)).1) (k / 4)).toUInt32 >>> ((nI (dsh hash k)).toUInt32 &&& Int32.toUInt32 31)).toInt32) &&& (nI 255))) hx hb hK hP hD hS 8 0 rfl rfl (by omega) (by decide) d_M_end_138 (fun H locs hP hD hS => ?_)
          have hP : va_P (dC, dI) classes (wM cI cB r lim rdy ks opn mac byt hash (lN ((hend hash (h, blk, n)).2.2)) rs key pad ((hend hash (h, blk, n)).1) ((hend hash (h, blk, n)).2.1) wd sin rt (digU hash (hend hash (h, blk, n)).1 dg (k + 1)) res) H := hP
          have hD : va_D A (wM cI cB r lim rdy ks opn mac byt hash (lN ((hend hash (h, blk, n)).2.2)) rs key pad ((hend hash (h, blk, n)).1) ((hend hash (h, blk, n)).2.1) wd sin rt (digU hash (hend hash (h, blk, n)).1 dg (k + 1)) res) := hD
          refine lv_iinc (pc := 139) (v := (nI (k + 1))) (lv' := [(3, .int (nI (k + 1))), (0, .ref (r 0))]) hx hb d_M_end_139 hl (k := 1) rfl (inc1 _) (by decide) rfl (fun ls hl => ?_)
          refine lv_goto (pc := 142) (tgt := 87) hx hb d_M_end_142 (by decide) ?_
          exact ih3 (k + 1) _ _ _ (by show 20 - (k + 1) < 20 - k; omega) ⟨ls, rfl, lv_sub hl [1, 0] rfl, hP, hD, hS, (show (k + 1) ≤ hlen hash from by omega)⟩
        · refine lv_if_ne (pc := 112) (tgt := 124) hx hb d_M_end_112 (by decide) (fun c6 => ?_) (fun c6 => ?_)
          · refine lv_bipush (pc := 124) (v := (nI 24)) hx hb d_M_end_124 (by decide) ?_
            refine lv_iload_n (pc := 126) hx hb d_M_end_126 rfl (lv_at hl 1 rfl) ?_
            refine lv_iconst (pc := 127) (v := (nI 4)) hx hb d_M_end_127 (by decide) ?_
            refine xi_rem (pc := 128) hx hb d_M_end_128 (by omega) (by decide) (by decide) ?_
            refine lv_bipush (pc := 129) (v := (nI 8)) hx hb d_M_end_129 (by decide) ?_
            refine xi_mul (pc := 131) hx hb d_M_end_131 ?_
            refine xi_sub (pc := 132) hx hb d_M_end_132 (by omega) ?_
            exact J _ (dsh_m1 c6)
          · refine lv_iload_n (pc := 115) hx hb d_M_end_115 rfl (lv_at hl 1 rfl) ?_
            refine lv_iconst (pc := 116) (v := (nI 4)) hx hb d_M_end_116 (by decide) ?_
            refine xi_rem (pc := 117) hx hb d_M_end_117 (by omega) (by decide) (by decide) ?_
            refine lv_bipush (pc := 118) (v := (nI 8)) hx hb d_M_end_118 (by decide) ?_
            refine xi_mul (pc := 120) hx hb d_M_end_120 ?_
            refine lv_goto (pc := 121) (tgt := 133) hx hb d_M_end_121 (by decide) ?_
            exact J _ (dsh_m0 c6)
    · refine lv_aload_n (pc := 47) hx hb d_M_end_47 rfl (lv_at hl 0 rfl) ?_
      refine lv_lload_n (pc := 48) hx hb d_M_end_48 rfl (lv_at hl 1 rfl) ?_
      refine lv_aload_n (pc := 49) hx hb d_M_end_49 rfl (lv_at hl 0 rfl) ?_
      refine va_get (pc := 50) (D := (dC, dI)) (ci := 1) (v := .int hash) (C := R_M) (T := F_M) (N := 18) hx hb hts i_M hown hK hP 0 rfl rfl 8 (by decide) (hts _ fl_M_74) (fun _ h9 => h9) rfl d_M_end_50 ?_
      refine jn_i (fun s1 : Int32 => s1 = nI (bsh hash k)) 70 ls [.long (lN (8 * n)), .ref (r 0)] (fun s1 es1 => ?_) (fun J => ?_)
      · refine xs_i (y := (nI (bsh hash k))) (es1) ?_
        refine lv_lshr (pc := 70) (v := (lN (8 * n)) >>> ((nI (bsh hash k)).toInt64 &&& 63)) hx hb d_M_end_70 rfl ?_
        refine lv_ldc2 (pc := 71) hx hb hown (hts _ cn_M_110) d_M_end_71 ?_
        refine xs_l (y := (lN 255)) (rfl) ?_
        refine lv_land (pc := 74) hx hb d_M_end_74 ?_
        refine lv_l2i (pc := 75) (v := (((lN (8 * n)) >>> ((nI (bsh hash k)).toInt64 &&& 63)) &&& (lN 255)).toInt32) hx hb d_M_end_75 rfl ?_
        refine xs_i (y := (bitb hash n k)) (l255 _) ?_
        refine kvG (pc := 76) (As := [.int (bitb hash n k)]) (rest := []) (wr := []) (ci := 1) ⟨hx, hb, hml, hown, hts⟩ (c_M_add l dC dI cI cB r H.size lim rdy ks opn mac hash rs byt key pad ((hputs hash (bitb hash n) (hend2 hash (h, blk, n)) k).1) ((hputs hash (bitb hash n) (hend2 hash (h, blk, n)) k).2.1) wd sin rt dg res (hputs hash (bitb hash n) (hend2 hash (h, blk, n)) k).2.2 (bitb hash n k) (by omega) hsin hrt) (cwV 1 hts g_M_104 rfl rfl rfl hd_M_add ⟨by decide, by decide⟩) hK hP hD hS hA hST [0, 1, 2, 3, 4, 5, 6, 7, 8, 9] [] rfl rfl (by decide) (by decide) (by decide) rfl rfl rfl hl.1 rfl (Nat.le_of_ble_eq_true rfl) d_M_end_76 ⟨by decide, by decide⟩ (fun u H locs hw hP hD hS => ?_)
        obtain ⟨v1, v2⟩ := u
        have hP : va_P (dC, dI) classes (wM cI cB r lim rdy ks opn mac byt hash (lN ((hputs hash (bitb hash n) (hend2 hash (h, blk, n)) k).2.2 + 1)) rs key pad v1 (upd (hputs hash (bitb hash n) (hend2 hash (h, blk, n)) k).2.1 ((hputs hash (bitb hash n) (hend2 hash (h, blk, n)) k).2.2 % 64) (bitb hash n k)) v2 sin rt dg res) H := hP
        have hD : va_D A (wM cI cB r lim rdy ks opn mac byt hash (lN ((hputs hash (bitb hash n) (hend2 hash (h, blk, n)) k).2.2 + 1)) rs key pad v1 (upd (hputs hash (bitb hash n) (hend2 hash (h, blk, n)) k).2.1 ((hputs hash (bitb hash n) (hend2 hash (h, blk, n)) k).2.2 % 64) (bitb hash n k)) v2 sin rt dg res) := hD
        dsimp only at hw
        subst hw
        refine lv_iinc (pc := 79) (v := (nI (k + 1))) (lv' := [(3, .int (nI (k + 1))), (0, .ref (r 0)), (1, .long (lN (8 * n)))]) hx hb d_M_end_79 hl (k := 2) rfl (inc1 _) (by decide) rfl (fun ls hl => ?_)
        refine lv_goto (pc := 82) (tgt := 41) hx hb d_M_end_82 (by decide) ?_
        exact ih2 (k + 1, v2) _ _ _ (by show 8 - (k + 1) < 8 - k; omega) ⟨ls, rfl, lv_sub hl [1, 2, 0] rfl, hP, hD, hS, (show (k + 1) ≤ 8 from by omega)⟩
      · refine lv_if_ne (pc := 53) (tgt := 63) hx hb d_M_end_53 (by decide) (fun c4 => ?_) (fun c4 => ?_)
        · refine lv_bipush (pc := 63) (v := (nI 56)) hx hb d_M_end_63 (by decide) ?_
          refine lv_bipush (pc := 65) (v := (nI 8)) hx hb d_M_end_65 (by decide) ?_
          refine lv_iload_n (pc := 67) hx hb d_M_end_67 rfl (lv_at hl 2 rfl) ?_
          refine xi_mul (pc := 68) hx hb d_M_end_68 ?_
          refine xi_sub (pc := 69) hx hb d_M_end_69 (by omega) ?_
          exact J _ (by rw [bsh, if_neg c4])
        · refine lv_bipush (pc := 56) (v := (nI 8)) hx hb d_M_end_56 (by decide) ?_
          refine lv_iload_n (pc := 58) hx hb d_M_end_58 rfl (lv_at hl 2 rfl) ?_
          refine xi_mul (pc := 59) hx hb d_M_end_59 ?_
          refine lv_goto (pc := 60) (tgt := 70) hx hb d_M_end_60 (by decide) ?_
          exact J _ (by rw [bsh, if_pos c4])
  · have c1 := hzn_go hj (fun z => c0 ((lc0 (by omega) (by decide)).mpr (by rw [hjn]; exact z)))
    refine lv_aload_n (pc := 31) hx hb d_M_end_31 rfl (lv_at hl 0 rfl) ?_
    refine lv_iconst (pc := 32) (v := (nI 0)) hx hb d_M_end_32 (by decide) ?_
    refine kvG (pc := 33) (As := [.int (nI 0)]) (rest := []) (wr := []) (ci := 1) ⟨hx, hb, hml, hown, hts⟩ (c_M_add l dC dI cI cB r H.size lim rdy ks opn mac hash rs byt key pad ((hputs hash (fun _ => nI 0) (hend1 hash (h, blk, n)) j).1) ((hputs hash (fun _ => nI 0) (hend1 hash (h, blk, n)) j).2.1) wd sin rt dg res (hputs hash (fun _ => nI 0) (hend1 hash (h, blk, n)) j).2.2 (nI 0) (by omega) hsin hrt) (cwV 1 hts g_M_104 rfl rfl rfl hd_M_add ⟨by decide, by decide⟩) hK hP hD hS hA hST [0, 1, 2, 3, 4, 5, 6, 7, 8, 9] [] rfl rfl (by decide) (by decide) (by decide) rfl rfl rfl hl.1 rfl (Nat.le_of_ble_eq_true rfl) d_M_end_33 ⟨by decide, by decide⟩ (fun u H locs hw hP hD hS => ?_)
    obtain ⟨v1, v2⟩ := u
    have hP : va_P (dC, dI) classes (wM cI cB r lim rdy ks opn mac byt hash (lN ((hputs hash (fun _ => nI 0) (hend1 hash (h, blk, n)) j).2.2 + 1)) rs key pad v1 (upd (hputs hash (fun _ => nI 0) (hend1 hash (h, blk, n)) j).2.1 ((hputs hash (fun _ => nI 0) (hend1 hash (h, blk, n)) j).2.2 % 64) (nI 0)) v2 sin rt dg res) H := hP
    have hD : va_D A (wM cI cB r lim rdy ks opn mac byt hash (lN ((hputs hash (fun _ => nI 0) (hend1 hash (h, blk, n)) j).2.2 + 1)) rs key pad v1 (upd (hputs hash (fun _ => nI 0) (hend1 hash (h, blk, n)) j).2.1 ((hputs hash (fun _ => nI 0) (hend1 hash (h, blk, n)) j).2.2 % 64) (nI 0)) v2 sin rt dg res) := hD
    dsimp only at hw
    subst hw
    refine lv_goto (pc := 36) (tgt := 16) hx hb d_M_end_36 (by decide) ?_
    exact ih (j + 1, v2) _ _ _ (by show 64 - (j + 1) < 64 - j; omega) ⟨ls, rfl, lv_sub hl [0, 1] rfl, hP, hD, hS, (show (j + 1) ≤ hzn (n + 1) from c1)⟩
set_option maxHeartbeats 4000000 in
set_option maxRecDepth 100000 in
theorem c_M_init (l : Launch) (dC : Nat → ClassId) (dI : Nat → Nat → Nat) (cI cB : ClassId) (r : Nat → Nat) (sz : Nat) (lim rdy ks opn mac hash rs : Int32) (byt came : Int64) (key pad h blk w sin rt dg res : Nat → Int32)  : Met l y_M_init (k_M_init :: tT) ({ frames := 0, cells := 0, slots := 0, locals := 0 }) (va_Pc [.ref (r 0)] (pD (dC, dI) cI cB sz (wM cI cB r lim rdy ks opn mac byt hash came rs key pad h blk w sin rt dg res))) (va_Qv (fun u : Unit => True) (fun u t => qD (dC, dI) cI cB (va_A (wM cI cB r lim rdy ks opn mac byt hash came rs key pad h blk w sin rt dg res) sz) (wM cI cB r lim (nI 1) (nI 0) (-1) mac byt hash came (nI 0) key pad h blk w sin rt dg res) t) (va_A (wM cI cB r lim rdy ks opn mac byt hash came rs key pad h blk w sin rt dg res) sz)) 0 0 (va_A (wM cI cB r lim rdy ks opn mac byt hash came rs key pad h blk w sin rt dg res) sz) := by
  refine Met.ofW (cc := b_M_init) (maxL := 1) (ret := none) (by decide) rfl ?_
  intro p e s m args below meth c s₁ B hml hv
  obtain ⟨rfl, hsz, hP, hK, hD0, hST⟩ := hv
  have hx := B.exec
  have hb := B.bytes
  have hr := B.returns
  have hts : ∀ w ∈ tT, w.before _ s = true := fun w h => atoms_spec (ws := k_M_init :: tT) B.pre w (List.mem_cons_of_mem _ h)
  have hown : s.vm.findClass R_M = some m.cls := findClass_of_methodNamed B.named
  have hlocks := B.notSynchronized
  subst hsz
  have hD := hD0.self (sz := s.heap.size)
  generalize hAe : va_A (wM cI cB r lim rdy ks opn mac byt hash came rs key pad h blk w sin rt dg res) s.heap.size = A at hD hST ⊢
  have hA : ∀ q : Nat, s.heap.size ≤ q → A q := fun q h => by rw [← hAe]; exact Or.inr h
  have hS : va_S A s.heap s.heap [] := va_S.rf
  have hP : va_P (dC, dI) classes (wM cI cB r lim rdy ks opn mac byt hash came rs key pad h blk w sin rt dg res) s.heap := hP
  have hl := lv_entry ([.ref (r 0)]) (n := 1) (Nat.le_of_ble_eq_true rfl)
  rw [lg_entry_eq]
  generalize (lg_sl ([.ref (r 0)]) ++ List.replicate (1 - (lg_sl ([.ref (r 0)])).length) Slot.unset).toArray = ls at hl ⊢
  have hl : lv_has ls 1 [(0, .ref (r 0))] := hl
  refine lv_aload_n (pc := 0) hx hb d_M_init_0 rfl (lv_at hl 0 rfl) ?_
  refine lv_iconst (pc := 1) (v := (nI 1)) hx hb d_M_init_1 (by decide) ?_
  refine va_put (pc := 2) (D := (dC, dI)) (ci := 1) (v := .int (nI 1)) (ty := .boolean) (C := R_M) (T := F_M) (N := 18) hx hb hts i_M t_M t_M_ok n_M hown hK hP hD hS 0 rfl rfl 1 (by decide) (hts _ fl_M_116) (fun _ h9 => h9) rfl (by decide +kernel) rfl rfl (Nat.le_of_ble_eq_true rfl) d_M_init_2 (fun H locs hP hD hS => ?_)
  have hP : va_P (dC, dI) classes (wM cI cB r lim (nI 1) ks opn mac byt hash came rs key pad h blk w sin rt dg res) H := hP
  have hD : va_D A (wM cI cB r lim (nI 1) ks opn mac byt hash came rs key pad h blk w sin rt dg res) := hD
  refine lv_aload_n (pc := 5) hx hb d_M_init_5 rfl (lv_at hl 0 rfl) ?_
  refine lv_iconst (pc := 6) (v := (nI 0)) hx hb d_M_init_6 (by decide) ?_
  refine va_put (pc := 7) (D := (dC, dI)) (ci := 1) (v := .int (nI 0)) (ty := .int) (C := R_M) (T := F_M) (N := 18) hx hb hts i_M t_M t_M_ok n_M hown hK hP hD hS 0 rfl rfl 3 (by decide) (hts _ fl_M_120) (fun _ h9 => h9) rfl (by decide +kernel) rfl rfl (Nat.le_of_ble_eq_true rfl) d_M_init_7 (fun H locs hP hD hS => ?_)
  have hP : va_P (dC, dI) classes (wM cI cB r lim (nI 1) (nI 0) opn mac byt hash came rs key pad h blk w sin rt dg res) H := hP
  have hD : va_D A (wM cI cB r lim (nI 1) (nI 0) opn mac byt hash came rs key pad h blk w sin rt dg res) := hD
  refine lv_aload_n (pc := 10) hx hb d_M_init_10 rfl (lv_at hl 0 rfl) ?_
  refine lv_iconst (pc := 11) (v := (-1)) hx hb d_M_init_11 (by decide) ?_
  refine va_put (pc := 12) (D := (dC, dI)) (ci := 1) (v := .int (-1)) (ty := .int) (C := R_M) (T := F_M) (N := 18) hx hb hts i_M t_M t_M_ok n_M hown hK hP hD hS 0 rfl rfl 4 (by decide) (hts _ fl_M_13) (fun _ h9 => h9) rfl (by decide +kernel) rfl rfl (Nat.le_of_ble_eq_true rfl) d_M_init_12 (fun H locs hP hD hS => ?_)
  have hP : va_P (dC, dI) classes (wM cI cB r lim (nI 1) (nI 0) (-1) mac byt hash came rs key pad h blk w sin rt dg res) H := hP
  have hD : va_D A (wM cI cB r lim (nI 1) (nI 0) (-1) mac byt hash came rs key pad h blk w sin rt dg res) := hD
  refine lv_aload_n (pc := 15) hx hb d_M_init_15 rfl (lv_at hl 0 rfl) ?_
  refine lv_iconst (pc := 16) (v := (nI 0)) hx hb d_M_init_16 (by decide) ?_
  refine va_put (pc := 17) (D := (dC, dI)) (ci := 1) (v := .int (nI 0)) (ty := .int) (C := R_M) (T := F_M) (N := 18) hx hb hts i_M t_M t_M_ok n_M hown hK hP hD hS 0 rfl rfl 17 (by decide) (hts _ fl_M_123) (fun _ h9 => h9) rfl (by decide +kernel) rfl rfl (Nat.le_of_ble_eq_true rfl) d_M_init_17 (fun H locs hP hD hS => ?_)
  have hP : va_P (dC, dI) classes (wM cI cB r lim (nI 1) (nI 0) (-1) mac byt hash came (nI 0) key pad h blk w sin rt dg res) H := hP
  have hD : va_D A (wM cI cB r lim (nI 1) (nI 0) (-1) mac byt hash came (nI 0) key pad h blk w sin rt dg res) := hD
  exact W.vret hx hb hr (fun t ht hW => ⟨⟨(), rfl, trivial, by rw [ht]; exact hP, va_K.moved hW.alike hK, hD⟩, hS.F ht⟩) hS.2.2 d_M_init_20
set_option maxHeartbeats 4000000 in
set_option maxRecDepth 100000 in
theorem c_M_start (l : Launch) (dC : Nat → ClassId) (dI : Nat → Nat → Nat) (cI cB : ClassId) (r : Nat → Nat) (sz : Nat) (lim rdy ks opn mac hash rs : Int32) (byt came : Int64) (key pad h blk w sin rt dg res : Nat → Int32) (wh : Int32)  : Met l y_M_start (k_M_start :: tT) ({ frames := 1, cells := 0, slots := 0, locals := 21 }) (va_Pc [.ref (r 0), .int wh] (pD (dC, dI) cI cB sz (wM cI cB r lim rdy ks opn mac byt hash came rs key pad h blk w sin rt dg res))) (va_Qi (fun (rr : Int32) (u : Int32 × Int32 × Int64 × Int32 × Int32 × (Nat → Int32) × Int64) => (rr = nI 0 ∧ mayS rdy wh = 0 ∧ u = (opn, mac, byt, rs, hash, h, came)) ∨ (rr = nI 1 ∧ ¬ mayS rdy wh = 0 ∧ u = (wh, nI 0, lN 0, nI 0, wh, hini h, lN 0))) (fun u t => qD (dC, dI) cI cB (va_A (wM cI cB r lim rdy ks opn mac byt hash came rs key pad h blk w sin rt dg res) sz) (wM cI cB r lim rdy ks u.1 u.2.1 u.2.2.1 u.2.2.2.2.1 u.2.2.2.2.2.2 u.2.2.2.1 key pad u.2.2.2.2.2.1 blk w sin rt dg res) t) (va_A (wM cI cB r lim rdy ks opn mac byt hash came rs key pad h blk w sin rt dg res) sz)) 0 0 (va_A (wM cI cB r lim rdy ks opn mac byt hash came rs key pad h blk w sin rt dg res) sz) := by
  refine Met.ofW (cc := b_M_start) (maxL := 2) (ret := (some .boolean)) (by decide) rfl ?_
  intro p e s m args below meth c s₁ B hml hv
  obtain ⟨rfl, hsz, hP, hK, hD0, hST⟩ := hv
  have hx := B.exec
  have hb := B.bytes
  have hr := B.returns
  have hts : ∀ w ∈ tT, w.before _ s = true := fun w h => atoms_spec (ws := k_M_start :: tT) B.pre w (List.mem_cons_of_mem _ h)
  have hown : s.vm.findClass R_M = some m.cls := findClass_of_methodNamed B.named
  have hlocks := B.notSynchronized
  subst hsz
  have hD := hD0.self (sz := s.heap.size)
  generalize hAe : va_A (wM cI cB r lim rdy ks opn mac byt hash came rs key pad h blk w sin rt dg res) s.heap.size = A at hD hST ⊢
  have hA : ∀ q : Nat, s.heap.size ≤ q → A q := fun q h => by rw [← hAe]; exact Or.inr h
  have hS : va_S A s.heap s.heap [] := va_S.rf
  have hP : va_P (dC, dI) classes (wM cI cB r lim rdy ks opn mac byt hash came rs key pad h blk w sin rt dg res) s.heap := hP
  have hl := lv_entry ([.ref (r 0), .int wh]) (n := 2) (Nat.le_of_ble_eq_true rfl)
  rw [lg_entry_eq]
  generalize (lg_sl ([.ref (r 0), .int wh]) ++ List.replicate (2 - (lg_sl ([.ref (r 0), .int wh])).length) Slot.unset).toArray = ls at hl ⊢
  have hl : lv_has ls 2 [(0, .ref (r 0)), (1, .int wh)] := hl
  refine lv_aload_n (pc := 0) hx hb d_M_start_0 rfl (lv_at hl 0 rfl) ?_
  refine va_get (pc := 1) (D := (dC, dI)) (ci := 1) (v := .int rdy) (C := R_M) (T := F_M) (N := 18) hx hb hts i_M hown hK hP 0 rfl rfl 1 (by decide) (hts _ fl_M_116) (fun _ h9 => h9) rfl d_M_start_1 ?_
  refine lv_if_eq (pc := 4) (tgt := 16) hx hb d_M_start_4 (by decide) (fun c0 => ?_) (fun c0 => ?_)
  · refine lv_iconst (pc := 16) (v := (nI 0)) hx hb d_M_start_16 (by decide) ?_
    exact W.zret (v := (nI 0)) hx hb hr rfl (fun t ht hW => ⟨⟨(nI 0), (opn, mac, byt, rs, hash, h, came), rfl, Or.inl ⟨rfl, mayS_no c0, rfl⟩, by rw [ht]; exact hP, va_K.moved hW.alike hK, hD⟩, hS.F ht⟩) hS.2.2 d_M_start_17
  · refine lv_iload_n (pc := 7) hx hb d_M_start_7 rfl (lv_at hl 1 rfl) ?_
    refine lv_if_lt (pc := 8) (tgt := 16) hx hb d_M_start_8 (by decide) (fun c1 => ?_) (fun c1 => ?_)
    · refine lv_iconst (pc := 16) (v := (nI 0)) hx hb d_M_start_16 (by decide) ?_
      exact W.zret (v := (nI 0)) hx hb hr rfl (fun t ht hW => ⟨⟨(nI 0), (opn, mac, byt, rs, hash, h, came), rfl, Or.inl ⟨rfl, mayS_neg c1, rfl⟩, by rw [ht]; exact hP, va_K.moved hW.alike hK, hD⟩, hS.F ht⟩) hS.2.2 d_M_start_17
    · refine lv_iload_n (pc := 11) hx hb d_M_start_11 rfl (lv_at hl 1 rfl) ?_
      refine lv_iconst (pc := 12) (v := (nI 1)) hx hb d_M_start_12 (by decide) ?_
      refine lv_icmp_le (pc := 13) (tgt := 18) hx hb d_M_start_13 (by decide) (fun c2 => ?_) (fun c2 => ?_)
      · refine lv_aload_n (pc := 18) hx hb d_M_start_18 rfl (lv_at hl 0 rfl) ?_
        refine lv_iload_n (pc := 19) hx hb d_M_start_19 rfl (lv_at hl 1 rfl) ?_
        refine va_put (pc := 20) (D := (dC, dI)) (ci := 1) (v := .int wh) (ty := .int) (C := R_M) (T := F_M) (N := 18) hx hb hts i_M t_M t_M_ok n_M hown hK hP hD hS 0 rfl rfl 4 (by decide) (hts _ fl_M_13) (fun _ h9 => h9) rfl (by decide +kernel) rfl rfl (Nat.le_of_ble_eq_true rfl) d_M_start_20 (fun H locs hP hD hS => ?_)
        have hP : va_P (dC, dI) classes (wM cI cB r lim rdy ks wh mac byt hash came rs key pad h blk w sin rt dg res) H := hP
        have hD : va_D A (wM cI cB r lim rdy ks wh mac byt hash came rs key pad h blk w sin rt dg res) := hD
        refine lv_aload_n (pc := 23) hx hb d_M_start_23 rfl (lv_at hl 0 rfl) ?_
        refine lv_iconst (pc := 24) (v := (nI 0)) hx hb d_M_start_24 (by decide) ?_
        refine va_put (pc := 25) (D := (dC, dI)) (ci := 1) (v := .int (nI 0)) (ty := .boolean) (C := R_M) (T := F_M) (N := 18) hx hb hts i_M t_M t_M_ok n_M hown hK hP hD hS 0 rfl rfl 5 (by decide) (hts _ fl_M_126) (fun _ h9 => h9) rfl (by decide +kernel) rfl rfl (Nat.le_of_ble_eq_true rfl) d_M_start_25 (fun H locs hP hD hS => ?_)
        have hP : va_P (dC, dI) classes (wM cI cB r lim rdy ks wh (nI 0) byt hash came rs key pad h blk w sin rt dg res) H := hP
        have hD : va_D A (wM cI cB r lim rdy ks wh (nI 0) byt hash came rs key pad h blk w sin rt dg res) := hD
        refine lv_aload_n (pc := 28) hx hb d_M_start_28 rfl (lv_at hl 0 rfl) ?_
        refine lv_lconst (pc := 29) (v := (lN 0)) hx hb d_M_start_29 rfl ?_
        refine va_put (pc := 30) (D := (dC, dI)) (ci := 1) (v := .long (lN 0)) (ty := .long) (C := R_M) (T := F_M) (N := 18) hx hb hts i_M t_M t_M_ok n_M hown hK hP hD hS 0 rfl rfl 6 (by decide) (hts _ fl_M_129) (fun _ h9 => h9) rfl (by decide +kernel) rfl rfl (Nat.le_of_ble_eq_true rfl) d_M_start_30 (fun H locs hP hD hS => ?_)
        have hP : va_P (dC, dI) classes (wM cI cB r lim rdy ks wh (nI 0) (lN 0) hash came rs key pad h blk w sin rt dg res) H := hP
        have hD : va_D A (wM cI cB r lim rdy ks wh (nI 0) (lN 0) hash came rs key pad h blk w sin rt dg res) := hD
        refine lv_aload_n (pc := 33) hx hb d_M_start_33 rfl (lv_at hl 0 rfl) ?_
        refine lv_iconst (pc := 34) (v := (nI 0)) hx hb d_M_start_34 (by decide) ?_
        refine va_put (pc := 35) (D := (dC, dI)) (ci := 1) (v := .int (nI 0)) (ty := .int) (C := R_M) (T := F_M) (N := 18) hx hb hts i_M t_M t_M_ok n_M hown hK hP hD hS 0 rfl rfl 17 (by decide) (hts _ fl_M_123) (fun _ h9 => h9) rfl (by decide +kernel) rfl rfl (Nat.le_of_ble_eq_true rfl) d_M_start_35 (fun H locs hP hD hS => ?_)
        have hP : va_P (dC, dI) classes (wM cI cB r lim rdy ks wh (nI 0) (lN 0) hash came (nI 0) key pad h blk w sin rt dg res) H := hP
        have hD : va_D A (wM cI cB r lim rdy ks wh (nI 0) (lN 0) hash came (nI 0) key pad h blk w sin rt dg res) := hD
        refine lv_aload_n (pc := 38) hx hb d_M_start_38 rfl (lv_at hl 0 rfl) ?_
        refine lv_iload_n (pc := 39) hx hb d_M_start_39 rfl (lv_at hl 1 rfl) ?_
        refine kvG (pc := 40) (As := [.int wh]) (rest := []) (wr := []) (ci := 1) ⟨hx, hb, hml, hown, hts⟩ (c_M_begin l dC dI cI cB r H.size lim rdy ks wh (nI 0) hash (nI 0) (lN 0) came key pad h blk w sin rt dg res wh) (cwV 1 hts g_M_132 rfl rfl rfl hd_M_begin ⟨by decide, by decide⟩) hK hP hD hS hA hST [0, 1, 2, 3, 4, 5, 6, 7, 8, 9] [] rfl rfl (by decide) (by decide) (by decide) rfl rfl rfl hl.1 rfl (Nat.le_of_ble_eq_true rfl) d_M_start_40 ⟨by decide, by decide⟩ (fun u H locs hw hP hD hS => ?_)
        have hP : va_P (dC, dI) classes (wM cI cB r lim rdy ks wh (nI 0) (lN 0) wh (lN 0) (nI 0) key pad (hini h) blk w sin rt dg res) H := hP
        have hD : va_D A (wM cI cB r lim rdy ks wh (nI 0) (lN 0) wh (lN 0) (nI 0) key pad (hini h) blk w sin rt dg res) := hD
        refine lv_iconst (pc := 43) (v := (nI 1)) hx hb d_M_start_43 (by decide) ?_
        exact W.zret (v := (nI 1)) hx hb hr rfl (fun t ht hW => ⟨⟨(nI 1), (wh, nI 0, lN 0, nI 0, wh, hini h, lN 0), rfl, Or.inr ⟨rfl, mayS_ok c0 c1 c2, rfl⟩, by rw [ht]; exact hP, va_K.moved hW.alike hK, hD⟩, hS.F ht⟩) hS.2.2 d_M_start_44
      · refine lv_iconst (pc := 16) (v := (nI 0)) hx hb d_M_start_16 (by decide) ?_
        exact W.zret (v := (nI 0)) hx hb hr rfl (fun t ht hW => ⟨⟨(nI 0), (opn, mac, byt, rs, hash, h, came), rfl, Or.inl ⟨rfl, mayS_big c2, rfl⟩, by rw [ht]; exact hP, va_K.moved hW.alike hK, hD⟩, hS.F ht⟩) hS.2.2 d_M_start_17
set_option maxHeartbeats 4000000 in
set_option maxRecDepth 100000 in
theorem c_M_keyByte (l : Launch) (dC : Nat → ClassId) (dI : Nat → Nat → Nat) (cI cB : ClassId) (r : Nat → Nat) (sz : Nat) (rdy opn mac hash rs : Int32) (byt came : Int64) (key pad h blk w sin rt dg res : Nat → Int32) (L kn : Nat) (b : Int32) (hL : L ≤ 300) (hkn : kn ≤ L) : Met l y_M_keyByte (k_M_keyByte :: tT) ({ frames := 0, cells := 0, slots := 0, locals := 0 }) (va_Pc [.ref (r 0), .int b] (pD (dC, dI) cI cB sz (wM cI cB r (nI L) rdy (nI kn) opn mac byt hash came rs key pad h blk w sin rt dg res))) (va_Qi (fun (rr : Int32) (u : Nat × (Nat → Int32)) => (rr = nI 0 ∧ ¬ kbOK rdy (opn = -1) b kn L ∧ u = (kn, key)) ∨ (rr = nI 1 ∧ kbOK rdy (opn = -1) b kn L ∧ u = (kn + 1, upd key kn b))) (fun u t => qD (dC, dI) cI cB (va_A (wM cI cB r (nI L) rdy (nI kn) opn mac byt hash came rs key pad h blk w sin rt dg res) sz) (wM cI cB r (nI L) rdy (nI u.1) opn mac byt hash came rs u.2 pad h blk w sin rt dg res) t) (va_A (wM cI cB r (nI L) rdy (nI kn) opn mac byt hash came rs key pad h blk w sin rt dg res) sz)) 0 0 (va_A (wM cI cB r (nI L) rdy (nI kn) opn mac byt hash came rs key pad h blk w sin rt dg res) sz) := by
  refine Met.ofW (cc := b_M_keyByte) (maxL := 2) (ret := (some .boolean)) (by decide) rfl ?_
  intro p e s m args below meth c s₁ B hml hv
  obtain ⟨rfl, hsz, hP, hK, hD0, hST⟩ := hv
  have hx := B.exec
  have hb := B.bytes
  have hr := B.returns
  have hts : ∀ w ∈ tT, w.before _ s = true := fun w h => atoms_spec (ws := k_M_keyByte :: tT) B.pre w (List.mem_cons_of_mem _ h)
  have hown : s.vm.findClass R_M = some m.cls := findClass_of_methodNamed B.named
  have hlocks := B.notSynchronized
  subst hsz
  have hD := hD0.self (sz := s.heap.size)
  generalize hAe : va_A (wM cI cB r (nI L) rdy (nI kn) opn mac byt hash came rs key pad h blk w sin rt dg res) s.heap.size = A at hD hST ⊢
  have hA : ∀ q : Nat, s.heap.size ≤ q → A q := fun q h => by rw [← hAe]; exact Or.inr h
  have hS : va_S A s.heap s.heap [] := va_S.rf
  have hP : va_P (dC, dI) classes (wM cI cB r (nI L) rdy (nI kn) opn mac byt hash came rs key pad h blk w sin rt dg res) s.heap := hP
  have hl := lv_entry ([.ref (r 0), .int b]) (n := 2) (Nat.le_of_ble_eq_true rfl)
  rw [lg_entry_eq]
  generalize (lg_sl ([.ref (r 0), .int b]) ++ List.replicate (2 - (lg_sl ([.ref (r 0), .int b])).length) Slot.unset).toArray = ls at hl ⊢
  have hl : lv_has ls 2 [(0, .ref (r 0)), (1, .int b)] := hl
  refine lv_aload_n (pc := 0) hx hb d_M_keyByte_0 rfl (lv_at hl 0 rfl) ?_
  refine va_get (pc := 1) (D := (dC, dI)) (ci := 1) (v := .int rdy) (C := R_M) (T := F_M) (N := 18) hx hb hts i_M hown hK hP 0 rfl rfl 1 (by decide) (hts _ fl_M_116) (fun _ h9 => h9) rfl d_M_keyByte_1 ?_
  refine lv_if_eq (pc := 4) (tgt := 37) hx hb d_M_keyByte_4 (by decide) (fun c0 => ?_) (fun c0 => ?_)
  · refine lv_iconst (pc := 37) (v := (nI 0)) hx hb d_M_keyByte_37 (by decide) ?_
    exact W.zret (v := (nI 0)) hx hb hr rfl (fun t ht hW => ⟨⟨(nI 0), (kn, key), rfl, Or.inl ⟨rfl, fun z => z.1 c0, rfl⟩, by rw [ht]; exact hP, va_K.moved hW.alike hK, hD⟩, hS.F ht⟩) hS.2.2 d_M_keyByte_38
  · refine lv_aload_n (pc := 7) hx hb d_M_keyByte_7 rfl (lv_at hl 0 rfl) ?_
    refine va_get (pc := 8) (D := (dC, dI)) (ci := 1) (v := .int opn) (C := R_M) (T := F_M) (N := 18) hx hb hts i_M hown hK hP 0 rfl rfl 4 (by decide) (hts _ fl_M_13) (fun _ h9 => h9) rfl d_M_keyByte_8 ?_
    refine lv_iconst (pc := 11) (v := (-1)) hx hb d_M_keyByte_11 (by decide) ?_
    refine lv_icmp_ne (pc := 12) (tgt := 37) hx hb d_M_keyByte_12 (by decide) (fun c1 => ?_) (fun c1 => ?_)
    · refine lv_iconst (pc := 37) (v := (nI 0)) hx hb d_M_keyByte_37 (by decide) ?_
      exact W.zret (v := (nI 0)) hx hb hr rfl (fun t ht hW => ⟨⟨(nI 0), (kn, key), rfl, Or.inl ⟨rfl, fun z => c1 z.2.1, rfl⟩, by rw [ht]; exact hP, va_K.moved hW.alike hK, hD⟩, hS.F ht⟩) hS.2.2 d_M_keyByte_38
    · refine lv_iload_n (pc := 15) hx hb d_M_keyByte_15 rfl (lv_at hl 1 rfl) ?_
      refine lv_if_lt (pc := 16) (tgt := 37) hx hb d_M_keyByte_16 (by decide) (fun c2 => ?_) (fun c2 => ?_)
      · refine lv_iconst (pc := 37) (v := (nI 0)) hx hb d_M_keyByte_37 (by decide) ?_
        exact W.zret (v := (nI 0)) hx hb hr rfl (fun t ht hW => ⟨⟨(nI 0), (kn, key), rfl, Or.inl ⟨rfl, fun z => z.2.2.1 c2, rfl⟩, by rw [ht]; exact hP, va_K.moved hW.alike hK, hD⟩, hS.F ht⟩) hS.2.2 d_M_keyByte_38
      · refine lv_iload_n (pc := 19) hx hb d_M_keyByte_19 rfl (lv_at hl 1 rfl) ?_
        refine lv_sipush (pc := 20) (v := (nI 255)) hx hb d_M_keyByte_20 (by decide) ?_
        refine lv_icmp_gt (pc := 23) (tgt := 37) hx hb d_M_keyByte_23 (by decide) (fun c3 => ?_) (fun c3 => ?_)
        · refine lv_iconst (pc := 37) (v := (nI 0)) hx hb d_M_keyByte_37 (by decide) ?_
          exact W.zret (v := (nI 0)) hx hb hr rfl (fun t ht hW => ⟨⟨(nI 0), (kn, key), rfl, Or.inl ⟨rfl, fun z => z.2.2.2.1 c3, rfl⟩, by rw [ht]; exact hP, va_K.moved hW.alike hK, hD⟩, hS.F ht⟩) hS.2.2 d_M_keyByte_38
        · refine lv_aload_n (pc := 26) hx hb d_M_keyByte_26 rfl (lv_at hl 0 rfl) ?_
          refine va_get (pc := 27) (D := (dC, dI)) (ci := 1) (v := .int (nI kn)) (C := R_M) (T := F_M) (N := 18) hx hb hts i_M hown hK hP 0 rfl rfl 3 (by decide) (hts _ fl_M_120) (fun _ h9 => h9) rfl d_M_keyByte_27 ?_
          refine lv_aload_n (pc := 30) hx hb d_M_keyByte_30 rfl (lv_at hl 0 rfl) ?_
          refine va_get (pc := 31) (D := (dC, dI)) (ci := 1) (v := .int (nI L)) (C := R_M) (T := F_M) (N := 18) hx hb hts i_M hown hK hP 0 rfl rfl 0 (by decide) (hts _ fl_M_41) (fun _ h9 => h9) rfl d_M_keyByte_31 ?_
          refine xi_ne (pc := 34) (tgt := 39) hx hb d_M_keyByte_34 (by decide) (by omega) (by omega) (fun c4 => ?_) (fun c4 => ?_)
          · refine lv_aload_n (pc := 39) hx hb d_M_keyByte_39 rfl (lv_at hl 0 rfl) ?_
            refine va_get (pc := 40) (D := (dC, dI)) (ci := 1) (v := .ref (r 1)) (C := R_M) (T := F_M) (N := 18) hx hb hts i_M hown hK hP 0 rfl rfl 2 (by decide) (hts _ fl_M_7) (fun _ h9 => h9) rfl d_M_keyByte_40 ?_
            refine lv_aload_n (pc := 43) hx hb d_M_keyByte_43 rfl (lv_at hl 0 rfl) ?_
            refine va_get (pc := 44) (D := (dC, dI)) (ci := 1) (v := .int (nI kn)) (C := R_M) (T := F_M) (N := 18) hx hb hts i_M hown hK hP 0 rfl rfl 3 (by decide) (hts _ fl_M_120) (fun _ h9 => h9) rfl d_M_keyByte_44 ?_
            refine lv_iload_n (pc := 47) hx hb d_M_keyByte_47 rfl (lv_at hl 1 rfl) ?_
            refine xa_iast (pc := 48) (x := b) hx hb hK hP hD hS 1 0 rfl rfl (by omega) (by decide) d_M_keyByte_48 (fun H locs hP hD hS => ?_)
            have hP : va_P (dC, dI) classes (wM cI cB r (nI L) rdy (nI kn) opn mac byt hash came rs (upd key kn b) pad h blk w sin rt dg res) H := hP
            have hD : va_D A (wM cI cB r (nI L) rdy (nI kn) opn mac byt hash came rs (upd key kn b) pad h blk w sin rt dg res) := hD
            refine lv_aload_n (pc := 49) hx hb d_M_keyByte_49 rfl (lv_at hl 0 rfl) ?_
            refine lv_dup (pc := 50) hx hb d_M_keyByte_50 rfl ?_
            refine va_get (pc := 51) (D := (dC, dI)) (ci := 1) (v := .int (nI kn)) (C := R_M) (T := F_M) (N := 18) hx hb hts i_M hown hK hP 0 rfl rfl 3 (by decide) (hts _ fl_M_120) (fun _ h9 => h9) rfl d_M_keyByte_51 ?_
            refine lv_iconst (pc := 54) (v := (nI 1)) hx hb d_M_keyByte_54 (by decide) ?_
            refine xi_add (pc := 55) hx hb d_M_keyByte_55 ?_
            refine va_put (pc := 56) (D := (dC, dI)) (ci := 1) (v := .int (nI (kn + 1))) (ty := .int) (C := R_M) (T := F_M) (N := 18) hx hb hts i_M t_M t_M_ok n_M hown hK hP hD hS 0 rfl rfl 3 (by decide) (hts _ fl_M_120) (fun _ h9 => h9) rfl (by decide +kernel) rfl rfl (Nat.le_of_ble_eq_true rfl) d_M_keyByte_56 (fun H locs hP hD hS => ?_)
            have hP : va_P (dC, dI) classes (wM cI cB r (nI L) rdy (nI (kn + 1)) opn mac byt hash came rs (upd key kn b) pad h blk w sin rt dg res) H := hP
            have hD : va_D A (wM cI cB r (nI L) rdy (nI (kn + 1)) opn mac byt hash came rs (upd key kn b) pad h blk w sin rt dg res) := hD
            refine lv_iconst (pc := 59) (v := (nI 1)) hx hb d_M_keyByte_59 (by decide) ?_
            exact W.zret (v := (nI 1)) hx hb hr rfl (fun t ht hW => ⟨⟨(nI 1), (kn + 1, upd key kn b), rfl, Or.inr ⟨rfl, ⟨c0, c1, c2, c3, c4⟩, rfl⟩, by rw [ht]; exact hP, va_K.moved hW.alike hK, hD⟩, hS.F ht⟩) hS.2.2 d_M_keyByte_60
          · refine lv_iconst (pc := 37) (v := (nI 0)) hx hb d_M_keyByte_37 (by decide) ?_
            exact W.zret (v := (nI 0)) hx hb hr rfl (fun t ht hW => ⟨⟨(nI 0), (kn, key), rfl, Or.inl ⟨rfl, fun z => z.2.2.2.2 c4, rfl⟩, by rw [ht]; exact hP, va_K.moved hW.alike hK, hD⟩, hS.F ht⟩) hS.2.2 d_M_keyByte_38
set_option maxHeartbeats 4000000 in
set_option maxRecDepth 100000 in
theorem c_M_update (l : Launch) (dC : Nat → ClassId) (dI : Nat → Nat → Nat) (cI cB : ClassId) (r : Nat → Nat) (sz : Nat) (lim rdy ks opn mac hash rs : Int32) (key pad h blk w sin rt dg res : Nat → Int32) (n bn : Nat) (b : Int32) (hn : n < 2 ^ 60) (hsin : ∀ j, j < 64 → sin j = sinesT j) (hrt : ∀ j, j < 4 → rt j = addedT j) : Met l y_M_update (k_M_update :: tT) ({ frames := 3, cells := 0, slots := 0, locals := 73 }) (va_Pc [.ref (r 0), .int b] (pD (dC, dI) cI cB sz (wM cI cB r lim rdy ks opn mac (lN bn) hash (lN n) rs key pad h blk w sin rt dg res))) (va_Qi (fun (rr : Int32) (u : (Nat → Int32) × (Nat → Int32) × (Nat → Int32) × Nat × Nat) => (rr = nI 0 ∧ ¬ upOK (opn = -1) b ∧ u = (h, blk, w, n, bn)) ∨ (rr = nI 1 ∧ upOK (opn = -1) b ∧ u.1 = (hput hash b (h, blk, n)).1 ∧ u.2.1 = (hput hash b (h, blk, n)).2.1 ∧ u.2.2.2 = (n + 1, bn + 1))) (fun u t => qD (dC, dI) cI cB (va_A (wM cI cB r lim rdy ks opn mac (lN bn) hash (lN n) rs key pad h blk w sin rt dg res) sz) (wM cI cB r lim rdy ks opn mac (lN u.2.2.2.2) hash (lN u.2.2.2.1) rs key pad u.1 u.2.1 u.2.2.1 sin rt dg res) t) (va_A (wM cI cB r lim rdy ks opn mac (lN bn) hash (lN n) rs key pad h blk w sin rt dg res) sz)) 0 0 (va_A (wM cI cB r lim rdy ks opn mac (lN bn) hash (lN n) rs key pad h blk w sin rt dg res) sz) := by
  refine Met.ofW (cc := b_M_update) (maxL := 2) (ret := (some .boolean)) (by decide) rfl ?_
  intro p e s m args below meth c s₁ B hml hv
  obtain ⟨rfl, hsz, hP, hK, hD0, hST⟩ := hv
  have hx := B.exec
  have hb := B.bytes
  have hr := B.returns
  have hts : ∀ w ∈ tT, w.before _ s = true := fun w h => atoms_spec (ws := k_M_update :: tT) B.pre w (List.mem_cons_of_mem _ h)
  have hown : s.vm.findClass R_M = some m.cls := findClass_of_methodNamed B.named
  have hlocks := B.notSynchronized
  subst hsz
  have hD := hD0.self (sz := s.heap.size)
  generalize hAe : va_A (wM cI cB r lim rdy ks opn mac (lN bn) hash (lN n) rs key pad h blk w sin rt dg res) s.heap.size = A at hD hST ⊢
  have hA : ∀ q : Nat, s.heap.size ≤ q → A q := fun q h => by rw [← hAe]; exact Or.inr h
  have hS : va_S A s.heap s.heap [] := va_S.rf
  have hP : va_P (dC, dI) classes (wM cI cB r lim rdy ks opn mac (lN bn) hash (lN n) rs key pad h blk w sin rt dg res) s.heap := hP
  have hl := lv_entry ([.ref (r 0), .int b]) (n := 2) (Nat.le_of_ble_eq_true rfl)
  rw [lg_entry_eq]
  generalize (lg_sl ([.ref (r 0), .int b]) ++ List.replicate (2 - (lg_sl ([.ref (r 0), .int b])).length) Slot.unset).toArray = ls at hl ⊢
  have hl : lv_has ls 2 [(0, .ref (r 0)), (1, .int b)] := hl
  refine lv_aload_n (pc := 0) hx hb d_M_update_0 rfl (lv_at hl 0 rfl) ?_
  refine va_get (pc := 1) (D := (dC, dI)) (ci := 1) (v := .int opn) (C := R_M) (T := F_M) (N := 18) hx hb hts i_M hown hK hP 0 rfl rfl 4 (by decide) (hts _ fl_M_13) (fun _ h9 => h9) rfl d_M_update_1 ?_
  refine lv_iconst (pc := 4) (v := (-1)) hx hb d_M_update_4 (by decide) ?_
  refine lv_icmp_eq (pc := 5) (tgt := 19) hx hb d_M_update_5 (by decide) (fun c0 => ?_) (fun c0 => ?_)
  · refine lv_iconst (pc := 19) (v := (nI 0)) hx hb d_M_update_19 (by decide) ?_
    exact W.zret (v := (nI 0)) hx hb hr rfl (fun t ht hW => ⟨⟨(nI 0), (h, blk, w, n, bn), rfl, Or.inl ⟨rfl, fun z => z.1 c0, rfl⟩, by rw [ht]; exact hP, va_K.moved hW.alike hK, hD⟩, hS.F ht⟩) hS.2.2 d_M_update_20
  · refine lv_iload_n (pc := 8) hx hb d_M_update_8 rfl (lv_at hl 1 rfl) ?_
    refine lv_if_lt (pc := 9) (tgt := 19) hx hb d_M_update_9 (by decide) (fun c1 => ?_) (fun c1 => ?_)
    · refine lv_iconst (pc := 19) (v := (nI 0)) hx hb d_M_update_19 (by decide) ?_
      exact W.zret (v := (nI 0)) hx hb hr rfl (fun t ht hW => ⟨⟨(nI 0), (h, blk, w, n, bn), rfl, Or.inl ⟨rfl, fun z => z.2.1 c1, rfl⟩, by rw [ht]; exact hP, va_K.moved hW.alike hK, hD⟩, hS.F ht⟩) hS.2.2 d_M_update_20
    · refine lv_iload_n (pc := 12) hx hb d_M_update_12 rfl (lv_at hl 1 rfl) ?_
      refine lv_sipush (pc := 13) (v := (nI 255)) hx hb d_M_update_13 (by decide) ?_
      refine lv_icmp_le (pc := 16) (tgt := 21) hx hb d_M_update_16 (by decide) (fun c2 => ?_) (fun c2 => ?_)
      · have c3 : ¬ nI 255 < b := Int32.not_lt.mpr c2
        refine lv_aload_n (pc := 21) hx hb d_M_update_21 rfl (lv_at hl 0 rfl) ?_
        refine lv_iload_n (pc := 22) hx hb d_M_update_22 rfl (lv_at hl 1 rfl) ?_
        refine kvG (pc := 23) (As := [.int b]) (rest := []) (wr := []) (ci := 1) ⟨hx, hb, hml, hown, hts⟩ (c_M_add l dC dI cI cB r s.heap.size lim rdy ks opn mac hash rs (lN bn) key pad h blk w sin rt dg res n b (by omega) hsin hrt) (cwV 1 hts g_M_104 rfl rfl rfl hd_M_add ⟨by decide, by decide⟩) hK hP hD hS hA hST [0, 1, 2, 3, 4, 5, 6, 7, 8, 9] [] rfl rfl (by decide) (by decide) (by decide) rfl rfl rfl hl.1 rfl (Nat.le_of_ble_eq_true rfl) d_M_update_23 ⟨by decide, by decide⟩ (fun u H locs hw hP hD hS => ?_)
        obtain ⟨v1, v2⟩ := u
        have hP : va_P (dC, dI) classes (wM cI cB r lim rdy ks opn mac (lN bn) hash (lN (n + 1)) rs key pad v1 (upd blk (n % 64) b) v2 sin rt dg res) H := hP
        have hD : va_D A (wM cI cB r lim rdy ks opn mac (lN bn) hash (lN (n + 1)) rs key pad v1 (upd blk (n % 64) b) v2 sin rt dg res) := hD
        refine lv_aload_n (pc := 26) hx hb d_M_update_26 rfl (lv_at hl 0 rfl) ?_
        refine lv_dup (pc := 27) hx hb d_M_update_27 rfl ?_
        refine va_get (pc := 28) (D := (dC, dI)) (ci := 1) (v := .long (lN bn)) (C := R_M) (T := F_M) (N := 18) hx hb hts i_M hown hK hP 0 rfl rfl 6 (by decide) (hts _ fl_M_129) (fun _ h9 => h9) rfl d_M_update_28 ?_
        refine lv_lconst (pc := 31) (v := (lN 1)) hx hb d_M_update_31 rfl ?_
        refine xl_add (pc := 32) hx hb d_M_update_32 ?_
        refine va_put (pc := 33) (D := (dC, dI)) (ci := 1) (v := .long (lN (bn + 1))) (ty := .long) (C := R_M) (T := F_M) (N := 18) hx hb hts i_M t_M t_M_ok n_M hown hK hP hD hS 0 rfl rfl 6 (by decide) (hts _ fl_M_129) (fun _ h9 => h9) rfl (by decide +kernel) rfl rfl (Nat.le_of_ble_eq_true rfl) d_M_update_33 (fun H locs hP hD hS => ?_)
        have hP : va_P (dC, dI) classes (wM cI cB r lim rdy ks opn mac (lN (bn + 1)) hash (lN (n + 1)) rs key pad v1 (upd blk (n % 64) b) v2 sin rt dg res) H := hP
        have hD : va_D A (wM cI cB r lim rdy ks opn mac (lN (bn + 1)) hash (lN (n + 1)) rs key pad v1 (upd blk (n % 64) b) v2 sin rt dg res) := hD
        refine lv_iconst (pc := 36) (v := (nI 1)) hx hb d_M_update_36 (by decide) ?_
        exact W.zret (v := (nI 1)) hx hb hr rfl (fun t ht hW => ⟨⟨(nI 1), (v1, upd blk (n % 64) b, v2, n + 1, bn + 1), rfl, Or.inr ⟨rfl, ⟨c0, c1, c3⟩, hw, rfl, rfl⟩, by rw [ht]; exact hP, va_K.moved hW.alike hK, hD⟩, hS.F ht⟩) hS.2.2 d_M_update_37
      · refine lv_iconst (pc := 19) (v := (nI 0)) hx hb d_M_update_19 (by decide) ?_
        exact W.zret (v := (nI 0)) hx hb hr rfl (fun t ht hW => ⟨⟨(nI 0), (h, blk, w, n, bn), rfl, Or.inl ⟨rfl, fun z => z.2.2 (Int32.not_le.mp c2), rfl⟩, by rw [ht]; exact hP, va_K.moved hW.alike hK, hD⟩, hS.F ht⟩) hS.2.2 d_M_update_20
set_option maxHeartbeats 4000000 in
set_option maxRecDepth 100000 in
theorem c_M_out (l : Launch) (dC : Nat → ClassId) (dI : Nat → Nat → Nat) (cI cB : ClassId) (r : Nat → Nat) (sz : Nat) (lim rdy ks opn mac hash : Int32) (byt came : Int64) (key pad h blk w sin rt dg res : Nat → Int32) (rn : Nat) (i : Int32) (hrn : rn ≤ 20) (hres : ∀ j, j < rn → res j = dg j) : Met l y_M_out (k_M_out :: tT) ({ frames := 0, cells := 0, slots := 0, locals := 0 }) (va_Pc [.ref (r 0), .int i] (pD (dC, dI) cI cB sz (wM cI cB r lim rdy ks opn mac byt hash came (nI rn) key pad h blk w sin rt dg res))) (va_Qi (fun (rr : Int32) (u : Unit) => rr = outV rn dg i) (fun u t => qD (dC, dI) cI cB (va_A (wM cI cB r lim rdy ks opn mac byt hash came (nI rn) key pad h blk w sin rt dg res) sz) (wM cI cB r lim rdy ks opn mac byt hash came (nI rn) key pad h blk w sin rt dg res) t) (va_A (wM cI cB r lim rdy ks opn mac byt hash came (nI rn) key pad h blk w sin rt dg res) sz)) 0 0 (va_A (wM cI cB r lim rdy ks opn mac byt hash came (nI rn) key pad h blk w sin rt dg res) sz) := by
  refine Met.ofW (cc := b_M_out) (maxL := 2) (ret := (some .int)) (by decide) rfl ?_
  intro p e s m args below meth c s₁ B hml hv
  obtain ⟨rfl, hsz, hP, hK, hD0, hST⟩ := hv
  have hx := B.exec
  have hb := B.bytes
  have hr := B.returns
  have hts : ∀ w ∈ tT, w.before _ s = true := fun w h => atoms_spec (ws := k_M_out :: tT) B.pre w (List.mem_cons_of_mem _ h)
  have hown : s.vm.findClass R_M = some m.cls := findClass_of_methodNamed B.named
  have hlocks := B.notSynchronized
  subst hsz
  have hD := hD0.self (sz := s.heap.size)
  generalize hAe : va_A (wM cI cB r lim rdy ks opn mac byt hash came (nI rn) key pad h blk w sin rt dg res) s.heap.size = A at hD hST ⊢
  have hA : ∀ q : Nat, s.heap.size ≤ q → A q := fun q h => by rw [← hAe]; exact Or.inr h
  have hS : va_S A s.heap s.heap [] := va_S.rf
  have hP : va_P (dC, dI) classes (wM cI cB r lim rdy ks opn mac byt hash came (nI rn) key pad h blk w sin rt dg res) s.heap := hP
  have hl := lv_entry ([.ref (r 0), .int i]) (n := 2) (Nat.le_of_ble_eq_true rfl)
  rw [lg_entry_eq]
  generalize (lg_sl ([.ref (r 0), .int i]) ++ List.replicate (2 - (lg_sl ([.ref (r 0), .int i])).length) Slot.unset).toArray = ls at hl ⊢
  have hl : lv_has ls 2 [(0, .ref (r 0)), (1, .int i)] := hl
  refine lv_iload_n (pc := 0) hx hb d_M_out_0 rfl (lv_at hl 1 rfl) ?_
  refine lv_if_lt (pc := 1) (tgt := 12) hx hb d_M_out_1 (by decide) (fun c0 => ?_) (fun c0 => ?_)
  · refine lv_iconst (pc := 12) (v := (-1)) hx hb d_M_out_12 (by decide) ?_
    refine lv_goto (pc := 13) (tgt := 22) hx hb d_M_out_13 (by decide) ?_
    exact W.iret (v := (-1)) hx hb hr (fun t ht hW => ⟨⟨(-1), (), rfl, by rw [outV, if_pos c0], by rw [ht]; exact hP, va_K.moved hW.alike hK, hD⟩, hS.F ht⟩) hS.2.2 d_M_out_22
  · refine lv_iload_n (pc := 4) hx hb d_M_out_4 rfl (lv_at hl 1 rfl) ?_
    refine lv_aload_n (pc := 5) hx hb d_M_out_5 rfl (lv_at hl 0 rfl) ?_
    refine va_get (pc := 6) (D := (dC, dI)) (ci := 1) (v := .int (nI rn)) (C := R_M) (T := F_M) (N := 18) hx hb hts i_M hown hK hP 0 rfl rfl 17 (by decide) (hts _ fl_M_123) (fun _ h9 => h9) rfl d_M_out_6 ?_
    refine lv_icmp_lt (pc := 9) (tgt := 16) hx hb d_M_out_9 (by decide) (fun c1 => ?_) (fun c1 => ?_)
    · obtain ⟨j, hj, ej⟩ := nI_of c0
      subst ej
      have c2 : j < rn := (nI_ltI hj (by omega)).mp c1
      refine lv_aload_n (pc := 16) hx hb d_M_out_16 rfl (lv_at hl 0 rfl) ?_
      refine va_get (pc := 17) (D := (dC, dI)) (ci := 1) (v := .ref (r 9)) (C := R_M) (T := F_M) (N := 18) hx hb hts i_M hown hK hP 0 rfl rfl 16 (by decide) (hts _ fl_M_38) (fun _ h9 => h9) rfl d_M_out_17 ?_
      refine lv_iload_n (pc := 20) hx hb d_M_out_20 rfl (lv_at hl 1 rfl) ?_
      refine xa_iald (pc := 21) hx hb hK hP 9 0 rfl rfl (by omega) (by decide) d_M_out_21 ?_
      exact W.iret (v := (res j)) hx hb hr (fun t ht hW => ⟨⟨(res j), (), rfl, by rw [outV, if_neg c0, if_pos c1, hres j c2, nI_clamp hj], by rw [ht]; exact hP, va_K.moved hW.alike hK, hD⟩, hS.F ht⟩) hS.2.2 d_M_out_22
    · refine lv_iconst (pc := 12) (v := (-1)) hx hb d_M_out_12 (by decide) ?_
      refine lv_goto (pc := 13) (tgt := 22) hx hb d_M_out_13 (by decide) ?_
      exact W.iret (v := (-1)) hx hb hr (fun t ht hW => ⟨⟨(-1), (), rfl, by rw [outV, if_neg c0, if_neg c1], by rw [ht]; exact hP, va_K.moved hW.alike hK, hD⟩, hS.F ht⟩) hS.2.2 d_M_out_22
set_option maxHeartbeats 4000000 in
set_option maxRecDepth 100000 in
theorem c_M_outLen (l : Launch) (dC : Nat → ClassId) (dI : Nat → Nat → Nat) (cI cB : ClassId) (r : Nat → Nat) (sz : Nat) (lim rdy ks opn mac hash rs : Int32) (byt came : Int64) (key pad h blk w sin rt dg res : Nat → Int32)  : Met l y_M_outLen (k_M_outLen :: tT) ({ frames := 0, cells := 0, slots := 0, locals := 0 }) (va_Pc [.ref (r 0)] (pD (dC, dI) cI cB sz (wM cI cB r lim rdy ks opn mac byt hash came rs key pad h blk w sin rt dg res))) (va_Qi (fun (rr : Int32) (u : Unit) => rr = rs) (fun u t => qD (dC, dI) cI cB (va_A (wM cI cB r lim rdy ks opn mac byt hash came rs key pad h blk w sin rt dg res) sz) (wM cI cB r lim rdy ks opn mac byt hash came rs key pad h blk w sin rt dg res) t) (va_A (wM cI cB r lim rdy ks opn mac byt hash came rs key pad h blk w sin rt dg res) sz)) 0 0 (va_A (wM cI cB r lim rdy ks opn mac byt hash came rs key pad h blk w sin rt dg res) sz) := by
  refine Met.ofW (cc := b_M_outLen) (maxL := 1) (ret := (some .int)) (by decide) rfl ?_
  intro p e s m args below meth c s₁ B hml hv
  obtain ⟨rfl, hsz, hP, hK, hD0, hST⟩ := hv
  have hx := B.exec
  have hb := B.bytes
  have hr := B.returns
  have hts : ∀ w ∈ tT, w.before _ s = true := fun w h => atoms_spec (ws := k_M_outLen :: tT) B.pre w (List.mem_cons_of_mem _ h)
  have hown : s.vm.findClass R_M = some m.cls := findClass_of_methodNamed B.named
  have hlocks := B.notSynchronized
  subst hsz
  have hD := hD0.self (sz := s.heap.size)
  generalize hAe : va_A (wM cI cB r lim rdy ks opn mac byt hash came rs key pad h blk w sin rt dg res) s.heap.size = A at hD hST ⊢
  have hA : ∀ q : Nat, s.heap.size ≤ q → A q := fun q h => by rw [← hAe]; exact Or.inr h
  have hS : va_S A s.heap s.heap [] := va_S.rf
  have hP : va_P (dC, dI) classes (wM cI cB r lim rdy ks opn mac byt hash came rs key pad h blk w sin rt dg res) s.heap := hP
  have hl := lv_entry ([.ref (r 0)]) (n := 1) (Nat.le_of_ble_eq_true rfl)
  rw [lg_entry_eq]
  generalize (lg_sl ([.ref (r 0)]) ++ List.replicate (1 - (lg_sl ([.ref (r 0)])).length) Slot.unset).toArray = ls at hl ⊢
  have hl : lv_has ls 1 [(0, .ref (r 0))] := hl
  refine lv_aload_n (pc := 0) hx hb d_M_outLen_0 rfl (lv_at hl 0 rfl) ?_
  refine va_get (pc := 1) (D := (dC, dI)) (ci := 1) (v := .int rs) (C := R_M) (T := F_M) (N := 18) hx hb hts i_M hown hK hP 0 rfl rfl 17 (by decide) (hts _ fl_M_123) (fun _ h9 => h9) rfl d_M_outLen_1 ?_
  exact W.iret (v := rs) hx hb hr (fun t ht hW => ⟨⟨rs, (), rfl, rfl, by rw [ht]; exact hP, va_K.moved hW.alike hK, hD⟩, hS.F ht⟩) hS.2.2 d_M_outLen_4
set_option maxHeartbeats 4000000 in
set_option maxRecDepth 100000 in
theorem c_M_keyLen (l : Launch) (dC : Nat → ClassId) (dI : Nat → Nat → Nat) (cI cB : ClassId) (r : Nat → Nat) (sz : Nat) (lim rdy ks opn mac hash rs : Int32) (byt came : Int64) (key pad h blk w sin rt dg res : Nat → Int32)  : Met l y_M_keyLen (k_M_keyLen :: tT) ({ frames := 0, cells := 0, slots := 0, locals := 0 }) (va_Pc [.ref (r 0)] (pD (dC, dI) cI cB sz (wM cI cB r lim rdy ks opn mac byt hash came rs key pad h blk w sin rt dg res))) (va_Qi (fun (rr : Int32) (u : Unit) => rr = ks) (fun u t => qD (dC, dI) cI cB (va_A (wM cI cB r lim rdy ks opn mac byt hash came rs key pad h blk w sin rt dg res) sz) (wM cI cB r lim rdy ks opn mac byt hash came rs key pad h blk w sin rt dg res) t) (va_A (wM cI cB r lim rdy ks opn mac byt hash came rs key pad h blk w sin rt dg res) sz)) 0 0 (va_A (wM cI cB r lim rdy ks opn mac byt hash came rs key pad h blk w sin rt dg res) sz) := by
  refine Met.ofW (cc := b_M_keyLen) (maxL := 1) (ret := (some .int)) (by decide) rfl ?_
  intro p e s m args below meth c s₁ B hml hv
  obtain ⟨rfl, hsz, hP, hK, hD0, hST⟩ := hv
  have hx := B.exec
  have hb := B.bytes
  have hr := B.returns
  have hts : ∀ w ∈ tT, w.before _ s = true := fun w h => atoms_spec (ws := k_M_keyLen :: tT) B.pre w (List.mem_cons_of_mem _ h)
  have hown : s.vm.findClass R_M = some m.cls := findClass_of_methodNamed B.named
  have hlocks := B.notSynchronized
  subst hsz
  have hD := hD0.self (sz := s.heap.size)
  generalize hAe : va_A (wM cI cB r lim rdy ks opn mac byt hash came rs key pad h blk w sin rt dg res) s.heap.size = A at hD hST ⊢
  have hA : ∀ q : Nat, s.heap.size ≤ q → A q := fun q h => by rw [← hAe]; exact Or.inr h
  have hS : va_S A s.heap s.heap [] := va_S.rf
  have hP : va_P (dC, dI) classes (wM cI cB r lim rdy ks opn mac byt hash came rs key pad h blk w sin rt dg res) s.heap := hP
  have hl := lv_entry ([.ref (r 0)]) (n := 1) (Nat.le_of_ble_eq_true rfl)
  rw [lg_entry_eq]
  generalize (lg_sl ([.ref (r 0)]) ++ List.replicate (1 - (lg_sl ([.ref (r 0)])).length) Slot.unset).toArray = ls at hl ⊢
  have hl : lv_has ls 1 [(0, .ref (r 0))] := hl
  refine lv_aload_n (pc := 0) hx hb d_M_keyLen_0 rfl (lv_at hl 0 rfl) ?_
  refine va_get (pc := 1) (D := (dC, dI)) (ci := 1) (v := .int ks) (C := R_M) (T := F_M) (N := 18) hx hb hts i_M hown hK hP 0 rfl rfl 3 (by decide) (hts _ fl_M_120) (fun _ h9 => h9) rfl d_M_keyLen_1 ?_
  exact W.iret (v := ks) hx hb hr (fun t ht hW => ⟨⟨ks, (), rfl, rfl, by rw [ht]; exact hP, va_K.moved hW.alike hK, hD⟩, hS.F ht⟩) hS.2.2 d_M_keyLen_4
set_option maxHeartbeats 4000000 in
set_option maxRecDepth 100000 in
theorem c_M_length (l : Launch) (dC : Nat → ClassId) (dI : Nat → Nat → Nat) (cI cB : ClassId) (r : Nat → Nat) (sz : Nat) (lim rdy ks opn mac hash rs : Int32) (byt came : Int64) (key pad h blk w sin rt dg res : Nat → Int32)  : Met l y_M_length (k_M_length :: tT) ({ frames := 0, cells := 0, slots := 0, locals := 0 }) (va_Pc [.ref (r 0)] (pD (dC, dI) cI cB sz (wM cI cB r lim rdy ks opn mac byt hash came rs key pad h blk w sin rt dg res))) (va_Ql (fun (rr : Int64) (u : Unit) => rr = if opn = -1 then -1 else byt) (fun u t => qD (dC, dI) cI cB (va_A (wM cI cB r lim rdy ks opn mac byt hash came rs key pad h blk w sin rt dg res) sz) (wM cI cB r lim rdy ks opn mac byt hash came rs key pad h blk w sin rt dg res) t) (va_A (wM cI cB r lim rdy ks opn mac byt hash came rs key pad h blk w sin rt dg res) sz)) 0 0 (va_A (wM cI cB r lim rdy ks opn mac byt hash came rs key pad h blk w sin rt dg res) sz) := by
  refine Met.ofW (cc := b_M_length) (maxL := 1) (ret := (some .long)) (by decide) rfl ?_
  intro p e s m args below meth c s₁ B hml hv
  obtain ⟨rfl, hsz, hP, hK, hD0, hST⟩ := hv
  have hx := B.exec
  have hb := B.bytes
  have hr := B.returns
  have hts : ∀ w ∈ tT, w.before _ s = true := fun w h => atoms_spec (ws := k_M_length :: tT) B.pre w (List.mem_cons_of_mem _ h)
  have hown : s.vm.findClass R_M = some m.cls := findClass_of_methodNamed B.named
  have hlocks := B.notSynchronized
  subst hsz
  have hD := hD0.self (sz := s.heap.size)
  generalize hAe : va_A (wM cI cB r lim rdy ks opn mac byt hash came rs key pad h blk w sin rt dg res) s.heap.size = A at hD hST ⊢
  have hA : ∀ q : Nat, s.heap.size ≤ q → A q := fun q h => by rw [← hAe]; exact Or.inr h
  have hS : va_S A s.heap s.heap [] := va_S.rf
  have hP : va_P (dC, dI) classes (wM cI cB r lim rdy ks opn mac byt hash came rs key pad h blk w sin rt dg res) s.heap := hP
  have hl := lv_entry ([.ref (r 0)]) (n := 1) (Nat.le_of_ble_eq_true rfl)
  rw [lg_entry_eq]
  generalize (lg_sl ([.ref (r 0)]) ++ List.replicate (1 - (lg_sl ([.ref (r 0)])).length) Slot.unset).toArray = ls at hl ⊢
  have hl : lv_has ls 1 [(0, .ref (r 0))] := hl
  refine lv_aload_n (pc := 0) hx hb d_M_length_0 rfl (lv_at hl 0 rfl) ?_
  refine va_get (pc := 1) (D := (dC, dI)) (ci := 1) (v := .int opn) (C := R_M) (T := F_M) (N := 18) hx hb hts i_M hown hK hP 0 rfl rfl 4 (by decide) (hts _ fl_M_13) (fun _ h9 => h9) rfl d_M_length_1 ?_
  refine lv_iconst (pc := 4) (v := (-1)) hx hb d_M_length_4 (by decide) ?_
  refine lv_icmp_ne (pc := 5) (tgt := 14) hx hb d_M_length_5 (by decide) (fun c0 => ?_) (fun c0 => ?_)
  · refine lv_aload_n (pc := 14) hx hb d_M_length_14 rfl (lv_at hl 0 rfl) ?_
    refine va_get (pc := 15) (D := (dC, dI)) (ci := 1) (v := .long byt) (C := R_M) (T := F_M) (N := 18) hx hb hts i_M hown hK hP 0 rfl rfl 6 (by decide) (hts _ fl_M_129) (fun _ h9 => h9) rfl d_M_length_15 ?_
    exact W.lret (v := byt) hx hb hr (fun t ht hW => ⟨⟨byt, (), rfl, by rw [if_neg c0], by rw [ht]; exact hP, va_K.moved hW.alike hK, hD⟩, hS.F ht⟩) hS.2.2 d_M_length_18
  · refine lv_ldc2 (pc := 8) hx hb hown (hts _ cn_M_142) d_M_length_8 ?_
    refine lv_goto (pc := 11) (tgt := 18) hx hb d_M_length_11 (by decide) ?_
    exact W.lret (v := (-1 : Int64)) hx hb hr (fun t ht hW => ⟨⟨(-1 : Int64), (), rfl, by rw [if_pos c0], by rw [ht]; exact hP, va_K.moved hW.alike hK, hD⟩, hS.F ht⟩) hS.2.2 d_M_length_18
end
section
theorem fillP_0 {wh : Int32} {kn : Nat} {kf : Nat → Int32} {h : HS} {dg : Nat → Int32} {k n2 : Nat} (hn2 : n2 = if 64 < kn then hlen wh else kn) (c : n2 ≤ k) : nI 0 = fillP wh kn kf h dg k := by
  rw [fillP]
  by_cases z : 64 < kn
  · rw [if_pos z] at hn2; rw [if_pos z, if_neg (by omega)]
  · rw [if_neg z] at hn2; rw [if_neg z, if_neg (by omega)]
theorem fillP_d {wh : Int32} {kn : Nat} {kf : Nat → Int32} {h : HS} {dg : Nat → Int32} {k n2 : Nat} (hn2 : n2 = if 64 < kn then hlen wh else kn) (c : k < n2) (z : 64 < kn) : fillD wh kn kf h dg k = fillP wh kn kf h dg k := by
  rw [if_pos z] at hn2
  rw [fillP, if_pos z, if_pos (by omega)]
theorem fillP_k {wh : Int32} {kn : Nat} {kf : Nat → Int32} {h : HS} {dg : Nat → Int32} {k n2 : Nat} (hn2 : n2 = if 64 < kn then hlen wh else kn) (c : k < n2) (z : kn ≤ 64) : kf k = fillP wh kn kf h dg k := by
  rw [if_neg (by omega)] at hn2
  rw [fillP, if_neg (by omega), if_pos (by omega)]
end
section
set_option maxHeartbeats 4000000 in
set_option maxRecDepth 100000 in
theorem c_M_pour (l : Launch) (dC : Nat → ClassId) (dI : Nat → Nat → Nat) (cI cB : ClassId) (r : Nat → Nat) (sz : Nat) (lim rdy ks opn mac hash rs : Int32) (key pad h blk w sin rt dg res : Nat → Int32) (n bn : Nat) (xa xb xc pn ag : Int32) (hn : n < 2 ^ 50) (hsin : ∀ j, j < 64 → sin j = sinesT j) (hrt : ∀ j, j < 4 → rt j = addedT j) : Met l y_M_pour (k_M_pour :: tT) ({ frames := 3, cells := 0, slots := 0, locals := 73 }) (va_Pc [.ref (r 0), .int xa, .int xb, .int xc, .int pn, .int ag] (pD (dC, dI) cI cB sz (wM cI cB r lim rdy ks opn mac (lN bn) hash (lN n) rs key pad h blk w sin rt dg res))) (va_Qi (fun (rr : Int32) (u : (Nat → Int32) × (Nat → Int32) × (Nat → Int32) × Nat × Nat) => (rr = nI 0 ∧ ¬ poOK (opn = -1) pn ag ∧ u = (h, blk, w, n, bn)) ∨ (rr = nI 1 ∧ poOK (opn = -1) pn ag ∧ u.1 = (pourH hash (pourB xa xb xc) pn.toNatClampNeg (h, blk, n) ag.toNatClampNeg).1 ∧ u.2.1 = (pourH hash (pourB xa xb xc) pn.toNatClampNeg (h, blk, n) ag.toNatClampNeg).2.1 ∧ u.2.2.2 = ((pourH hash (pourB xa xb xc) pn.toNatClampNeg (h, blk, n) ag.toNatClampNeg).2.2, bn + pn.toNatClampNeg * ag.toNatClampNeg))) (fun u t => qD (dC, dI) cI cB (va_A (wM cI cB r lim rdy ks opn mac (lN bn) hash (lN n) rs key pad h blk w sin rt dg res) sz) (wM cI cB r lim rdy ks opn mac (lN u.2.2.2.2) hash (lN u.2.2.2.1) rs key pad u.1 u.2.1 u.2.2.1 sin rt dg res) t) (va_A (wM cI cB r lim rdy ks opn mac (lN bn) hash (lN n) rs key pad h blk w sin rt dg res) sz)) 0 0 (va_A (wM cI cB r lim rdy ks opn mac (lN bn) hash (lN n) rs key pad h blk w sin rt dg res) sz) := by
  refine Met.ofW (cc := b_M_pour) (maxL := 9) (ret := (some .boolean)) (by decide) rfl ?_
  intro p e s m args below meth c s₁ B hml hv
  obtain ⟨rfl, hsz, hP, hK, hD0, hST⟩ := hv
  have hx := B.exec
  have hb := B.bytes
  have hr := B.returns
  have hts : ∀ w ∈ tT, w.before _ s = true := fun w h => atoms_spec (ws := k_M_pour :: tT) B.pre w (List.mem_cons_of_mem _ h)
  have hown : s.vm.findClass R_M = some m.cls := findClass_of_methodNamed B.named
  have hlocks := B.notSynchronized
  subst hsz
  have hD := hD0.self (sz := s.heap.size)
  generalize hAe : va_A (wM cI cB r lim rdy ks opn mac (lN bn) hash (lN n) rs key pad h blk w sin rt dg res) s.heap.size = A at hD hST ⊢
  have hA : ∀ q : Nat, s.heap.size ≤ q → A q := fun q h => by rw [← hAe]; exact Or.inr h
  have hS : va_S A s.heap s.heap [] := va_S.rf
  have hP : va_P (dC, dI) classes (wM cI cB r lim rdy ks opn mac (lN bn) hash (lN n) rs key pad h blk w sin rt dg res) s.heap := hP
  have hl := lv_entry ([.ref (r 0), .int xa, .int xb, .int xc, .int pn, .int ag]) (n := 9) (Nat.le_of_ble_eq_true rfl)
  rw [lg_entry_eq]
  generalize (lg_sl ([.ref (r 0), .int xa, .int xb, .int xc, .int pn, .int ag]) ++ List.replicate (9 - (lg_sl ([.ref (r 0), .int xa, .int xb, .int xc, .int pn, .int ag])).length) Slot.unset).toArray = ls at hl ⊢
  have hl : lv_has ls 9 [(0, .ref (r 0)), (1, .int xa), (2, .int xb), (3, .int xc), (4, .int pn), (5, .int ag)] := hl
  refine lv_aload_n (pc := 0) hx hb d_M_pour_0 rfl (lv_at hl 0 rfl) ?_
  refine va_get (pc := 1) (D := (dC, dI)) (ci := 1) (v := .int opn) (C := R_M) (T := F_M) (N := 18) hx hb hts i_M hown hK hP 0 rfl rfl 4 (by decide) (hts _ fl_M_13) (fun _ h9 => h9) rfl d_M_pour_1 ?_
  refine lv_iconst (pc := 4) (v := (-1)) hx hb d_M_pour_4 (by decide) ?_
  refine lv_icmp_eq (pc := 5) (tgt := 34) hx hb d_M_pour_5 (by decide) (fun c0 => ?_) (fun c0 => ?_)
  · refine lv_iconst (pc := 34) (v := (nI 0)) hx hb d_M_pour_34 (by decide) ?_
    exact W.zret (v := (nI 0)) hx hb hr rfl (fun t ht hW => ⟨⟨(nI 0), (h, blk, w, n, bn), rfl, Or.inl ⟨rfl, fun z => z.1 c0, rfl⟩, by rw [ht]; exact hP, va_K.moved hW.alike hK, hD⟩, hS.F ht⟩) hS.2.2 d_M_pour_35
  · refine lv_iload (pc := 8) hx hb d_M_pour_8 (lv_at hl 4 rfl) ?_
    refine lv_if_lt (pc := 10) (tgt := 34) hx hb d_M_pour_10 (by decide) (fun c1 => ?_) (fun c1 => ?_)
    · refine lv_iconst (pc := 34) (v := (nI 0)) hx hb d_M_pour_34 (by decide) ?_
      exact W.zret (v := (nI 0)) hx hb hr rfl (fun t ht hW => ⟨⟨(nI 0), (h, blk, w, n, bn), rfl, Or.inl ⟨rfl, fun z => z.2.1 c1, rfl⟩, by rw [ht]; exact hP, va_K.moved hW.alike hK, hD⟩, hS.F ht⟩) hS.2.2 d_M_pour_35
    · refine lv_iload (pc := 13) hx hb d_M_pour_13 (lv_at hl 4 rfl) ?_
      refine lv_bipush (pc := 15) (v := (nI 12)) hx hb d_M_pour_15 (by decide) ?_
      refine lv_icmp_gt (pc := 17) (tgt := 34) hx hb d_M_pour_17 (by decide) (fun c2 => ?_) (fun c2 => ?_)
      · refine lv_iconst (pc := 34) (v := (nI 0)) hx hb d_M_pour_34 (by decide) ?_
        exact W.zret (v := (nI 0)) hx hb hr rfl (fun t ht hW => ⟨⟨(nI 0), (h, blk, w, n, bn), rfl, Or.inl ⟨rfl, fun z => z.2.2.1 c2, rfl⟩, by rw [ht]; exact hP, va_K.moved hW.alike hK, hD⟩, hS.F ht⟩) hS.2.2 d_M_pour_35
      · refine lv_iload (pc := 20) hx hb d_M_pour_20 (lv_at hl 5 rfl) ?_
        refine lv_iconst (pc := 22) (v := (nI 1)) hx hb d_M_pour_22 (by decide) ?_
        refine lv_icmp_lt (pc := 23) (tgt := 34) hx hb d_M_pour_23 (by decide) (fun c3 => ?_) (fun c3 => ?_)
        · refine lv_iconst (pc := 34) (v := (nI 0)) hx hb d_M_pour_34 (by decide) ?_
          exact W.zret (v := (nI 0)) hx hb hr rfl (fun t ht hW => ⟨⟨(nI 0), (h, blk, w, n, bn), rfl, Or.inl ⟨rfl, fun z => z.2.2.2.1 c3, rfl⟩, by rw [ht]; exact hP, va_K.moved hW.alike hK, hD⟩, hS.F ht⟩) hS.2.2 d_M_pour_35
        · refine lv_iload (pc := 26) hx hb d_M_pour_26 (lv_at hl 5 rfl) ?_
          refine lv_sipush (pc := 28) (v := (nI 1000)) hx hb d_M_pour_28 (by decide) ?_
          refine lv_icmp_le (pc := 31) (tgt := 36) hx hb d_M_pour_31 (by decide) (fun c4 => ?_) (fun c4 => ?_)
          · have c5 : ¬ nI 1000 < ag := Int32.not_lt.mpr c4
            have hok : poOK (opn = -1) pn ag := ⟨c0, c1, c2, c3, c5⟩
            obtain ⟨mm, hmm, emm⟩ := pn_of c1 c2
            obtain ⟨gg, hgg, egg⟩ := ag_of c3 c5
            subst emm
            subst egg
            refine lv_iconst (pc := 36) (v := (nI 0)) hx hb d_M_pour_36 (by decide) ?_
            refine lv_istore (pc := 37) (lv' := [(6, .int (nI 0)), (0, .ref (r 0)), (1, .int xa), (2, .int xb), (3, .int xc), (4, .int (nI mm)), (5, .int (nI gg))]) hx hb d_M_pour_37 hl (by decide) rfl (fun ls hl => ?_)
            refine lp (α := Nat × (Nat → Int32)) (fun x => gg - x.1) (fun x H1 locs1 g => ∃ ls, g = F0 m 39 ls [] ∧ lv_has ls 9 [(0, .ref (r 0)), (1, .int xa), (2, .int xb), (3, .int xc), (4, .int (nI mm)), (5, .int (nI gg)), (6, .int (nI x.1))] ∧ va_P (dC, dI) classes (wM cI cB r lim rdy ks opn mac (lN bn) hash (lN ((pourH hash (pourB xa xb xc) mm (h, blk, n) x.1).2.2)) rs key pad ((pourH hash (pourB xa xb xc) mm (h, blk, n) x.1).1) ((pourH hash (pourB xa xb xc) mm (h, blk, n) x.1).2.1) x.2 sin rt dg res) H1 ∧ va_D A (wM cI cB r lim rdy ks opn mac (lN bn) hash (lN ((pourH hash (pourB xa xb xc) mm (h, blk, n) x.1).2.2)) rs key pad ((pourH hash (pourB xa xb xc) mm (h, blk, n) x.1).1) ((pourH hash (pourB xa xb xc) mm (h, blk, n) x.1).2.1) x.2 sin rt dg res) ∧ va_S A s.heap H1 locs1 ∧ (x.1 ≤ gg)) ?_ (0, w) ⟨ls, rfl, lv_sub hl [1, 2, 3, 4, 5, 6, 0] rfl, hP, hD, hS, (show 0 ≤ gg from Nat.zero_le _)⟩
            rintro ⟨tt, wd⟩ H locs g ih ⟨ls, rfl, hl, hP, hD, hS, ht⟩
            have hl : lv_has ls 9 [(0, .ref (r 0)), (1, .int xa), (2, .int xb), (3, .int xc), (4, .int (nI mm)), (5, .int (nI gg)), (6, .int (nI tt))] := hl
            have hP : va_P (dC, dI) classes (wM cI cB r lim rdy ks opn mac (lN bn) hash (lN ((pourH hash (pourB xa xb xc) mm (h, blk, n) tt).2.2)) rs key pad ((pourH hash (pourB xa xb xc) mm (h, blk, n) tt).1) ((pourH hash (pourB xa xb xc) mm (h, blk, n) tt).2.1) wd sin rt dg res) H := hP
            have hD : va_D A (wM cI cB r lim rdy ks opn mac (lN bn) hash (lN ((pourH hash (pourB xa xb xc) mm (h, blk, n) tt).2.2)) rs key pad ((pourH hash (pourB xa xb xc) mm (h, blk, n) tt).1) ((pourH hash (pourB xa xb xc) mm (h, blk, n) tt).2.1) wd sin rt dg res) := hD
            have ht : tt ≤ gg := ht
            refine lv_iload (pc := 39) hx hb d_M_pour_39 (lv_at hl 6 rfl) ?_
            refine lv_iload (pc := 41) hx hb d_M_pour_41 (lv_at hl 5 rfl) ?_
            refine xi_ge (pc := 43) (tgt := 113) hx hb d_M_pour_43 (by decide) (by omega) (by omega) (fun d0 => ?_) (fun d0 => ?_)
            · have hs1 : gg = tt := by omega
              subst hs1
              refine lv_aload_n (pc := 113) hx hb d_M_pour_113 rfl (lv_at hl 0 rfl) ?_
              refine lv_dup (pc := 114) hx hb d_M_pour_114 rfl ?_
              refine va_get (pc := 115) (D := (dC, dI)) (ci := 1) (v := .long (lN bn)) (C := R_M) (T := F_M) (N := 18) hx hb hts i_M hown hK hP 0 rfl rfl 6 (by decide) (hts _ fl_M_129) (fun _ h9 => h9) rfl d_M_pour_115 ?_
              refine lv_iload (pc := 118) hx hb d_M_pour_118 (lv_at hl 4 rfl) ?_
              refine lv_i2l (pc := 120) (v := (nI mm).toInt64) hx hb d_M_pour_120 rfl ?_
              refine xs_l (y := (lN mm)) (nI_l (by omega)) ?_
              refine lv_iload (pc := 121) hx hb d_M_pour_121 (lv_at hl 5 rfl) ?_
              refine lv_i2l (pc := 123) (v := (nI gg).toInt64) hx hb d_M_pour_123 rfl ?_
              refine xs_l (y := (lN gg)) (nI_l (by omega)) ?_
              refine xl_mul (pc := 124) hx hb d_M_pour_124 ?_
              refine xl_add (pc := 125) hx hb d_M_pour_125 ?_
              refine va_put (pc := 126) (D := (dC, dI)) (ci := 1) (v := .long (lN (bn + (mm * gg)))) (ty := .long) (C := R_M) (T := F_M) (N := 18) hx hb hts i_M t_M t_M_ok n_M hown hK hP hD hS 0 rfl rfl 6 (by decide) (hts _ fl_M_129) (fun _ h9 => h9) rfl (by decide +kernel) rfl rfl (Nat.le_of_ble_eq_true rfl) d_M_pour_126 (fun H locs hP hD hS => ?_)
              have hP : va_P (dC, dI) classes (wM cI cB r lim rdy ks opn mac (lN (bn + (mm * gg))) hash (lN ((pourH hash (pourB xa xb xc) mm (h, blk, n) gg).2.2)) rs key pad ((pourH hash (pourB xa xb xc) mm (h, blk, n) gg).1) ((pourH hash (pourB xa xb xc) mm (h, blk, n) gg).2.1) wd sin rt dg res) H := hP
              have hD : va_D A (wM cI cB r lim rdy ks opn mac (lN (bn + (mm * gg))) hash (lN ((pourH hash (pourB xa xb xc) mm (h, blk, n) gg).2.2)) rs key pad ((pourH hash (pourB xa xb xc) mm (h, blk, n) gg).1) ((pourH hash (pourB xa xb xc) mm (h, blk, n) gg).2.1) wd sin rt dg res) := hD
              refine lv_iconst (pc := 129) (v := (nI 1)) hx hb d_M_pour_129 (by decide) ?_
              exact W.zret (v := (nI 1)) hx hb hr rfl (fun t ht hW => ⟨⟨(nI 1), ((pourH hash (pourB xa xb xc) mm (h, blk, n) gg).1, (pourH hash (pourB xa xb xc) mm (h, blk, n) gg).2.1, wd, (pourH hash (pourB xa xb xc) mm (h, blk, n) gg).2.2, bn + mm * gg), rfl, Or.inr ⟨rfl, hok, by rw [nI_clamp (by omega), nI_clamp (by omega)], by rw [nI_clamp (by omega), nI_clamp (by omega)], by rw [nI_clamp (by omega), nI_clamp (by omega)]⟩, by rw [ht]; exact hP, va_K.moved hW.alike hK, hD⟩, hS.F ht⟩) hS.2.2 d_M_pour_130
            · refine lv_iconst (pc := 46) (v := (nI 0)) hx hb d_M_pour_46 (by decide) ?_
              refine lv_istore (pc := 47) (lv' := [(7, .int (nI 0)), (0, .ref (r 0)), (1, .int xa), (2, .int xb), (3, .int xc), (4, .int (nI mm)), (5, .int (nI gg)), (6, .int (nI tt))]) hx hb d_M_pour_47 hl (by decide) rfl (fun ls hl => ?_)
              have hmt : mm * tt ≤ 12 * 1000 := Nat.mul_le_mul hmm (by omega)
              refine lp (α := Nat × (Nat → Int32)) (fun x => mm - x.1) (fun x H1 locs1 g => ∃ ls, g = F0 m 49 ls [] ∧ lv_has ls 9 [(0, .ref (r 0)), (1, .int xa), (2, .int xb), (3, .int xc), (4, .int (nI mm)), (5, .int (nI gg)), (6, .int (nI tt)), (7, .int (nI x.1))] ∧ va_P (dC, dI) classes (wM cI cB r lim rdy ks opn mac (lN bn) hash (lN ((hputs hash (pourB xa xb xc) (pourH hash (pourB xa xb xc) mm (h, blk, n) tt) x.1).2.2)) rs key pad ((hputs hash (pourB xa xb xc) (pourH hash (pourB xa xb xc) mm (h, blk, n) tt) x.1).1) ((hputs hash (pourB xa xb xc) (pourH hash (pourB xa xb xc) mm (h, blk, n) tt) x.1).2.1) x.2 sin rt dg res) H1 ∧ va_D A (wM cI cB r lim rdy ks opn mac (lN bn) hash (lN ((hputs hash (pourB xa xb xc) (pourH hash (pourB xa xb xc) mm (h, blk, n) tt) x.1).2.2)) rs key pad ((hputs hash (pourB xa xb xc) (pourH hash (pourB xa xb xc) mm (h, blk, n) tt) x.1).1) ((hputs hash (pourB xa xb xc) (pourH hash (pourB xa xb xc) mm (h, blk, n) tt) x.1).2.1) x.2 sin rt dg res) ∧ va_S A s.heap H1 locs1 ∧ (x.1 ≤ mm)) ?_ (0, wd) ⟨ls, rfl, lv_sub hl [1, 2, 3, 4, 5, 6, 7, 0] rfl, hP, hD, hS, (show 0 ≤ mm from Nat.zero_le _)⟩
              rintro ⟨k, wd⟩ H locs g ih2 ⟨ls, rfl, hl, hP, hD, hS, hk⟩
              have hl : lv_has ls 9 [(0, .ref (r 0)), (1, .int xa), (2, .int xb), (3, .int xc), (4, .int (nI mm)), (5, .int (nI gg)), (6, .int (nI tt)), (7, .int (nI k))] := hl
              have hP : va_P (dC, dI) classes (wM cI cB r lim rdy ks opn mac (lN bn) hash (lN ((hputs hash (pourB xa xb xc) (pourH hash (pourB xa xb xc) mm (h, blk, n) tt) k).2.2)) rs key pad ((hputs hash (pourB xa xb xc) (pourH hash (pourB xa xb xc) mm (h, blk, n) tt) k).1) ((hputs hash (pourB xa xb xc) (pourH hash (pourB xa xb xc) mm (h, blk, n) tt) k).2.1) wd sin rt dg res) H := hP
              have hD : va_D A (wM cI cB r lim rdy ks opn mac (lN bn) hash (lN ((hputs hash (pourB xa xb xc) (pourH hash (pourB xa xb xc) mm (h, blk, n) tt) k).2.2)) rs key pad ((hputs hash (pourB xa xb xc) (pourH hash (pourB xa xb xc) mm (h, blk, n) tt) k).1) ((hputs hash (pourB xa xb xc) (pourH hash (pourB xa xb xc) mm (h, blk, n) tt) k).2.1) wd sin rt dg res) := hD
              have hk : k ≤ mm := hk
              have hkn : (hputs hash (pourB xa xb xc) (pourH hash (pourB xa xb xc) mm (h, blk, n) tt) k).2.2 = n + mm * tt + k := (hputs_n _ _ _ _).trans (by rw [pourH_n])
              refine lv_iload (pc := 49) hx hb d_M_pour_49 (lv_at hl 7 rfl) ?_
              refine lv_iload (pc := 51) hx hb d_M_pour_51 (lv_at hl 4 rfl) ?_
              refine xi_ge (pc := 53) (tgt := 107) hx hb d_M_pour_53 (by decide) (by omega) (by omega) (fun d1 => ?_) (fun d1 => ?_)
              · have hs2 : mm = k := by omega
                subst hs2
                refine lv_iinc (pc := 107) (v := (nI (tt + 1))) (lv' := [(6, .int (nI (tt + 1))), (0, .ref (r 0)), (1, .int xa), (2, .int xb), (3, .int xc), (4, .int (nI mm)), (5, .int (nI gg)), (7, .int (nI mm))]) hx hb d_M_pour_107 hl (k := 6) rfl (inc1 _) (by decide) rfl (fun ls hl => ?_)
                refine lv_goto (pc := 110) (tgt := 39) hx hb d_M_pour_110 (by decide) ?_
                exact ih (tt + 1, wd) _ _ _ (by show gg - (tt + 1) < gg - tt; omega) ⟨ls, rfl, lv_sub hl [1, 2, 3, 4, 5, 6, 0] rfl, hP, hD, hS, (show (tt + 1) ≤ gg from by omega)⟩
              · refine jn_i (fun x1 : Int32 => x1 = pourX xa xb xc k) 78 ls [] (fun x1 ex1 => ?_) (fun J => ?_)
                · refine xs_i (y := (pourX xa xb xc k)) (ex1) ?_
                  refine lv_istore (pc := 78) (lv' := [(8, .int (pourX xa xb xc k)), (0, .ref (r 0)), (1, .int xa), (2, .int xb), (3, .int xc), (4, .int (nI mm)), (5, .int (nI gg)), (6, .int (nI tt)), (7, .int (nI k))]) hx hb d_M_pour_78 hl (by decide) rfl (fun ls hl => ?_)
                  refine lv_aload_n (pc := 80) hx hb d_M_pour_80 rfl (lv_at hl 1 rfl) ?_
                  refine lv_iload (pc := 81) hx hb d_M_pour_81 (lv_at hl 0 rfl) ?_
                  refine lv_bipush (pc := 83) (v := (nI 24)) hx hb d_M_pour_83 (by decide) ?_
                  refine lv_bipush (pc := 85) (v := (nI 8)) hx hb d_M_pour_85 (by decide) ?_
                  refine lv_iload (pc := 87) hx hb d_M_pour_87 (lv_at hl 8 rfl) ?_
                  refine lv_iconst (pc := 89) (v := (nI 4)) hx hb d_M_pour_89 (by decide) ?_
                  refine xi_rem (pc := 90) hx hb d_M_pour_90 (by omega) (by decide) (by decide) ?_
                  refine xi_mul (pc := 91) hx hb d_M_pour_91 ?_
                  refine xi_sub (pc := 92) hx hb d_M_pour_92 (by omega) ?_
                  refine lv_ishr (pc := 93) hx hb d_M_pour_93 ?_
                  refine lv_sipush (pc := 94) (v := (nI 255)) hx hb d_M_pour_94 (by decide) ?_
                  refine lv_iand (pc := 97) hx hb d_M_pour_97 ?_
                  refine xs_i (y := (pourB xa xb xc k)) (rfl) ?_
                  refine kvG (pc := 98) (As := [.int (pourB xa xb xc k)]) (rest := []) (wr := []) (ci := 1) ⟨hx, hb, hml, hown, hts⟩ (c_M_add l dC dI cI cB r H.size lim rdy ks opn mac hash rs (lN bn) key pad ((hputs hash (pourB xa xb xc) (pourH hash (pourB xa xb xc) mm (h, blk, n) tt) k).1) ((hputs hash (pourB xa xb xc) (pourH hash (pourB xa xb xc) mm (h, blk, n) tt) k).2.1) wd sin rt dg res (hputs hash (pourB xa xb xc) (pourH hash (pourB xa xb xc) mm (h, blk, n) tt) k).2.2 (pourB xa xb xc k) (by omega) hsin hrt) (cwV 1 hts g_M_104 rfl rfl rfl hd_M_add ⟨by decide, by decide⟩) hK hP hD hS hA hST [0, 1, 2, 3, 4, 5, 6, 7, 8, 9] [] rfl rfl (by decide) (by decide) (by decide) rfl rfl rfl hl.1 rfl (Nat.le_of_ble_eq_true rfl) d_M_pour_98 ⟨by decide, by decide⟩ (fun u H locs hw hP hD hS => ?_)
                  obtain ⟨v1, v2⟩ := u
                  have hP : va_P (dC, dI) classes (wM cI cB r lim rdy ks opn mac (lN bn) hash (lN ((hputs hash (pourB xa xb xc) (pourH hash (pourB xa xb xc) mm (h, blk, n) tt) k).2.2 + 1)) rs key pad v1 (upd (hputs hash (pourB xa xb xc) (pourH hash (pourB xa xb xc) mm (h, blk, n) tt) k).2.1 ((hputs hash (pourB xa xb xc) (pourH hash (pourB xa xb xc) mm (h, blk, n) tt) k).2.2 % 64) (pourB xa xb xc k)) v2 sin rt dg res) H := hP
                  have hD : va_D A (wM cI cB r lim rdy ks opn mac (lN bn) hash (lN ((hputs hash (pourB xa xb xc) (pourH hash (pourB xa xb xc) mm (h, blk, n) tt) k).2.2 + 1)) rs key pad v1 (upd (hputs hash (pourB xa xb xc) (pourH hash (pourB xa xb xc) mm (h, blk, n) tt) k).2.1 ((hputs hash (pourB xa xb xc) (pourH hash (pourB xa xb xc) mm (h, blk, n) tt) k).2.2 % 64) (pourB xa xb xc k)) v2 sin rt dg res) := hD
                  dsimp only at hw
                  subst hw
                  refine lv_iinc (pc := 101) (v := (nI (k + 1))) (lv' := [(7, .int (nI (k + 1))), (8, .int (pourX xa xb xc k)), (0, .ref (r 0)), (1, .int xa), (2, .int xb), (3, .int xc), (4, .int (nI mm)), (5, .int (nI gg)), (6, .int (nI tt))]) hx hb d_M_pour_101 hl (k := 8) rfl (inc1 _) (by decide) rfl (fun ls hl => ?_)
                  refine lv_goto (pc := 104) (tgt := 49) hx hb d_M_pour_104 (by decide) ?_
                  exact ih2 (k + 1, v2) _ _ _ (by show mm - (k + 1) < mm - k; omega) ⟨ls, rfl, lv_sub hl [2, 3, 4, 5, 6, 7, 8, 0] rfl, hP, hD, hS, (show (k + 1) ≤ mm from by omega)⟩
                · refine lv_iload (pc := 56) hx hb d_M_pour_56 (lv_at hl 7 rfl) ?_
                  refine lv_iconst (pc := 58) (v := (nI 4)) hx hb d_M_pour_58 (by decide) ?_
                  refine xi_ge (pc := 59) (tgt := 66) hx hb d_M_pour_59 (by decide) (by omega) (by omega) (fun e0 => ?_) (fun e0 => ?_)
                  · refine lv_iload (pc := 66) hx hb d_M_pour_66 (lv_at hl 7 rfl) ?_
                    refine lv_bipush (pc := 68) (v := (nI 8)) hx hb d_M_pour_68 (by decide) ?_
                    refine xi_ge (pc := 70) (tgt := 77) hx hb d_M_pour_70 (by decide) (by omega) (by omega) (fun e1 => ?_) (fun e1 => ?_)
                    · refine lv_iload_n (pc := 77) hx hb d_M_pour_77 rfl (lv_at hl 3 rfl) ?_
                      exact J _ (by rw [pourX, if_neg (by omega), if_neg (by omega)])
                    · refine lv_iload_n (pc := 73) hx hb d_M_pour_73 rfl (lv_at hl 2 rfl) ?_
                      refine lv_goto (pc := 74) (tgt := 78) hx hb d_M_pour_74 (by decide) ?_
                      exact J _ (by rw [pourX, if_neg (by omega), if_pos e1])
                  · refine lv_iload_n (pc := 62) hx hb d_M_pour_62 rfl (lv_at hl 1 rfl) ?_
                    refine lv_goto (pc := 63) (tgt := 78) hx hb d_M_pour_63 (by decide) ?_
                    exact J _ (by rw [pourX, if_pos e0])
          · refine lv_iconst (pc := 34) (v := (nI 0)) hx hb d_M_pour_34 (by decide) ?_
            exact W.zret (v := (nI 0)) hx hb hr rfl (fun t ht hW => ⟨⟨(nI 0), (h, blk, w, n, bn), rfl, Or.inl ⟨rfl, fun z => z.2.2.2.2 (Int32.not_le.mp c4), rfl⟩, by rw [ht]; exact hP, va_K.moved hW.alike hK, hD⟩, hS.F ht⟩) hS.2.2 d_M_pour_35
set_option maxHeartbeats 4000000 in
set_option maxRecDepth 100000 in
theorem c_M_startMac (l : Launch) (dC : Nat → ClassId) (dI : Nat → Nat → Nat) (cI cB : ClassId) (r : Nat → Nat) (sz : Nat) (lim rdy opn mac hash rs : Int32) (byt : Int64) (key pad h blk w sin rt dg res : Nat → Int32) (kn n : Nat) (wh : Int32) (hkn : kn ≤ 300) (hsin : ∀ j, j < 64 → sin j = sinesT j) (hrt : ∀ j, j < 4 → rt j = addedT j) : Met l y_M_startMac (k_M_startMac :: tT) ({ frames := 4, cells := 0, slots := 0, locals := 96 }) (va_Pc [.ref (r 0), .int wh] (pD (dC, dI) cI cB sz (wM cI cB r lim rdy (nI kn) opn mac byt hash (lN n) rs key pad h blk w sin rt dg res))) (va_Qi (fun (rr : Int32) (u : Int32 × Int32 × Int64 × Int32 × Int32 × (Nat → Int32) × (Nat → Int32) × (Nat → Int32) × (Nat → Int32) × (Nat → Int32) × Nat) => (rr = nI 0 ∧ mayS rdy wh = 0 ∧ u = (opn, mac, byt, rs, hash, h, blk, w, pad, dg, n)) ∨ (rr = nI 1 ∧ ¬ mayS rdy wh = 0 ∧ u.1 = wh ∧ u.2.1 = nI 1 ∧ u.2.2.1 = lN 0 ∧ u.2.2.2.1 = nI 0 ∧ u.2.2.2.2.1 = wh ∧ u.2.2.2.2.2.1 = (macH wh (fillP wh kn key (h, blk, n) dg) (fillH wh kn key (h, blk, n))).1 ∧ u.2.2.2.2.2.2.1 = (macH wh (fillP wh kn key (h, blk, n) dg) (fillH wh kn key (h, blk, n))).2.1 ∧ (∀ k, k < 64 → u.2.2.2.2.2.2.2.2.1 k = (fillP wh kn key (h, blk, n) dg) k) ∧ u.2.2.2.2.2.2.2.2.2.1 = (fillD wh kn key (h, blk, n) dg) ∧ u.2.2.2.2.2.2.2.2.2.2 = (macH wh (fillP wh kn key (h, blk, n) dg) (fillH wh kn key (h, blk, n))).2.2)) (fun u t => qD (dC, dI) cI cB (va_A (wM cI cB r lim rdy (nI kn) opn mac byt hash (lN n) rs key pad h blk w sin rt dg res) sz) (wM cI cB r lim rdy (nI kn) u.1 u.2.1 u.2.2.1 u.2.2.2.2.1 (lN u.2.2.2.2.2.2.2.2.2.2) u.2.2.2.1 key u.2.2.2.2.2.2.2.2.1 u.2.2.2.2.2.1 u.2.2.2.2.2.2.1 u.2.2.2.2.2.2.2.1 sin rt u.2.2.2.2.2.2.2.2.2.1 res) t) (va_A (wM cI cB r lim rdy (nI kn) opn mac byt hash (lN n) rs key pad h blk w sin rt dg res) sz)) 0 0 (va_A (wM cI cB r lim rdy (nI kn) opn mac byt hash (lN n) rs key pad h blk w sin rt dg res) sz) := by
  refine Met.ofW (cc := b_M_startMac) (maxL := 4) (ret := (some .boolean)) (by decide) rfl ?_
  intro p e s m args below meth c s₁ B hml hv
  obtain ⟨rfl, hsz, hP, hK, hD0, hST⟩ := hv
  have hx := B.exec
  have hb := B.bytes
  have hr := B.returns
  have hts : ∀ w ∈ tT, w.before _ s = true := fun w h => atoms_spec (ws := k_M_startMac :: tT) B.pre w (List.mem_cons_of_mem _ h)
  have hown : s.vm.findClass R_M = some m.cls := findClass_of_methodNamed B.named
  have hlocks := B.notSynchronized
  subst hsz
  have hD := hD0.self (sz := s.heap.size)
  generalize hAe : va_A (wM cI cB r lim rdy (nI kn) opn mac byt hash (lN n) rs key pad h blk w sin rt dg res) s.heap.size = A at hD hST ⊢
  have hA : ∀ q : Nat, s.heap.size ≤ q → A q := fun q h => by rw [← hAe]; exact Or.inr h
  have hS : va_S A s.heap s.heap [] := va_S.rf
  have hP : va_P (dC, dI) classes (wM cI cB r lim rdy (nI kn) opn mac byt hash (lN n) rs key pad h blk w sin rt dg res) s.heap := hP
  have hl := lv_entry ([.ref (r 0), .int wh]) (n := 4) (Nat.le_of_ble_eq_true rfl)
  rw [lg_entry_eq]
  generalize (lg_sl ([.ref (r 0), .int wh]) ++ List.replicate (4 - (lg_sl ([.ref (r 0), .int wh])).length) Slot.unset).toArray = ls at hl ⊢
  have hl : lv_has ls 4 [(0, .ref (r 0)), (1, .int wh)] := hl
  refine lv_aload_n (pc := 0) hx hb d_M_startMac_0 rfl (lv_at hl 0 rfl) ?_
  refine lv_iload_n (pc := 1) hx hb d_M_startMac_1 rfl (lv_at hl 1 rfl) ?_
  refine kiG (pc := 2) (As := [.int wh]) (rest := []) (wr := []) (ci := 1) ⟨hx, hb, hml, hown, hts⟩ (c_M_start l dC dI cI cB r s.heap.size lim rdy (nI kn) opn mac hash rs byt (lN n) key pad h blk w sin rt dg res wh) (cwV 1 hts g_M_135 rfl rfl rfl hd_M_start ⟨by decide, by decide⟩) hK hP hD hS hA hST [0, 1, 2, 3, 4, 5, 6, 7, 8, 9] [] rfl rfl (by decide) (by decide) (by decide) rfl rfl rfl hl.1 rfl (Nat.le_of_ble_eq_true rfl) d_M_startMac_2 ⟨by decide, by decide⟩ (fun rr u H locs hw hP hD hS => ?_)
  obtain ⟨v1, v2, v3, v4, v5, v6, v7⟩ := u
  have hP : va_P (dC, dI) classes (wM cI cB r lim rdy (nI kn) v1 v2 v3 v5 v7 v4 key pad v6 blk w sin rt dg res) H := hP
  have hD : va_D A (wM cI cB r lim rdy (nI kn) v1 v2 v3 v5 v7 v4 key pad v6 blk w sin rt dg res) := hD
  rcases hw with ⟨e1, c0, e2⟩ | ⟨e1, c0, e2⟩
  · cases e2
    subst e1
    refine xi_ne0 (pc := 5) (tgt := 10) hx hb d_M_startMac_5 (by decide) (by omega) (fun c9 => ?_) (fun c9 => ?_)
    · exact absurd rfl c9
    · refine lv_iconst (pc := 8) (v := (nI 0)) hx hb d_M_startMac_8 (by decide) ?_
      exact W.zret (v := (nI 0)) hx hb hr rfl (fun t ht hW => ⟨⟨(nI 0), (opn, mac, byt, rs, hash, h, blk, w, pad, dg, n), rfl, Or.inl ⟨rfl, c0, rfl⟩, by rw [ht]; exact hP, va_K.moved hW.alike hK, hD⟩, hS.F ht⟩) hS.2.2 d_M_startMac_9
  · cases e2
    subst e1
    refine xi_ne0 (pc := 5) (tgt := 10) hx hb d_M_startMac_5 (by decide) (by omega) (fun c9 => ?_) (fun c9 => ?_)
    · refine lv_aload_n (pc := 10) hx hb d_M_startMac_10 rfl (lv_at hl 0 rfl) ?_
      refine lv_iconst (pc := 11) (v := (nI 1)) hx hb d_M_startMac_11 (by decide) ?_
      refine va_put (pc := 12) (D := (dC, dI)) (ci := 1) (v := .int (nI 1)) (ty := .boolean) (C := R_M) (T := F_M) (N := 18) hx hb hts i_M t_M t_M_ok n_M hown hK hP hD hS 0 rfl rfl 5 (by decide) (hts _ fl_M_126) (fun _ h9 => h9) rfl (by decide +kernel) rfl rfl (Nat.le_of_ble_eq_true rfl) d_M_startMac_12 (fun H locs hP hD hS => ?_)
      have hP : va_P (dC, dI) classes (wM cI cB r lim rdy (nI kn) wh (nI 1) (lN 0) wh (lN 0) (nI 0) key pad (hini h) blk w sin rt dg res) H := hP
      have hD : va_D A (wM cI cB r lim rdy (nI kn) wh (nI 1) (lN 0) wh (lN 0) (nI 0) key pad (hini h) blk w sin rt dg res) := hD
      refine lv_aload_n (pc := 15) hx hb d_M_startMac_15 rfl (lv_at hl 0 rfl) ?_
      refine va_get (pc := 16) (D := (dC, dI)) (ci := 1) (v := .int (nI kn)) (C := R_M) (T := F_M) (N := 18) hx hb hts i_M hown hK hP 0 rfl rfl 3 (by decide) (hts _ fl_M_120) (fun _ h9 => h9) rfl d_M_startMac_16 ?_
      refine lv_istore_n (pc := 19) (lv' := [(2, .int (nI kn)), (0, .ref (r 0)), (1, .int wh)]) hx hb d_M_startMac_19 rfl hl (by decide) rfl (fun ls hl => ?_)
      refine lv_aload_n (pc := 20) hx hb d_M_startMac_20 rfl (lv_at hl 1 rfl) ?_
      refine va_get (pc := 21) (D := (dC, dI)) (ci := 1) (v := .int (nI kn)) (C := R_M) (T := F_M) (N := 18) hx hb hts i_M hown hK hP 0 rfl rfl 3 (by decide) (hts _ fl_M_120) (fun _ h9 => h9) rfl d_M_startMac_21 ?_
      refine lv_bipush (pc := 24) (v := (nI 64)) hx hb d_M_startMac_24 (by decide) ?_
      refine jn (α := Nat × (Nat → Int32) × (Nat → Int32) × (Nat → Int32) × (Nat → Int32) × Nat) (fun x H1 locs1 g => ∃ ls, g = F0 m 64 ls [] ∧ lv_has ls 4 [(0, .ref (r 0)), (1, .int wh), (2, .int (nI x.1))] ∧ va_P (dC, dI) classes (wM cI cB r lim rdy (nI kn) wh (nI 1) (lN 0) wh (lN x.2.2.2.2.2) (nI 0) key pad x.2.1 x.2.2.1 x.2.2.2.1 sin rt x.2.2.2.2.1 res) H1 ∧ va_D A (wM cI cB r lim rdy (nI kn) wh (nI 1) (lN 0) wh (lN x.2.2.2.2.2) (nI 0) key pad x.2.1 x.2.2.1 x.2.2.2.1 sin rt x.2.2.2.2.1 res) ∧ va_S A s.heap H1 locs1 ∧ (x.1 = if 64 < kn then hlen wh else kn) ∧ hini x.2.1 = hini (fillH wh kn key (h, blk, n)).1 ∧ x.2.2.1 = (fillH wh kn key (h, blk, n)).2.1 ∧ x.2.2.2.2.1 = (fillD wh kn key (h, blk, n) dg)) ?_ ?_
      · rintro ⟨n2, h2, b2, w2, g2, n3⟩ H locs g ⟨ls, rfl, hl, hP, hD, hS, hn2, hh2, hb2, hg2⟩
        have hl : lv_has ls 4 [(0, .ref (r 0)), (1, .int wh), (2, .int (nI n2))] := hl
        have hP : va_P (dC, dI) classes (wM cI cB r lim rdy (nI kn) wh (nI 1) (lN 0) wh (lN n3) (nI 0) key pad h2 b2 w2 sin rt g2 res) H := hP
        have hD : va_D A (wM cI cB r lim rdy (nI kn) wh (nI 1) (lN 0) wh (lN n3) (nI 0) key pad h2 b2 w2 sin rt g2 res) := hD
        have hn2 : n2 = if 64 < kn then hlen wh else kn := hn2
        have hh2 : hini h2 = hini (fillH wh kn key (h, blk, n)).1 := hh2
        have hb2 : b2 = (fillH wh kn key (h, blk, n)).2.1 := hb2
        have hg2 : g2 = (fillD wh kn key (h, blk, n) dg) := hg2
        have hle := hlen_le wh
        have hn2b : n2 ≤ 64 ∧ (64 < kn → n2 ≤ 20) ∧ (kn ≤ 64 → n2 = kn) := by rw [hn2]; split <;> omega
        refine lv_iconst (pc := 64) (v := (nI 0)) hx hb d_M_startMac_64 (by decide) ?_
        refine lv_istore_n (pc := 65) (lv' := [(3, .int (nI 0)), (0, .ref (r 0)), (1, .int wh), (2, .int (nI n2))]) hx hb d_M_startMac_65 rfl hl (by decide) rfl (fun ls hl => ?_)
        refine lp (α := Nat × (Nat → Int32)) (fun x => 64 - x.1) (fun x H1 locs1 g => ∃ ls, g = F0 m 66 ls [] ∧ lv_has ls 4 [(0, .ref (r 0)), (1, .int wh), (2, .int (nI n2)), (3, .int (nI x.1))] ∧ va_P (dC, dI) classes (wM cI cB r lim rdy (nI kn) wh (nI 1) (lN 0) wh (lN n3) (nI 0) key x.2 h2 b2 w2 sin rt g2 res) H1 ∧ va_D A (wM cI cB r lim rdy (nI kn) wh (nI 1) (lN 0) wh (lN n3) (nI 0) key x.2 h2 b2 w2 sin rt g2 res) ∧ va_S A s.heap H1 locs1 ∧ (x.1 ≤ 64) ∧ (∀ j, j < x.1 → x.2 j = (fillP wh kn key (h, blk, n) dg) j)) ?_ (0, pad) ⟨ls, rfl, lv_sub hl [1, 2, 3, 0] rfl, hP, hD, hS, (show 0 ≤ 64 from by omega), (show ∀ j, j < 0 → pad j = (fillP wh kn key (h, blk, n) dg) j from fun j h => absurd h (Nat.not_lt_zero _))⟩
        rintro ⟨k, pf⟩ H locs g ih3 ⟨ls, rfl, hl, hP, hD, hS, hk, hp⟩
        have hl : lv_has ls 4 [(0, .ref (r 0)), (1, .int wh), (2, .int (nI n2)), (3, .int (nI k))] := hl
        have hP : va_P (dC, dI) classes (wM cI cB r lim rdy (nI kn) wh (nI 1) (lN 0) wh (lN n3) (nI 0) key pf h2 b2 w2 sin rt g2 res) H := hP
        have hD : va_D A (wM cI cB r lim rdy (nI kn) wh (nI 1) (lN 0) wh (lN n3) (nI 0) key pf h2 b2 w2 sin rt g2 res) := hD
        have hk : k ≤ 64 := hk
        have hp : ∀ j, j < k → pf j = (fillP wh kn key (h, blk, n) dg) j := hp
        refine lv_iload_n (pc := 66) hx hb d_M_startMac_66 rfl (lv_at hl 3 rfl) ?_
        refine lv_bipush (pc := 67) (v := (nI 64)) hx hb d_M_startMac_67 (by decide) ?_
        refine xi_ge (pc := 69) (tgt := 117) hx hb d_M_startMac_69 (by decide) (by omega) (by omega) (fun c3 => ?_) (fun c3 => ?_)
        · have hs4 : k = 64 := by omega
          subst hs4
          refine lv_aload_n (pc := 117) hx hb d_M_startMac_117 rfl (lv_at hl 0 rfl) ?_
          refine lv_iload_n (pc := 118) hx hb d_M_startMac_118 rfl (lv_at hl 1 rfl) ?_
          refine kvG (pc := 119) (As := [.int wh]) (rest := []) (wr := []) (ci := 1) ⟨hx, hb, hml, hown, hts⟩ (c_M_begin l dC dI cI cB r H.size lim rdy (nI kn) wh (nI 1) wh (nI 0) (lN 0) (lN n3) key pf h2 b2 w2 sin rt g2 res wh) (cwV 1 hts g_M_132 rfl rfl rfl hd_M_begin ⟨by decide, by decide⟩) hK hP hD hS hA hST [0, 1, 2, 3, 4, 5, 6, 7, 8, 9] [] rfl rfl (by decide) (by decide) (by decide) rfl rfl rfl hl.1 rfl (Nat.le_of_ble_eq_true rfl) d_M_startMac_119 ⟨by decide, by decide⟩ (fun u H locs hw hP hD hS => ?_)
          have hP : va_P (dC, dI) classes (wM cI cB r lim rdy (nI kn) wh (nI 1) (lN 0) wh (lN 0) (nI 0) key pf (hini h2) b2 w2 sin rt g2 res) H := hP
          have hD : va_D A (wM cI cB r lim rdy (nI kn) wh (nI 1) (lN 0) wh (lN 0) (nI 0) key pf (hini h2) b2 w2 sin rt g2 res) := hD
          rw [hh2, hb2] at hP hD
          have hP : va_P (dC, dI) classes (wM cI cB r lim rdy (nI kn) wh (nI 1) (lN 0) wh (lN 0) (nI 0) key pf (hini (fillH wh kn key (h, blk, n)).1) ((fillH wh kn key (h, blk, n)).2.1) w2 sin rt g2 res) H := hP
          have hD : va_D A (wM cI cB r lim rdy (nI kn) wh (nI 1) (lN 0) wh (lN 0) (nI 0) key pf (hini (fillH wh kn key (h, blk, n)).1) ((fillH wh kn key (h, blk, n)).2.1) w2 sin rt g2 res) := hD
          refine lv_iconst (pc := 122) (v := (nI 0)) hx hb d_M_startMac_122 (by decide) ?_
          refine lv_istore_n (pc := 123) (lv' := [(3, .int (nI 0)), (0, .ref (r 0)), (1, .int wh), (2, .int (nI n2))]) hx hb d_M_startMac_123 rfl hl (by decide) rfl (fun ls hl => ?_)
          refine lp (α := Nat × (Nat → Int32)) (fun x => 64 - x.1) (fun x H1 locs1 g => ∃ ls, g = F0 m 124 ls [] ∧ lv_has ls 4 [(0, .ref (r 0)), (3, .int (nI x.1))] ∧ va_P (dC, dI) classes (wM cI cB r lim rdy (nI kn) wh (nI 1) (lN 0) wh (lN ((hputs wh (fun zz => (fillP wh kn key (h, blk, n) dg) zz ^^^ nI 54) (hini (fillH wh kn key (h, blk, n)).1, (fillH wh kn key (h, blk, n)).2.1, 0) x.1).2.2)) (nI 0) key pf ((hputs wh (fun zz => (fillP wh kn key (h, blk, n) dg) zz ^^^ nI 54) (hini (fillH wh kn key (h, blk, n)).1, (fillH wh kn key (h, blk, n)).2.1, 0) x.1).1) ((hputs wh (fun zz => (fillP wh kn key (h, blk, n) dg) zz ^^^ nI 54) (hini (fillH wh kn key (h, blk, n)).1, (fillH wh kn key (h, blk, n)).2.1, 0) x.1).2.1) x.2 sin rt g2 res) H1 ∧ va_D A (wM cI cB r lim rdy (nI kn) wh (nI 1) (lN 0) wh (lN ((hputs wh (fun zz => (fillP wh kn key (h, blk, n) dg) zz ^^^ nI 54) (hini (fillH wh kn key (h, blk, n)).1, (fillH wh kn key (h, blk, n)).2.1, 0) x.1).2.2)) (nI 0) key pf ((hputs wh (fun zz => (fillP wh kn key (h, blk, n) dg) zz ^^^ nI 54) (hini (fillH wh kn key (h, blk, n)).1, (fillH wh kn key (h, blk, n)).2.1, 0) x.1).1) ((hputs wh (fun zz => (fillP wh kn key (h, blk, n) dg) zz ^^^ nI 54) (hini (fillH wh kn key (h, blk, n)).1, (fillH wh kn key (h, blk, n)).2.1, 0) x.1).2.1) x.2 sin rt g2 res) ∧ va_S A s.heap H1 locs1 ∧ (x.1 ≤ 64)) ?_ (0, w2) ⟨ls, rfl, lv_sub hl [1, 0] rfl, hP, hD, hS, (show 0 ≤ 64 from Nat.zero_le _)⟩
          rintro ⟨k, wd⟩ H locs g ih4 ⟨ls, rfl, hl, hP, hD, hS, hk⟩
          have hl : lv_has ls 4 [(0, .ref (r 0)), (3, .int (nI k))] := hl
          have hP : va_P (dC, dI) classes (wM cI cB r lim rdy (nI kn) wh (nI 1) (lN 0) wh (lN ((hputs wh (fun zz => (fillP wh kn key (h, blk, n) dg) zz ^^^ nI 54) (hini (fillH wh kn key (h, blk, n)).1, (fillH wh kn key (h, blk, n)).2.1, 0) k).2.2)) (nI 0) key pf ((hputs wh (fun zz => (fillP wh kn key (h, blk, n) dg) zz ^^^ nI 54) (hini (fillH wh kn key (h, blk, n)).1, (fillH wh kn key (h, blk, n)).2.1, 0) k).1) ((hputs wh (fun zz => (fillP wh kn key (h, blk, n) dg) zz ^^^ nI 54) (hini (fillH wh kn key (h, blk, n)).1, (fillH wh kn key (h, blk, n)).2.1, 0) k).2.1) wd sin rt g2 res) H := hP
          have hD : va_D A (wM cI cB r lim rdy (nI kn) wh (nI 1) (lN 0) wh (lN ((hputs wh (fun zz => (fillP wh kn key (h, blk, n) dg) zz ^^^ nI 54) (hini (fillH wh kn key (h, blk, n)).1, (fillH wh kn key (h, blk, n)).2.1, 0) k).2.2)) (nI 0) key pf ((hputs wh (fun zz => (fillP wh kn key (h, blk, n) dg) zz ^^^ nI 54) (hini (fillH wh kn key (h, blk, n)).1, (fillH wh kn key (h, blk, n)).2.1, 0) k).1) ((hputs wh (fun zz => (fillP wh kn key (h, blk, n) dg) zz ^^^ nI 54) (hini (fillH wh kn key (h, blk, n)).1, (fillH wh kn key (h, blk, n)).2.1, 0) k).2.1) wd sin rt g2 res) := hD
          have hk : k ≤ 64 := hk
          have hk2 : (hputs wh (fun zz => (fillP wh kn key (h, blk, n) dg) zz ^^^ nI 54) (hini (fillH wh kn key (h, blk, n)).1, (fillH wh kn key (h, blk, n)).2.1, 0) k).2.2 = 0 + k := hputs_n _ _ _ _
          refine lv_iload_n (pc := 124) hx hb d_M_startMac_124 rfl (lv_at hl 1 rfl) ?_
          refine lv_bipush (pc := 125) (v := (nI 64)) hx hb d_M_startMac_125 (by decide) ?_
          refine xi_ge (pc := 127) (tgt := 149) hx hb d_M_startMac_127 (by decide) (by omega) (by omega) (fun c6 => ?_) (fun c6 => ?_)
          · have hs5 : k = 64 := by omega
            subst hs5
            refine lv_iconst (pc := 149) (v := (nI 1)) hx hb d_M_startMac_149 (by decide) ?_
            exact W.zret (v := (nI 1)) hx hb hr rfl (fun t ht hW => ⟨⟨(nI 1), (wh, nI 1, lN 0, nI 0, wh, (macH wh (fillP wh kn key (h, blk, n) dg) (fillH wh kn key (h, blk, n))).1, (macH wh (fillP wh kn key (h, blk, n) dg) (fillH wh kn key (h, blk, n))).2.1, wd, pf, g2, (macH wh (fillP wh kn key (h, blk, n) dg) (fillH wh kn key (h, blk, n))).2.2), rfl, Or.inr ⟨rfl, c0, rfl, rfl, rfl, rfl, rfl, rfl, rfl, hp, hg2, rfl⟩, by rw [ht]; exact hP, va_K.moved hW.alike hK, hD⟩, hS.F ht⟩) hS.2.2 d_M_startMac_150
          · refine lv_aload_n (pc := 130) hx hb d_M_startMac_130 rfl (lv_at hl 0 rfl) ?_
            refine lv_aload_n (pc := 131) hx hb d_M_startMac_131 rfl (lv_at hl 0 rfl) ?_
            refine va_get (pc := 132) (D := (dC, dI)) (ci := 1) (v := .ref (r 2)) (C := R_M) (T := F_M) (N := 18) hx hb hts i_M hown hK hP 0 rfl rfl 7 (by decide) (hts _ fl_M_17) (fun _ h9 => h9) rfl d_M_startMac_132 ?_
            refine lv_iload_n (pc := 135) hx hb d_M_startMac_135 rfl (lv_at hl 1 rfl) ?_
            refine xa_iald (pc := 136) hx hb hK hP 2 0 rfl rfl (by omega) (by decide) d_M_startMac_136 ?_
            refine lv_bipush (pc := 137) (v := (nI 54)) hx hb d_M_startMac_137 (by decide) ?_
            refine lv_ixor (pc := 139) hx hb d_M_startMac_139 ?_
            refine xs_i (y := ((fillP wh kn key (h, blk, n) dg) k ^^^ nI 54)) (by rw [hp k c6]) ?_
            refine kvG (pc := 140) (As := [.int ((fillP wh kn key (h, blk, n) dg) k ^^^ nI 54)]) (rest := []) (wr := []) (ci := 1) ⟨hx, hb, hml, hown, hts⟩ (c_M_add l dC dI cI cB r H.size lim rdy (nI kn) wh (nI 1) wh (nI 0) (lN 0) key pf ((hputs wh (fun zz => (fillP wh kn key (h, blk, n) dg) zz ^^^ nI 54) (hini (fillH wh kn key (h, blk, n)).1, (fillH wh kn key (h, blk, n)).2.1, 0) k).1) ((hputs wh (fun zz => (fillP wh kn key (h, blk, n) dg) zz ^^^ nI 54) (hini (fillH wh kn key (h, blk, n)).1, (fillH wh kn key (h, blk, n)).2.1, 0) k).2.1) wd sin rt g2 res (hputs wh (fun zz => (fillP wh kn key (h, blk, n) dg) zz ^^^ nI 54) (hini (fillH wh kn key (h, blk, n)).1, (fillH wh kn key (h, blk, n)).2.1, 0) k).2.2 ((fillP wh kn key (h, blk, n) dg) k ^^^ nI 54) (by omega) hsin hrt) (cwV 1 hts g_M_104 rfl rfl rfl hd_M_add ⟨by decide, by decide⟩) hK hP hD hS hA hST [0, 1, 2, 3, 4, 5, 6, 7, 8, 9] [] rfl rfl (by decide) (by decide) (by decide) rfl rfl rfl hl.1 rfl (Nat.le_of_ble_eq_true rfl) d_M_startMac_140 ⟨by decide, by decide⟩ (fun u H locs hw hP hD hS => ?_)
            obtain ⟨v1, v2⟩ := u
            have hP : va_P (dC, dI) classes (wM cI cB r lim rdy (nI kn) wh (nI 1) (lN 0) wh (lN ((hputs wh (fun zz => (fillP wh kn key (h, blk, n) dg) zz ^^^ nI 54) (hini (fillH wh kn key (h, blk, n)).1, (fillH wh kn key (h, blk, n)).2.1, 0) k).2.2 + 1)) (nI 0) key pf v1 (upd (hputs wh (fun zz => (fillP wh kn key (h, blk, n) dg) zz ^^^ nI 54) (hini (fillH wh kn key (h, blk, n)).1, (fillH wh kn key (h, blk, n)).2.1, 0) k).2.1 ((hputs wh (fun zz => (fillP wh kn key (h, blk, n) dg) zz ^^^ nI 54) (hini (fillH wh kn key (h, blk, n)).1, (fillH wh kn key (h, blk, n)).2.1, 0) k).2.2 % 64) ((fillP wh kn key (h, blk, n) dg) k ^^^ nI 54)) v2 sin rt g2 res) H := hP
            have hD : va_D A (wM cI cB r lim rdy (nI kn) wh (nI 1) (lN 0) wh (lN ((hputs wh (fun zz => (fillP wh kn key (h, blk, n) dg) zz ^^^ nI 54) (hini (fillH wh kn key (h, blk, n)).1, (fillH wh kn key (h, blk, n)).2.1, 0) k).2.2 + 1)) (nI 0) key pf v1 (upd (hputs wh (fun zz => (fillP wh kn key (h, blk, n) dg) zz ^^^ nI 54) (hini (fillH wh kn key (h, blk, n)).1, (fillH wh kn key (h, blk, n)).2.1, 0) k).2.1 ((hputs wh (fun zz => (fillP wh kn key (h, blk, n) dg) zz ^^^ nI 54) (hini (fillH wh kn key (h, blk, n)).1, (fillH wh kn key (h, blk, n)).2.1, 0) k).2.2 % 64) ((fillP wh kn key (h, blk, n) dg) k ^^^ nI 54)) v2 sin rt g2 res) := hD
            dsimp only at hw
            subst hw
            refine lv_iinc (pc := 143) (v := (nI (k + 1))) (lv' := [(3, .int (nI (k + 1))), (0, .ref (r 0))]) hx hb d_M_startMac_143 hl (k := 1) rfl (inc1 _) (by decide) rfl (fun ls hl => ?_)
            refine lv_goto (pc := 146) (tgt := 124) hx hb d_M_startMac_146 (by decide) ?_
            exact ih4 (k + 1, v2) _ _ _ (by show 64 - (k + 1) < 64 - k; omega) ⟨ls, rfl, lv_sub hl [1, 0] rfl, hP, hD, hS, (show (k + 1) ≤ 64 from by omega)⟩
        · refine lv_aload_n (pc := 72) hx hb d_M_startMac_72 rfl (lv_at hl 0 rfl) ?_
          refine va_get (pc := 73) (D := (dC, dI)) (ci := 1) (v := .ref (r 2)) (C := R_M) (T := F_M) (N := 18) hx hb hts i_M hown hK hP 0 rfl rfl 7 (by decide) (hts _ fl_M_17) (fun _ h9 => h9) rfl d_M_startMac_73 ?_
          refine lv_iload_n (pc := 76) hx hb d_M_startMac_76 rfl (lv_at hl 3 rfl) ?_
          refine jn_i (fun x1 : Int32 => x1 = (fillP wh kn key (h, blk, n) dg) k) 110 ls [.int (nI k), .ref (r 2)] (fun x1 ex1 => ?_) (fun J => ?_)
          · refine xa_iast (pc := 110) (x := x1) hx hb hK hP hD hS 2 0 rfl rfl (by omega) (by decide) d_M_startMac_110 (fun H locs hP hD hS => ?_)
            have hP : va_P (dC, dI) classes (wM cI cB r lim rdy (nI kn) wh (nI 1) (lN 0) wh (lN n3) (nI 0) key (upd pf k x1) h2 b2 w2 sin rt g2 res) H := hP
            have hD : va_D A (wM cI cB r lim rdy (nI kn) wh (nI 1) (lN 0) wh (lN n3) (nI 0) key (upd pf k x1) h2 b2 w2 sin rt g2 res) := hD
            refine lv_iinc (pc := 111) (v := (nI (k + 1))) (lv' := [(3, .int (nI (k + 1))), (0, .ref (r 0)), (1, .int wh), (2, .int (nI n2))]) hx hb d_M_startMac_111 hl (k := 3) rfl (inc1 _) (by decide) rfl (fun ls hl => ?_)
            refine lv_goto (pc := 114) (tgt := 66) hx hb d_M_startMac_114 (by decide) ?_
            exact ih3 (k + 1, upd pf k x1) _ _ _ (by show 64 - (k + 1) < 64 - k; omega) ⟨ls, rfl, lv_sub hl [1, 2, 3, 0] rfl, hP, hD, hS, (show (k + 1) ≤ 64 from by omega), (show ∀ j, j < (k + 1) → (upd pf k x1) j = (fillP wh kn key (h, blk, n) dg) j from upd_lt hp ex1)⟩
          · refine lv_iload_n (pc := 77) hx hb d_M_startMac_77 rfl (lv_at hl 3 rfl) ?_
            refine lv_iload_n (pc := 78) hx hb d_M_startMac_78 rfl (lv_at hl 2 rfl) ?_
            refine xi_lt (pc := 79) (tgt := 86) hx hb d_M_startMac_79 (by decide) (by omega) (by omega) (fun c4 => ?_) (fun c4 => ?_)
            · refine lv_aload_n (pc := 86) hx hb d_M_startMac_86 rfl (lv_at hl 0 rfl) ?_
              refine va_get (pc := 87) (D := (dC, dI)) (ci := 1) (v := .int (nI kn)) (C := R_M) (T := F_M) (N := 18) hx hb hts i_M hown hK hP 0 rfl rfl 3 (by decide) (hts _ fl_M_120) (fun _ h9 => h9) rfl d_M_startMac_87 ?_
              refine lv_bipush (pc := 90) (v := (nI 64)) hx hb d_M_startMac_90 (by decide) ?_
              refine xi_le (pc := 92) (tgt := 104) hx hb d_M_startMac_92 (by decide) (by omega) (by omega) (fun c5 => ?_) (fun c5 => ?_)
              · refine lv_aload_n (pc := 104) hx hb d_M_startMac_104 rfl (lv_at hl 0 rfl) ?_
                refine va_get (pc := 105) (D := (dC, dI)) (ci := 1) (v := .ref (r 1)) (C := R_M) (T := F_M) (N := 18) hx hb hts i_M hown hK hP 0 rfl rfl 2 (by decide) (hts _ fl_M_7) (fun _ h9 => h9) rfl d_M_startMac_105 ?_
                refine lv_iload_n (pc := 108) hx hb d_M_startMac_108 rfl (lv_at hl 3 rfl) ?_
                refine xa_iald (pc := 109) hx hb hK hP 1 0 rfl rfl (by omega) (by decide) d_M_startMac_109 ?_
                exact J _ (fillP_k hn2 c4 c5)
              · refine lv_aload_n (pc := 95) hx hb d_M_startMac_95 rfl (lv_at hl 0 rfl) ?_
                refine va_get (pc := 96) (D := (dC, dI)) (ci := 1) (v := .ref (r 8)) (C := R_M) (T := F_M) (N := 18) hx hb hts i_M hown hK hP 0 rfl rfl 15 (by decide) (hts _ fl_M_35) (fun _ h9 => h9) rfl d_M_startMac_96 ?_
                refine lv_iload_n (pc := 99) hx hb d_M_startMac_99 rfl (lv_at hl 3 rfl) ?_
                refine xa_iald (pc := 100) hx hb hK hP 8 0 rfl rfl (by omega) (by decide) d_M_startMac_100 ?_
                refine lv_goto (pc := 101) (tgt := 110) hx hb d_M_startMac_101 (by decide) ?_
                exact J _ (by rw [hg2]; exact fillP_d hn2 c4 c5)
            · refine lv_iconst (pc := 82) (v := (nI 0)) hx hb d_M_startMac_82 (by decide) ?_
              refine lv_goto (pc := 83) (tgt := 110) hx hb d_M_startMac_83 (by decide) ?_
              exact J _ (fillP_0 hn2 c4)
      · intro J
        refine xi_le (pc := 26) (tgt := 64) hx hb d_M_startMac_26 (by decide) (by omega) (by omega) (fun c1 => ?_) (fun c1 => ?_)
        · exact J (kn, hini h, blk, w, dg, 0) _ _ _ ⟨ls, rfl, lv_sub hl [1, 2, 0] rfl, hP, hD, hS, (if_neg (by omega)).symm, by rw [fill_short (by omega)]; exact hini_hini h, by rw [fill_short (by omega)], by rw [fillD_short (by omega)]⟩
        · refine lv_iconst (pc := 29) (v := (nI 0)) hx hb d_M_startMac_29 (by decide) ?_
          refine lv_istore_n (pc := 30) (lv' := [(3, .int (nI 0)), (2, .int (nI kn)), (0, .ref (r 0)), (1, .int wh)]) hx hb d_M_startMac_30 rfl hl (by decide) rfl (fun ls hl => ?_)
          refine lp (α := Nat × (Nat → Int32)) (fun x => kn - x.1) (fun x H1 locs1 g => ∃ ls, g = F0 m 31 ls [] ∧ lv_has ls 4 [(0, .ref (r 0)), (1, .int wh), (3, .int (nI x.1))] ∧ va_P (dC, dI) classes (wM cI cB r lim rdy (nI kn) wh (nI 1) (lN 0) wh (lN ((hputs wh key (hini h, blk, 0) x.1).2.2)) (nI 0) key pad ((hputs wh key (hini h, blk, 0) x.1).1) ((hputs wh key (hini h, blk, 0) x.1).2.1) x.2 sin rt dg res) H1 ∧ va_D A (wM cI cB r lim rdy (nI kn) wh (nI 1) (lN 0) wh (lN ((hputs wh key (hini h, blk, 0) x.1).2.2)) (nI 0) key pad ((hputs wh key (hini h, blk, 0) x.1).1) ((hputs wh key (hini h, blk, 0) x.1).2.1) x.2 sin rt dg res) ∧ va_S A s.heap H1 locs1 ∧ (x.1 ≤ kn)) ?_ (0, w) ⟨ls, rfl, lv_sub hl [2, 3, 0] rfl, hP, hD, hS, (show 0 ≤ kn from Nat.zero_le _)⟩
          rintro ⟨k, wd⟩ H locs g ih ⟨ls, rfl, hl, hP, hD, hS, hk⟩
          have hl : lv_has ls 4 [(0, .ref (r 0)), (1, .int wh), (3, .int (nI k))] := hl
          have hP : va_P (dC, dI) classes (wM cI cB r lim rdy (nI kn) wh (nI 1) (lN 0) wh (lN ((hputs wh key (hini h, blk, 0) k).2.2)) (nI 0) key pad ((hputs wh key (hini h, blk, 0) k).1) ((hputs wh key (hini h, blk, 0) k).2.1) wd sin rt dg res) H := hP
          have hD : va_D A (wM cI cB r lim rdy (nI kn) wh (nI 1) (lN 0) wh (lN ((hputs wh key (hini h, blk, 0) k).2.2)) (nI 0) key pad ((hputs wh key (hini h, blk, 0) k).1) ((hputs wh key (hini h, blk, 0) k).2.1) wd sin rt dg res) := hD
          have hk : k ≤ kn := hk
          have hk2 : (hputs wh key (hini h, blk, 0) k).2.2 = 0 + k := hputs_n _ _ _ _
          refine lv_iload_n (pc := 31) hx hb d_M_startMac_31 rfl (lv_at hl 2 rfl) ?_
          refine lv_aload_n (pc := 32) hx hb d_M_startMac_32 rfl (lv_at hl 0 rfl) ?_
          refine va_get (pc := 33) (D := (dC, dI)) (ci := 1) (v := .int (nI kn)) (C := R_M) (T := F_M) (N := 18) hx hb hts i_M hown hK hP 0 rfl rfl 3 (by decide) (hts _ fl_M_120) (fun _ h9 => h9) rfl d_M_startMac_33 ?_
          refine xi_ge (pc := 36) (tgt := 55) hx hb d_M_startMac_36 (by decide) (by omega) (by omega) (fun c2 => ?_) (fun c2 => ?_)
          · have hs3 : kn = k := by omega
            subst hs3
            refine lv_aload_n (pc := 55) hx hb d_M_startMac_55 rfl (lv_at hl 0 rfl) ?_
            refine kvG (pc := 56) (As := []) (rest := []) (wr := []) (ci := 1) ⟨hx, hb, hml, hown, hts⟩ (c_M_end l dC dI cI cB r H.size lim rdy (nI kn) wh (nI 1) wh (nI 0) (lN 0) key pad ((hputs wh key (hini h, blk, 0) kn).1) ((hputs wh key (hini h, blk, 0) kn).2.1) wd sin rt dg res (hputs wh key (hini h, blk, 0) kn).2.2 (by omega) hsin hrt) (cwV 0 hts g_M_139 rfl rfl rfl hd_M_end ⟨by decide, by decide⟩) hK hP hD hS hA hST [0, 1, 2, 3, 4, 5, 6, 7, 8, 9] [] rfl rfl (by decide) (by decide) (by decide) rfl rfl rfl hl.1 rfl (Nat.le_of_ble_eq_true rfl) d_M_startMac_56 ⟨by decide, by decide⟩ (fun u H locs hw hP hD hS => ?_)
            have hP : va_P (dC, dI) classes (wM cI cB r lim rdy (nI kn) wh (nI 1) (lN 0) wh (lN ((hend wh (hputs wh key (hini h, blk, 0) kn)).2.2)) (nI 0) key pad ((hend wh (hputs wh key (hini h, blk, 0) kn)).1) ((hend wh (hputs wh key (hini h, blk, 0) kn)).2.1) u sin rt (digU wh (hend wh (hputs wh key (hini h, blk, 0) kn)).1 dg (hlen wh)) res) H := hP
            have hD : va_D A (wM cI cB r lim rdy (nI kn) wh (nI 1) (lN 0) wh (lN ((hend wh (hputs wh key (hini h, blk, 0) kn)).2.2)) (nI 0) key pad ((hend wh (hputs wh key (hini h, blk, 0) kn)).1) ((hend wh (hputs wh key (hini h, blk, 0) kn)).2.1) u sin rt (digU wh (hend wh (hputs wh key (hini h, blk, 0) kn)).1 dg (hlen wh)) res) := hD
            refine lv_aload_n (pc := 59) hx hb d_M_startMac_59 rfl (lv_at hl 0 rfl) ?_
            refine kiG (pc := 60) (As := []) (rest := []) (wr := []) (ci := 1) ⟨hx, hb, hml, hown, hts⟩ (c_M_width l dC dI cI cB r H.size lim rdy (nI kn) wh (nI 1) wh (nI 0) (lN 0) (lN ((hend wh (hputs wh key (hini h, blk, 0) kn)).2.2)) key pad ((hend wh (hputs wh key (hini h, blk, 0) kn)).1) ((hend wh (hputs wh key (hini h, blk, 0) kn)).2.1) u sin rt (digU wh (hend wh (hputs wh key (hini h, blk, 0) kn)).1 dg (hlen wh)) res) (cwV 0 hts g_M_112 rfl rfl rfl hd_M_width ⟨by decide, by decide⟩) hK hP hD hS hA hST [0, 1, 2, 3, 4, 5, 6, 7, 8, 9] [] rfl rfl (by decide) (by decide) (by decide) rfl rfl rfl hl.1 rfl (Nat.le_of_ble_eq_true rfl) d_M_startMac_60 ⟨by decide, by decide⟩ (fun rr u5 H locs hw2 hP hD hS => ?_)
            have hP : va_P (dC, dI) classes (wM cI cB r lim rdy (nI kn) wh (nI 1) (lN 0) wh (lN ((hend wh (hputs wh key (hini h, blk, 0) kn)).2.2)) (nI 0) key pad ((hend wh (hputs wh key (hini h, blk, 0) kn)).1) ((hend wh (hputs wh key (hini h, blk, 0) kn)).2.1) u sin rt (digU wh (hend wh (hputs wh key (hini h, blk, 0) kn)).1 dg (hlen wh)) res) H := hP
            have hD : va_D A (wM cI cB r lim rdy (nI kn) wh (nI 1) (lN 0) wh (lN ((hend wh (hputs wh key (hini h, blk, 0) kn)).2.2)) (nI 0) key pad ((hend wh (hputs wh key (hini h, blk, 0) kn)).1) ((hend wh (hputs wh key (hini h, blk, 0) kn)).2.1) u sin rt (digU wh (hend wh (hputs wh key (hini h, blk, 0) kn)).1 dg (hlen wh)) res) := hD
            subst hw2
            refine lv_istore_n (pc := 63) (lv' := [(2, .int (nI (hlen wh))), (0, .ref (r 0)), (1, .int wh), (3, .int (nI kn))]) hx hb d_M_startMac_63 rfl hl (by decide) rfl (fun ls hl => ?_)
            exact J (hlen wh, (hend wh (hputs wh key (hini h, blk, 0) kn)).1, (hend wh (hputs wh key (hini h, blk, 0) kn)).2.1, u, digU wh (hend wh (hputs wh key (hini h, blk, 0) kn)).1 dg (hlen wh), (hend wh (hputs wh key (hini h, blk, 0) kn)).2.2) _ _ _ ⟨ls, rfl, lv_sub hl [1, 2, 0] rfl, hP, hD, hS, (if_pos c1).symm, by rw [fill_long c1], by rw [fill_long c1], by rw [fillD_long c1]⟩
          · refine lv_aload_n (pc := 39) hx hb d_M_startMac_39 rfl (lv_at hl 0 rfl) ?_
            refine lv_aload_n (pc := 40) hx hb d_M_startMac_40 rfl (lv_at hl 0 rfl) ?_
            refine va_get (pc := 41) (D := (dC, dI)) (ci := 1) (v := .ref (r 1)) (C := R_M) (T := F_M) (N := 18) hx hb hts i_M hown hK hP 0 rfl rfl 2 (by decide) (hts _ fl_M_7) (fun _ h9 => h9) rfl d_M_startMac_41 ?_
            refine lv_iload_n (pc := 44) hx hb d_M_startMac_44 rfl (lv_at hl 2 rfl) ?_
            refine xa_iald (pc := 45) hx hb hK hP 1 0 rfl rfl (by omega) (by decide) d_M_startMac_45 ?_
            refine kvG (pc := 46) (As := [.int (key k)]) (rest := []) (wr := []) (ci := 1) ⟨hx, hb, hml, hown, hts⟩ (c_M_add l dC dI cI cB r H.size lim rdy (nI kn) wh (nI 1) wh (nI 0) (lN 0) key pad ((hputs wh key (hini h, blk, 0) k).1) ((hputs wh key (hini h, blk, 0) k).2.1) wd sin rt dg res (hputs wh key (hini h, blk, 0) k).2.2 (key k) (by omega) hsin hrt) (cwV 1 hts g_M_104 rfl rfl rfl hd_M_add ⟨by decide, by decide⟩) hK hP hD hS hA hST [0, 1, 2, 3, 4, 5, 6, 7, 8, 9] [] rfl rfl (by decide) (by decide) (by decide) rfl rfl rfl hl.1 rfl (Nat.le_of_ble_eq_true rfl) d_M_startMac_46 ⟨by decide, by decide⟩ (fun u H locs hw hP hD hS => ?_)
            obtain ⟨v1, v2⟩ := u
            have hP : va_P (dC, dI) classes (wM cI cB r lim rdy (nI kn) wh (nI 1) (lN 0) wh (lN ((hputs wh key (hini h, blk, 0) k).2.2 + 1)) (nI 0) key pad v1 (upd (hputs wh key (hini h, blk, 0) k).2.1 ((hputs wh key (hini h, blk, 0) k).2.2 % 64) (key k)) v2 sin rt dg res) H := hP
            have hD : va_D A (wM cI cB r lim rdy (nI kn) wh (nI 1) (lN 0) wh (lN ((hputs wh key (hini h, blk, 0) k).2.2 + 1)) (nI 0) key pad v1 (upd (hputs wh key (hini h, blk, 0) k).2.1 ((hputs wh key (hini h, blk, 0) k).2.2 % 64) (key k)) v2 sin rt dg res) := hD
            dsimp only at hw
            subst hw
            refine lv_iinc (pc := 49) (v := (nI (k + 1))) (lv' := [(3, .int (nI (k + 1))), (0, .ref (r 0)), (1, .int wh)]) hx hb d_M_startMac_49 hl (k := 2) rfl (inc1 _) (by decide) rfl (fun ls hl => ?_)
            refine lv_goto (pc := 52) (tgt := 31) hx hb d_M_startMac_52 (by decide) ?_
            exact ih (k + 1, v2) _ _ _ (by show kn - (k + 1) < kn - k; omega) ⟨ls, rfl, lv_sub hl [1, 2, 0] rfl, hP, hD, hS, (show (k + 1) ≤ kn from by omega)⟩
    · exact absurd c9 (by decide)
end
section
set_option maxHeartbeats 4000000 in
set_option maxRecDepth 100000 in
theorem c_M_finish (l : Launch) (dC : Nat → ClassId) (dI : Nat → Nat → Nat) (cI cB : ClassId) (r : Nat → Nat) (sz : Nat) (lim rdy ks opn mac hash rs : Int32) (byt : Int64) (key pad h blk w sin rt dg res : Nat → Int32) (n : Nat) (hn : n < 2 ^ 50) (ho : ¬ opn = -1 → hash = opn) (hsin : ∀ j, j < 64 → sin j = sinesT j) (hrt : ∀ j, j < 4 → rt j = addedT j) : Met l y_M_finish (k_M_finish :: tT) ({ frames := 4, cells := 0, slots := 0, locals := 96 }) (va_Pc [.ref (r 0)] (pD (dC, dI) cI cB sz (wM cI cB r lim rdy ks opn mac byt hash (lN n) rs key pad h blk w sin rt dg res))) (va_Qi (fun (rr : Int32) (u : Int32 × Int32 × Int32 × (Nat → Int32) × (Nat → Int32) × (Nat → Int32) × (Nat → Int32) × (Nat → Int32) × Nat) => (rr = nI 0 ∧ opn = -1 ∧ u = (ks, opn, rs, h, blk, w, dg, res, n)) ∨ (rr = nI 1 ∧ ¬ opn = -1 ∧ u.1 = (if mac = 0 then ks else nI 0) ∧ u.2.1 = -1 ∧ u.2.2.1 = nI (hlen hash) ∧ u.2.2.2.1 = (finH hash mac pad (h, blk, n) dg).1 ∧ u.2.2.2.2.1 = (finH hash mac pad (h, blk, n) dg).2.1 ∧ u.2.2.2.2.2.2.1 = (finD hash mac pad (h, blk, n) dg) ∧ (∀ j, j < hlen hash → u.2.2.2.2.2.2.2.1 j = (finD hash mac pad (h, blk, n) dg) j) ∧ u.2.2.2.2.2.2.2.2 = (finH hash mac pad (h, blk, n) dg).2.2)) (fun u t => qD (dC, dI) cI cB (va_A (wM cI cB r lim rdy ks opn mac byt hash (lN n) rs key pad h blk w sin rt dg res) sz) (wM cI cB r lim rdy u.1 u.2.1 mac byt hash (lN u.2.2.2.2.2.2.2.2) u.2.2.1 key pad u.2.2.2.1 u.2.2.2.2.1 u.2.2.2.2.2.1 sin rt u.2.2.2.2.2.2.1 u.2.2.2.2.2.2.2.1) t) (va_A (wM cI cB r lim rdy ks opn mac byt hash (lN n) rs key pad h blk w sin rt dg res) sz)) 0 0 (va_A (wM cI cB r lim rdy ks opn mac byt hash (lN n) rs key pad h blk w sin rt dg res) sz) := by
  refine Met.ofW (cc := b_M_finish) (maxL := 2) (ret := (some .boolean)) (by decide) rfl ?_
  intro p e s m args below meth c s₁ B hml hv
  obtain ⟨rfl, hsz, hP, hK, hD0, hST⟩ := hv
  have hx := B.exec
  have hb := B.bytes
  have hr := B.returns
  have hts : ∀ w ∈ tT, w.before _ s = true := fun w h => atoms_spec (ws := k_M_finish :: tT) B.pre w (List.mem_cons_of_mem _ h)
  have hown : s.vm.findClass R_M = some m.cls := findClass_of_methodNamed B.named
  have hlocks := B.notSynchronized
  subst hsz
  have hD := hD0.self (sz := s.heap.size)
  generalize hAe : va_A (wM cI cB r lim rdy ks opn mac byt hash (lN n) rs key pad h blk w sin rt dg res) s.heap.size = A at hD hST ⊢
  have hA : ∀ q : Nat, s.heap.size ≤ q → A q := fun q h => by rw [← hAe]; exact Or.inr h
  have hS : va_S A s.heap s.heap [] := va_S.rf
  have hP : va_P (dC, dI) classes (wM cI cB r lim rdy ks opn mac byt hash (lN n) rs key pad h blk w sin rt dg res) s.heap := hP
  have hl := lv_entry ([.ref (r 0)]) (n := 2) (Nat.le_of_ble_eq_true rfl)
  rw [lg_entry_eq]
  generalize (lg_sl ([.ref (r 0)]) ++ List.replicate (2 - (lg_sl ([.ref (r 0)])).length) Slot.unset).toArray = ls at hl ⊢
  have hl : lv_has ls 2 [(0, .ref (r 0))] := hl
  refine lv_aload_n (pc := 0) hx hb d_M_finish_0 rfl (lv_at hl 0 rfl) ?_
  refine va_get (pc := 1) (D := (dC, dI)) (ci := 1) (v := .int opn) (C := R_M) (T := F_M) (N := 18) hx hb hts i_M hown hK hP 0 rfl rfl 4 (by decide) (hts _ fl_M_13) (fun _ h9 => h9) rfl d_M_finish_1 ?_
  refine lv_iconst (pc := 4) (v := (-1)) hx hb d_M_finish_4 (by decide) ?_
  refine lv_icmp_ne (pc := 5) (tgt := 10) hx hb d_M_finish_5 (by decide) (fun c0 => ?_) (fun c0 => ?_)
  · have ho := ho c0
    subst ho
    refine lv_aload_n (pc := 10) hx hb d_M_finish_10 rfl (lv_at hl 0 rfl) ?_
    refine kvG (pc := 11) (As := []) (rest := []) (wr := []) (ci := 1) ⟨hx, hb, hml, hown, hts⟩ (c_M_end l dC dI cI cB r s.heap.size lim rdy ks hash mac hash rs byt key pad h blk w sin rt dg res n (by omega) hsin hrt) (cwV 0 hts g_M_139 rfl rfl rfl hd_M_end ⟨by decide, by decide⟩) hK hP hD hS hA hST [0, 1, 2, 3, 4, 5, 6, 7, 8, 9] [] rfl rfl (by decide) (by decide) (by decide) rfl rfl rfl hl.1 rfl (Nat.le_of_ble_eq_true rfl) d_M_finish_11 ⟨by decide, by decide⟩ (fun u H locs hw hP hD hS => ?_)
    have hP : va_P (dC, dI) classes (wM cI cB r lim rdy ks hash mac byt hash (lN ((hend hash (h, blk, n)).2.2)) rs key pad ((hend hash (h, blk, n)).1) ((hend hash (h, blk, n)).2.1) u sin rt (finD1 hash (h, blk, n) dg) res) H := hP
    have hD : va_D A (wM cI cB r lim rdy ks hash mac byt hash (lN ((hend hash (h, blk, n)).2.2)) rs key pad ((hend hash (h, blk, n)).1) ((hend hash (h, blk, n)).2.1) u sin rt (finD1 hash (h, blk, n) dg) res) := hD
    refine lv_aload_n (pc := 14) hx hb d_M_finish_14 rfl (lv_at hl 0 rfl) ?_
    refine va_get (pc := 15) (D := (dC, dI)) (ci := 1) (v := .int mac) (C := R_M) (T := F_M) (N := 18) hx hb hts i_M hown hK hP 0 rfl rfl 5 (by decide) (hts _ fl_M_126) (fun _ h9 => h9) rfl d_M_finish_15 ?_
    refine lv_if_eq (pc := 18) (tgt := 91) hx hb d_M_finish_18 (by decide) (fun c1 => ?_) (fun c1 => ?_)
    · refine lv_aload_n (pc := 91) hx hb d_M_finish_91 rfl (lv_at hl 0 rfl) ?_
      refine lv_aload_n (pc := 92) hx hb d_M_finish_92 rfl (lv_at hl 0 rfl) ?_
      refine kiG (pc := 93) (As := []) (rest := [.ref (r 0)]) (wr := []) (ci := 1) ⟨hx, hb, hml, hown, hts⟩ (c_M_width l dC dI cI cB r H.size lim rdy ks hash mac hash rs byt (lN ((hend hash (h, blk, n)).2.2)) key pad ((hend hash (h, blk, n)).1) ((hend hash (h, blk, n)).2.1) u sin rt (finD1 hash (h, blk, n) dg) res) (cwV 0 hts g_M_112 rfl rfl rfl hd_M_width ⟨by decide, by decide⟩) hK hP hD hS hA hST [0, 1, 2, 3, 4, 5, 6, 7, 8, 9] [] rfl rfl (by decide) (by decide) (by decide) rfl rfl rfl hl.1 rfl (Nat.le_of_ble_eq_true rfl) d_M_finish_93 ⟨by decide, by decide⟩ (fun rr u5 H locs hw2 hP hD hS => ?_)
      have hP : va_P (dC, dI) classes (wM cI cB r lim rdy ks hash mac byt hash (lN ((hend hash (h, blk, n)).2.2)) rs key pad ((hend hash (h, blk, n)).1) ((hend hash (h, blk, n)).2.1) u sin rt (finD1 hash (h, blk, n) dg) res) H := hP
      have hD : va_D A (wM cI cB r lim rdy ks hash mac byt hash (lN ((hend hash (h, blk, n)).2.2)) rs key pad ((hend hash (h, blk, n)).1) ((hend hash (h, blk, n)).2.1) u sin rt (finD1 hash (h, blk, n) dg) res) := hD
      subst hw2
      refine va_put (pc := 96) (D := (dC, dI)) (ci := 1) (v := .int (nI (hlen hash))) (ty := .int) (C := R_M) (T := F_M) (N := 18) hx hb hts i_M t_M t_M_ok n_M hown hK hP hD hS 0 rfl rfl 17 (by decide) (hts _ fl_M_123) (fun _ h9 => h9) rfl (by decide +kernel) rfl rfl (Nat.le_of_ble_eq_true rfl) d_M_finish_96 (fun H locs hP hD hS => ?_)
      have hP : va_P (dC, dI) classes (wM cI cB r lim rdy ks hash mac byt hash (lN ((hend hash (h, blk, n)).2.2)) (nI (hlen hash)) key pad ((hend hash (h, blk, n)).1) ((hend hash (h, blk, n)).2.1) u sin rt (finD1 hash (h, blk, n) dg) res) H := hP
      have hD : va_D A (wM cI cB r lim rdy ks hash mac byt hash (lN ((hend hash (h, blk, n)).2.2)) (nI (hlen hash)) key pad ((hend hash (h, blk, n)).1) ((hend hash (h, blk, n)).2.1) u sin rt (finD1 hash (h, blk, n) dg) res) := hD
      refine lv_iconst (pc := 99) (v := (nI 0)) hx hb d_M_finish_99 (by decide) ?_
      refine lv_istore_n (pc := 100) (lv' := [(1, .int (nI 0)), (0, .ref (r 0))]) hx hb d_M_finish_100 rfl hl (by decide) rfl (fun ls hl => ?_)
      refine lp (α := Nat × (Nat → Int32)) (fun x => 20 - x.1) (fun x H1 locs1 g => ∃ ls, g = F0 m 101 ls [] ∧ lv_has ls 2 [(0, .ref (r 0)), (1, .int (nI x.1))] ∧ va_P (dC, dI) classes (wM cI cB r lim rdy ks hash mac byt hash (lN ((hend hash (h, blk, n)).2.2)) (nI (hlen hash)) key pad ((hend hash (h, blk, n)).1) ((hend hash (h, blk, n)).2.1) u sin rt (finD1 hash (h, blk, n) dg) x.2) H1 ∧ va_D A (wM cI cB r lim rdy ks hash mac byt hash (lN ((hend hash (h, blk, n)).2.2)) (nI (hlen hash)) key pad ((hend hash (h, blk, n)).1) ((hend hash (h, blk, n)).2.1) u sin rt (finD1 hash (h, blk, n) dg) x.2) ∧ va_S A s.heap H1 locs1 ∧ (x.1 ≤ hlen hash) ∧ (∀ j, j < x.1 → x.2 j = (finD1 hash (h, blk, n) dg) j)) ?_ (0, res) ⟨ls, rfl, lv_sub hl [1, 0] rfl, hP, hD, hS, (show 0 ≤ hlen hash from Nat.zero_le _), (show ∀ j, j < 0 → res j = (finD1 hash (h, blk, n) dg) j from fun j h => absurd h (Nat.not_lt_zero _))⟩
      rintro ⟨k, rf⟩ H locs g ihT ⟨ls, rfl, hl, hP, hD, hS, hk, hR⟩
      have hl : lv_has ls 2 [(0, .ref (r 0)), (1, .int (nI k))] := hl
      have hP : va_P (dC, dI) classes (wM cI cB r lim rdy ks hash mac byt hash (lN ((hend hash (h, blk, n)).2.2)) (nI (hlen hash)) key pad ((hend hash (h, blk, n)).1) ((hend hash (h, blk, n)).2.1) u sin rt (finD1 hash (h, blk, n) dg) rf) H := hP
      have hD : va_D A (wM cI cB r lim rdy ks hash mac byt hash (lN ((hend hash (h, blk, n)).2.2)) (nI (hlen hash)) key pad ((hend hash (h, blk, n)).1) ((hend hash (h, blk, n)).2.1) u sin rt (finD1 hash (h, blk, n) dg) rf) := hD
      have hk : k ≤ hlen hash := hk
      have hR : ∀ j, j < k → rf j = (finD1 hash (h, blk, n) dg) j := hR
      have hle := hlen_le hash
      refine lv_iload_n (pc := 101) hx hb d_M_finish_101 rfl (lv_at hl 1 rfl) ?_
      refine lv_aload_n (pc := 102) hx hb d_M_finish_102 rfl (lv_at hl 0 rfl) ?_
      refine va_get (pc := 103) (D := (dC, dI)) (ci := 1) (v := .int (nI (hlen hash))) (C := R_M) (T := F_M) (N := 18) hx hb hts i_M hown hK hP 0 rfl rfl 17 (by decide) (hts _ fl_M_123) (fun _ h9 => h9) rfl d_M_finish_103 ?_
      refine xi_ge (pc := 106) (tgt := 127) hx hb d_M_finish_106 (by decide) (by omega) (by omega) (fun cT => ?_) (fun cT => ?_)
      · have hs1 : k = hlen hash := by omega
        subst hs1
        refine lv_aload_n (pc := 127) hx hb d_M_finish_127 rfl (lv_at hl 0 rfl) ?_
        refine lv_iconst (pc := 128) (v := (-1)) hx hb d_M_finish_128 (by decide) ?_
        refine va_put (pc := 129) (D := (dC, dI)) (ci := 1) (v := .int (-1)) (ty := .int) (C := R_M) (T := F_M) (N := 18) hx hb hts i_M t_M t_M_ok n_M hown hK hP hD hS 0 rfl rfl 4 (by decide) (hts _ fl_M_13) (fun _ h9 => h9) rfl (by decide +kernel) rfl rfl (Nat.le_of_ble_eq_true rfl) d_M_finish_129 (fun H locs hP hD hS => ?_)
        have hP : va_P (dC, dI) classes (wM cI cB r lim rdy ks (-1) mac byt hash (lN ((hend hash (h, blk, n)).2.2)) (nI (hlen hash)) key pad ((hend hash (h, blk, n)).1) ((hend hash (h, blk, n)).2.1) u sin rt (finD1 hash (h, blk, n) dg) rf) H := hP
        have hD : va_D A (wM cI cB r lim rdy ks (-1) mac byt hash (lN ((hend hash (h, blk, n)).2.2)) (nI (hlen hash)) key pad ((hend hash (h, blk, n)).1) ((hend hash (h, blk, n)).2.1) u sin rt (finD1 hash (h, blk, n) dg) rf) := hD
        refine lv_iconst (pc := 132) (v := (nI 1)) hx hb d_M_finish_132 (by decide) ?_
        exact W.zret (v := (nI 1)) hx hb hr rfl (fun t ht hW => ⟨⟨(nI 1), (ks, -1, nI (hlen hash), (hend hash (h, blk, n)).1, (hend hash (h, blk, n)).2.1, u, (finD1 hash (h, blk, n) dg), rf, (hend hash (h, blk, n)).2.2), rfl, Or.inr ⟨rfl, c0, by rw [if_pos c1], rfl, rfl, by rw [fin_0 c1], by rw [fin_0 c1], by rw [finD_0 c1], by rw [finD_0 c1]; exact hR, by rw [fin_0 c1]⟩, by rw [ht]; exact hP, va_K.moved hW.alike hK, hD⟩, hS.F ht⟩) hS.2.2 d_M_finish_133
      · refine lv_aload_n (pc := 109) hx hb d_M_finish_109 rfl (lv_at hl 0 rfl) ?_
        refine va_get (pc := 110) (D := (dC, dI)) (ci := 1) (v := .ref (r 9)) (C := R_M) (T := F_M) (N := 18) hx hb hts i_M hown hK hP 0 rfl rfl 16 (by decide) (hts _ fl_M_38) (fun _ h9 => h9) rfl d_M_finish_110 ?_
        refine lv_iload_n (pc := 113) hx hb d_M_finish_113 rfl (lv_at hl 1 rfl) ?_
        refine lv_aload_n (pc := 114) hx hb d_M_finish_114 rfl (lv_at hl 0 rfl) ?_
        refine va_get (pc := 115) (D := (dC, dI)) (ci := 1) (v := .ref (r 8)) (C := R_M) (T := F_M) (N := 18) hx hb hts i_M hown hK hP 0 rfl rfl 15 (by decide) (hts _ fl_M_35) (fun _ h9 => h9) rfl d_M_finish_115 ?_
        refine lv_iload_n (pc := 118) hx hb d_M_finish_118 rfl (lv_at hl 1 rfl) ?_
        refine xa_iald (pc := 119) hx hb hK hP 8 0 rfl rfl (by omega) (by decide) d_M_finish_119 ?_
        refine xa_iast (pc := 120) (x := ((finD1 hash (h, blk, n) dg) k)) hx hb hK hP hD hS 9 0 rfl rfl (by omega) (by decide) d_M_finish_120 (fun H locs hP hD hS => ?_)
        have hP : va_P (dC, dI) classes (wM cI cB r lim rdy ks hash mac byt hash (lN ((hend hash (h, blk, n)).2.2)) (nI (hlen hash)) key pad ((hend hash (h, blk, n)).1) ((hend hash (h, blk, n)).2.1) u sin rt (finD1 hash (h, blk, n) dg) (upd rf k ((finD1 hash (h, blk, n) dg) k))) H := hP
        have hD : va_D A (wM cI cB r lim rdy ks hash mac byt hash (lN ((hend hash (h, blk, n)).2.2)) (nI (hlen hash)) key pad ((hend hash (h, blk, n)).1) ((hend hash (h, blk, n)).2.1) u sin rt (finD1 hash (h, blk, n) dg) (upd rf k ((finD1 hash (h, blk, n) dg) k))) := hD
        refine lv_iinc (pc := 121) (v := (nI (k + 1))) (lv' := [(1, .int (nI (k + 1))), (0, .ref (r 0))]) hx hb d_M_finish_121 hl (k := 1) rfl (inc1 _) (by decide) rfl (fun ls hl => ?_)
        refine lv_goto (pc := 124) (tgt := 101) hx hb d_M_finish_124 (by decide) ?_
        exact ihT (k + 1, upd rf k ((finD1 hash (h, blk, n) dg) k)) _ _ _ (by show 20 - (k + 1) < 20 - k; omega) ⟨ls, rfl, lv_sub hl [1, 0] rfl, hP, hD, hS, (show (k + 1) ≤ hlen hash from by omega), (show ∀ j, j < (k + 1) → (upd rf k ((finD1 hash (h, blk, n) dg) k)) j = (finD1 hash (h, blk, n) dg) j from upd_lt hR rfl)⟩
    · refine lv_aload_n (pc := 21) hx hb d_M_finish_21 rfl (lv_at hl 0 rfl) ?_
      refine lv_aload_n (pc := 22) hx hb d_M_finish_22 rfl (lv_at hl 0 rfl) ?_
      refine va_get (pc := 23) (D := (dC, dI)) (ci := 1) (v := .int hash) (C := R_M) (T := F_M) (N := 18) hx hb hts i_M hown hK hP 0 rfl rfl 4 (by decide) (hts _ fl_M_13) (fun _ h9 => h9) rfl d_M_finish_23 ?_
      refine kvG (pc := 26) (As := [.int hash]) (rest := []) (wr := []) (ci := 1) ⟨hx, hb, hml, hown, hts⟩ (c_M_begin l dC dI cI cB r H.size lim rdy ks hash mac hash rs byt (lN ((hend hash (h, blk, n)).2.2)) key pad ((hend hash (h, blk, n)).1) ((hend hash (h, blk, n)).2.1) u sin rt (finD1 hash (h, blk, n) dg) res hash) (cwV 1 hts g_M_132 rfl rfl rfl hd_M_begin ⟨by decide, by decide⟩) hK hP hD hS hA hST [0, 1, 2, 3, 4, 5, 6, 7, 8, 9] [] rfl rfl (by decide) (by decide) (by decide) rfl rfl rfl hl.1 rfl (Nat.le_of_ble_eq_true rfl) d_M_finish_26 ⟨by decide, by decide⟩ (fun u6 H locs hw hP hD hS => ?_)
      have hP : va_P (dC, dI) classes (wM cI cB r lim rdy ks hash mac byt hash (lN 0) rs key pad (hini (hend hash (h, blk, n)).1) ((hend hash (h, blk, n)).2.1) u sin rt (finD1 hash (h, blk, n) dg) res) H := hP
      have hD : va_D A (wM cI cB r lim rdy ks hash mac byt hash (lN 0) rs key pad (hini (hend hash (h, blk, n)).1) ((hend hash (h, blk, n)).2.1) u sin rt (finD1 hash (h, blk, n) dg) res) := hD
      refine lv_iconst (pc := 29) (v := (nI 0)) hx hb d_M_finish_29 (by decide) ?_
      refine lv_istore_n (pc := 30) (lv' := [(1, .int (nI 0)), (0, .ref (r 0))]) hx hb d_M_finish_30 rfl hl (by decide) rfl (fun ls hl => ?_)
      refine lp (α := Nat × (Nat → Int32)) (fun x => 64 - x.1) (fun x H1 locs1 g => ∃ ls, g = F0 m 31 ls [] ∧ lv_has ls 2 [(0, .ref (r 0)), (1, .int (nI x.1))] ∧ va_P (dC, dI) classes (wM cI cB r lim rdy ks hash mac byt hash (lN ((hputs hash (fun zz => pad zz ^^^ nI 92) (hini (hend hash (h, blk, n)).1, (hend hash (h, blk, n)).2.1, 0) x.1).2.2)) rs key pad ((hputs hash (fun zz => pad zz ^^^ nI 92) (hini (hend hash (h, blk, n)).1, (hend hash (h, blk, n)).2.1, 0) x.1).1) ((hputs hash (fun zz => pad zz ^^^ nI 92) (hini (hend hash (h, blk, n)).1, (hend hash (h, blk, n)).2.1, 0) x.1).2.1) x.2 sin rt (finD1 hash (h, blk, n) dg) res) H1 ∧ va_D A (wM cI cB r lim rdy ks hash mac byt hash (lN ((hputs hash (fun zz => pad zz ^^^ nI 92) (hini (hend hash (h, blk, n)).1, (hend hash (h, blk, n)).2.1, 0) x.1).2.2)) rs key pad ((hputs hash (fun zz => pad zz ^^^ nI 92) (hini (hend hash (h, blk, n)).1, (hend hash (h, blk, n)).2.1, 0) x.1).1) ((hputs hash (fun zz => pad zz ^^^ nI 92) (hini (hend hash (h, blk, n)).1, (hend hash (h, blk, n)).2.1, 0) x.1).2.1) x.2 sin rt (finD1 hash (h, blk, n) dg) res) ∧ va_S A s.heap H1 locs1 ∧ (x.1 ≤ 64)) ?_ (0, u) ⟨ls, rfl, lv_sub hl [1, 0] rfl, hP, hD, hS, (show 0 ≤ 64 from Nat.zero_le _)⟩
      rintro ⟨k, wd⟩ H locs g ih ⟨ls, rfl, hl, hP, hD, hS, hk⟩
      have hl : lv_has ls 2 [(0, .ref (r 0)), (1, .int (nI k))] := hl
      have hP : va_P (dC, dI) classes (wM cI cB r lim rdy ks hash mac byt hash (lN ((hputs hash (fun zz => pad zz ^^^ nI 92) (hini (hend hash (h, blk, n)).1, (hend hash (h, blk, n)).2.1, 0) k).2.2)) rs key pad ((hputs hash (fun zz => pad zz ^^^ nI 92) (hini (hend hash (h, blk, n)).1, (hend hash (h, blk, n)).2.1, 0) k).1) ((hputs hash (fun zz => pad zz ^^^ nI 92) (hini (hend hash (h, blk, n)).1, (hend hash (h, blk, n)).2.1, 0) k).2.1) wd sin rt (finD1 hash (h, blk, n) dg) res) H := hP
      have hD : va_D A (wM cI cB r lim rdy ks hash mac byt hash (lN ((hputs hash (fun zz => pad zz ^^^ nI 92) (hini (hend hash (h, blk, n)).1, (hend hash (h, blk, n)).2.1, 0) k).2.2)) rs key pad ((hputs hash (fun zz => pad zz ^^^ nI 92) (hini (hend hash (h, blk, n)).1, (hend hash (h, blk, n)).2.1, 0) k).1) ((hputs hash (fun zz => pad zz ^^^ nI 92) (hini (hend hash (h, blk, n)).1, (hend hash (h, blk, n)).2.1, 0) k).2.1) wd sin rt (finD1 hash (h, blk, n) dg) res) := hD
      have hk : k ≤ 64 := hk
      have hkn : (hputs hash (fun zz => pad zz ^^^ nI 92) (hini (hend hash (h, blk, n)).1, (hend hash (h, blk, n)).2.1, 0) k).2.2 = 0 + k := hputs_n _ _ _ _
      refine lv_iload_n (pc := 31) hx hb d_M_finish_31 rfl (lv_at hl 1 rfl) ?_
      refine lv_bipush (pc := 32) (v := (nI 64)) hx hb d_M_finish_32 (by decide) ?_
      refine xi_ge (pc := 34) (tgt := 56) hx hb d_M_finish_34 (by decide) (by omega) (by omega) (fun c2 => ?_) (fun c2 => ?_)
      · have hs2 : k = 64 := by omega
        subst hs2
        have hk2n : (finH2 hash pad (h, blk, n)).2.2 = 0 + 64 := hputs_n _ _ _ _
        refine lv_iconst (pc := 56) (v := (nI 0)) hx hb d_M_finish_56 (by decide) ?_
        refine lv_istore_n (pc := 57) (lv' := [(1, .int (nI 0)), (0, .ref (r 0))]) hx hb d_M_finish_57 rfl hl (by decide) rfl (fun ls hl => ?_)
        refine lp (α := Nat × (Nat → Int32)) (fun x => 20 - x.1) (fun x H1 locs1 g => ∃ ls, g = F0 m 58 ls [] ∧ lv_has ls 2 [(0, .ref (r 0)), (1, .int (nI x.1))] ∧ va_P (dC, dI) classes (wM cI cB r lim rdy ks hash mac byt hash (lN ((hputs hash (finD1 hash (h, blk, n) dg) (finH2 hash pad (h, blk, n)) x.1).2.2)) rs key pad ((hputs hash (finD1 hash (h, blk, n) dg) (finH2 hash pad (h, blk, n)) x.1).1) ((hputs hash (finD1 hash (h, blk, n) dg) (finH2 hash pad (h, blk, n)) x.1).2.1) x.2 sin rt (finD1 hash (h, blk, n) dg) res) H1 ∧ va_D A (wM cI cB r lim rdy ks hash mac byt hash (lN ((hputs hash (finD1 hash (h, blk, n) dg) (finH2 hash pad (h, blk, n)) x.1).2.2)) rs key pad ((hputs hash (finD1 hash (h, blk, n) dg) (finH2 hash pad (h, blk, n)) x.1).1) ((hputs hash (finD1 hash (h, blk, n) dg) (finH2 hash pad (h, blk, n)) x.1).2.1) x.2 sin rt (finD1 hash (h, blk, n) dg) res) ∧ va_S A s.heap H1 locs1 ∧ (x.1 ≤ hlen hash)) ?_ (0, wd) ⟨ls, rfl, lv_sub hl [1, 0] rfl, hP, hD, hS, (show 0 ≤ hlen hash from Nat.zero_le _)⟩
        rintro ⟨k, wd⟩ H locs g ih2 ⟨ls, rfl, hl, hP, hD, hS, hk⟩
        have hl : lv_has ls 2 [(0, .ref (r 0)), (1, .int (nI k))] := hl
        have hP : va_P (dC, dI) classes (wM cI cB r lim rdy ks hash mac byt hash (lN ((hputs hash (finD1 hash (h, blk, n) dg) (finH2 hash pad (h, blk, n)) k).2.2)) rs key pad ((hputs hash (finD1 hash (h, blk, n) dg) (finH2 hash pad (h, blk, n)) k).1) ((hputs hash (finD1 hash (h, blk, n) dg) (finH2 hash pad (h, blk, n)) k).2.1) wd sin rt (finD1 hash (h, blk, n) dg) res) H := hP
        have hD : va_D A (wM cI cB r lim rdy ks hash mac byt hash (lN ((hputs hash (finD1 hash (h, blk, n) dg) (finH2 hash pad (h, blk, n)) k).2.2)) rs key pad ((hputs hash (finD1 hash (h, blk, n) dg) (finH2 hash pad (h, blk, n)) k).1) ((hputs hash (finD1 hash (h, blk, n) dg) (finH2 hash pad (h, blk, n)) k).2.1) wd sin rt (finD1 hash (h, blk, n) dg) res) := hD
        have hk : k ≤ hlen hash := hk
        have hle := hlen_le hash
        have hkn : (hputs hash (finD1 hash (h, blk, n) dg) (finH2 hash pad (h, blk, n)) k).2.2 = 0 + 64 + k := (hputs_n _ _ _ _).trans (by rw [hk2n])
        refine lv_iload_n (pc := 58) hx hb d_M_finish_58 rfl (lv_at hl 1 rfl) ?_
        refine lv_aload_n (pc := 59) hx hb d_M_finish_59 rfl (lv_at hl 0 rfl) ?_
        refine kiG (pc := 60) (As := []) (rest := [.int (nI k)]) (wr := []) (ci := 1) ⟨hx, hb, hml, hown, hts⟩ (c_M_width l dC dI cI cB r H.size lim rdy ks hash mac hash rs byt (lN ((hputs hash (finD1 hash (h, blk, n) dg) (finH2 hash pad (h, blk, n)) k).2.2)) key pad ((hputs hash (finD1 hash (h, blk, n) dg) (finH2 hash pad (h, blk, n)) k).1) ((hputs hash (finD1 hash (h, blk, n) dg) (finH2 hash pad (h, blk, n)) k).2.1) wd sin rt (finD1 hash (h, blk, n) dg) res) (cwV 0 hts g_M_112 rfl rfl rfl hd_M_width ⟨by decide, by decide⟩) hK hP hD hS hA hST [0, 1, 2, 3, 4, 5, 6, 7, 8, 9] [] rfl rfl (by decide) (by decide) (by decide) rfl rfl rfl hl.1 rfl (Nat.le_of_ble_eq_true rfl) d_M_finish_60 ⟨by decide, by decide⟩ (fun rr u H locs hw2 hP hD hS => ?_)
        have hP : va_P (dC, dI) classes (wM cI cB r lim rdy ks hash mac byt hash (lN ((hputs hash (finD1 hash (h, blk, n) dg) (finH2 hash pad (h, blk, n)) k).2.2)) rs key pad ((hputs hash (finD1 hash (h, blk, n) dg) (finH2 hash pad (h, blk, n)) k).1) ((hputs hash (finD1 hash (h, blk, n) dg) (finH2 hash pad (h, blk, n)) k).2.1) wd sin rt (finD1 hash (h, blk, n) dg) res) H := hP
        have hD : va_D A (wM cI cB r lim rdy ks hash mac byt hash (lN ((hputs hash (finD1 hash (h, blk, n) dg) (finH2 hash pad (h, blk, n)) k).2.2)) rs key pad ((hputs hash (finD1 hash (h, blk, n) dg) (finH2 hash pad (h, blk, n)) k).1) ((hputs hash (finD1 hash (h, blk, n) dg) (finH2 hash pad (h, blk, n)) k).2.1) wd sin rt (finD1 hash (h, blk, n) dg) res) := hD
        subst hw2
        refine xi_ge (pc := 63) (tgt := 82) hx hb d_M_finish_63 (by decide) (by omega) (by omega) (fun c3 => ?_) (fun c3 => ?_)
        · have hs3 : k = hlen hash := by omega
          subst hs3
          have hkn3 : (finH3 hash pad (h, blk, n) dg).2.2 = 0 + 64 + hlen hash := hkn
          refine lv_aload_n (pc := 82) hx hb d_M_finish_82 rfl (lv_at hl 0 rfl) ?_
          refine kvG (pc := 83) (As := []) (rest := []) (wr := []) (ci := 1) ⟨hx, hb, hml, hown, hts⟩ (c_M_end l dC dI cI cB r H.size lim rdy ks hash mac hash rs byt key pad ((finH3 hash pad (h, blk, n) dg).1) ((finH3 hash pad (h, blk, n) dg).2.1) wd sin rt (finD1 hash (h, blk, n) dg) res (finH3 hash pad (h, blk, n) dg).2.2 (by omega) hsin hrt) (cwV 0 hts g_M_139 rfl rfl rfl hd_M_end ⟨by decide, by decide⟩) hK hP hD hS hA hST [0, 1, 2, 3, 4, 5, 6, 7, 8, 9] [] rfl rfl (by decide) (by decide) (by decide) rfl rfl rfl hl.1 rfl (Nat.le_of_ble_eq_true rfl) d_M_finish_83 ⟨by decide, by decide⟩ (fun u7 H locs hw hP hD hS => ?_)
          have hP : va_P (dC, dI) classes (wM cI cB r lim rdy ks hash mac byt hash (lN ((hend hash (finH3 hash pad (h, blk, n) dg)).2.2)) rs key pad ((hend hash (finH3 hash pad (h, blk, n) dg)).1) ((hend hash (finH3 hash pad (h, blk, n) dg)).2.1) u7 sin rt (digU hash (hend hash (finH3 hash pad (h, blk, n) dg)).1 (finD1 hash (h, blk, n) dg) (hlen hash)) res) H := hP
          have hD : va_D A (wM cI cB r lim rdy ks hash mac byt hash (lN ((hend hash (finH3 hash pad (h, blk, n) dg)).2.2)) rs key pad ((hend hash (finH3 hash pad (h, blk, n) dg)).1) ((hend hash (finH3 hash pad (h, blk, n) dg)).2.1) u7 sin rt (digU hash (hend hash (finH3 hash pad (h, blk, n) dg)).1 (finD1 hash (h, blk, n) dg) (hlen hash)) res) := hD
          refine lv_aload_n (pc := 86) hx hb d_M_finish_86 rfl (lv_at hl 0 rfl) ?_
          refine lv_iconst (pc := 87) (v := (nI 0)) hx hb d_M_finish_87 (by decide) ?_
          refine va_put (pc := 88) (D := (dC, dI)) (ci := 1) (v := .int (nI 0)) (ty := .int) (C := R_M) (T := F_M) (N := 18) hx hb hts i_M t_M t_M_ok n_M hown hK hP hD hS 0 rfl rfl 3 (by decide) (hts _ fl_M_120) (fun _ h9 => h9) rfl (by decide +kernel) rfl rfl (Nat.le_of_ble_eq_true rfl) d_M_finish_88 (fun H locs hP hD hS => ?_)
          have hP : va_P (dC, dI) classes (wM cI cB r lim rdy (nI 0) hash mac byt hash (lN ((hend hash (finH3 hash pad (h, blk, n) dg)).2.2)) rs key pad ((hend hash (finH3 hash pad (h, blk, n) dg)).1) ((hend hash (finH3 hash pad (h, blk, n) dg)).2.1) u7 sin rt (digU hash (hend hash (finH3 hash pad (h, blk, n) dg)).1 (finD1 hash (h, blk, n) dg) (hlen hash)) res) H := hP
          have hD : va_D A (wM cI cB r lim rdy (nI 0) hash mac byt hash (lN ((hend hash (finH3 hash pad (h, blk, n) dg)).2.2)) rs key pad ((hend hash (finH3 hash pad (h, blk, n) dg)).1) ((hend hash (finH3 hash pad (h, blk, n) dg)).2.1) u7 sin rt (digU hash (hend hash (finH3 hash pad (h, blk, n) dg)).1 (finD1 hash (h, blk, n) dg) (hlen hash)) res) := hD
          refine lv_aload_n (pc := 91) hx hb d_M_finish_91 rfl (lv_at hl 0 rfl) ?_
          refine lv_aload_n (pc := 92) hx hb d_M_finish_92 rfl (lv_at hl 0 rfl) ?_
          refine kiG (pc := 93) (As := []) (rest := [.ref (r 0)]) (wr := []) (ci := 1) ⟨hx, hb, hml, hown, hts⟩ (c_M_width l dC dI cI cB r H.size lim rdy (nI 0) hash mac hash rs byt (lN ((hend hash (finH3 hash pad (h, blk, n) dg)).2.2)) key pad ((hend hash (finH3 hash pad (h, blk, n) dg)).1) ((hend hash (finH3 hash pad (h, blk, n) dg)).2.1) u7 sin rt (digU hash (hend hash (finH3 hash pad (h, blk, n) dg)).1 (finD1 hash (h, blk, n) dg) (hlen hash)) res) (cwV 0 hts g_M_112 rfl rfl rfl hd_M_width ⟨by decide, by decide⟩) hK hP hD hS hA hST [0, 1, 2, 3, 4, 5, 6, 7, 8, 9] [] rfl rfl (by decide) (by decide) (by decide) rfl rfl rfl hl.1 rfl (Nat.le_of_ble_eq_true rfl) d_M_finish_93 ⟨by decide, by decide⟩ (fun rr u5 H locs hw2 hP hD hS => ?_)
          have hP : va_P (dC, dI) classes (wM cI cB r lim rdy (nI 0) hash mac byt hash (lN ((hend hash (finH3 hash pad (h, blk, n) dg)).2.2)) rs key pad ((hend hash (finH3 hash pad (h, blk, n) dg)).1) ((hend hash (finH3 hash pad (h, blk, n) dg)).2.1) u7 sin rt (digU hash (hend hash (finH3 hash pad (h, blk, n) dg)).1 (finD1 hash (h, blk, n) dg) (hlen hash)) res) H := hP
          have hD : va_D A (wM cI cB r lim rdy (nI 0) hash mac byt hash (lN ((hend hash (finH3 hash pad (h, blk, n) dg)).2.2)) rs key pad ((hend hash (finH3 hash pad (h, blk, n) dg)).1) ((hend hash (finH3 hash pad (h, blk, n) dg)).2.1) u7 sin rt (digU hash (hend hash (finH3 hash pad (h, blk, n) dg)).1 (finD1 hash (h, blk, n) dg) (hlen hash)) res) := hD
          subst hw2
          refine va_put (pc := 96) (D := (dC, dI)) (ci := 1) (v := .int (nI (hlen hash))) (ty := .int) (C := R_M) (T := F_M) (N := 18) hx hb hts i_M t_M t_M_ok n_M hown hK hP hD hS 0 rfl rfl 17 (by decide) (hts _ fl_M_123) (fun _ h9 => h9) rfl (by decide +kernel) rfl rfl (Nat.le_of_ble_eq_true rfl) d_M_finish_96 (fun H locs hP hD hS => ?_)
          have hP : va_P (dC, dI) classes (wM cI cB r lim rdy (nI 0) hash mac byt hash (lN ((hend hash (finH3 hash pad (h, blk, n) dg)).2.2)) (nI (hlen hash)) key pad ((hend hash (finH3 hash pad (h, blk, n) dg)).1) ((hend hash (finH3 hash pad (h, blk, n) dg)).2.1) u7 sin rt (digU hash (hend hash (finH3 hash pad (h, blk, n) dg)).1 (finD1 hash (h, blk, n) dg) (hlen hash)) res) H := hP
          have hD : va_D A (wM cI cB r lim rdy (nI 0) hash mac byt hash (lN ((hend hash (finH3 hash pad (h, blk, n) dg)).2.2)) (nI (hlen hash)) key pad ((hend hash (finH3 hash pad (h, blk, n) dg)).1) ((hend hash (finH3 hash pad (h, blk, n) dg)).2.1) u7 sin rt (digU hash (hend hash (finH3 hash pad (h, blk, n) dg)).1 (finD1 hash (h, blk, n) dg) (hlen hash)) res) := hD
          refine lv_iconst (pc := 99) (v := (nI 0)) hx hb d_M_finish_99 (by decide) ?_
          refine lv_istore_n (pc := 100) (lv' := [(1, .int (nI 0)), (0, .ref (r 0))]) hx hb d_M_finish_100 rfl hl (by decide) rfl (fun ls hl => ?_)
          refine lp (α := Nat × (Nat → Int32)) (fun x => 20 - x.1) (fun x H1 locs1 g => ∃ ls, g = F0 m 101 ls [] ∧ lv_has ls 2 [(0, .ref (r 0)), (1, .int (nI x.1))] ∧ va_P (dC, dI) classes (wM cI cB r lim rdy (nI 0) hash mac byt hash (lN ((hend hash (finH3 hash pad (h, blk, n) dg)).2.2)) (nI (hlen hash)) key pad ((hend hash (finH3 hash pad (h, blk, n) dg)).1) ((hend hash (finH3 hash pad (h, blk, n) dg)).2.1) u7 sin rt (digU hash (hend hash (finH3 hash pad (h, blk, n) dg)).1 (finD1 hash (h, blk, n) dg) (hlen hash)) x.2) H1 ∧ va_D A (wM cI cB r lim rdy (nI 0) hash mac byt hash (lN ((hend hash (finH3 hash pad (h, blk, n) dg)).2.2)) (nI (hlen hash)) key pad ((hend hash (finH3 hash pad (h, blk, n) dg)).1) ((hend hash (finH3 hash pad (h, blk, n) dg)).2.1) u7 sin rt (digU hash (hend hash (finH3 hash pad (h, blk, n) dg)).1 (finD1 hash (h, blk, n) dg) (hlen hash)) x.2) ∧ va_S A s.heap H1 locs1 ∧ (x.1 ≤ hlen hash) ∧ (∀ j, j < x.1 → x.2 j = (digU hash (hend hash (finH3 hash pad (h, blk, n) dg)).1 (finD1 hash (h, blk, n) dg) (hlen hash)) j)) ?_ (0, res) ⟨ls, rfl, lv_sub hl [1, 0] rfl, hP, hD, hS, (show 0 ≤ hlen hash from Nat.zero_le _), (show ∀ j, j < 0 → res j = (digU hash (hend hash (finH3 hash pad (h, blk, n) dg)).1 (finD1 hash (h, blk, n) dg) (hlen hash)) j from fun j h => absurd h (Nat.not_lt_zero _))⟩
          rintro ⟨k, rf⟩ H locs g ihT ⟨ls, rfl, hl, hP, hD, hS, hk, hR⟩
          have hl : lv_has ls 2 [(0, .ref (r 0)), (1, .int (nI k))] := hl
          have hP : va_P (dC, dI) classes (wM cI cB r lim rdy (nI 0) hash mac byt hash (lN ((hend hash (finH3 hash pad (h, blk, n) dg)).2.2)) (nI (hlen hash)) key pad ((hend hash (finH3 hash pad (h, blk, n) dg)).1) ((hend hash (finH3 hash pad (h, blk, n) dg)).2.1) u7 sin rt (digU hash (hend hash (finH3 hash pad (h, blk, n) dg)).1 (finD1 hash (h, blk, n) dg) (hlen hash)) rf) H := hP
          have hD : va_D A (wM cI cB r lim rdy (nI 0) hash mac byt hash (lN ((hend hash (finH3 hash pad (h, blk, n) dg)).2.2)) (nI (hlen hash)) key pad ((hend hash (finH3 hash pad (h, blk, n) dg)).1) ((hend hash (finH3 hash pad (h, blk, n) dg)).2.1) u7 sin rt (digU hash (hend hash (finH3 hash pad (h, blk, n) dg)).1 (finD1 hash (h, blk, n) dg) (hlen hash)) rf) := hD
          have hk : k ≤ hlen hash := hk
          have hR : ∀ j, j < k → rf j = (digU hash (hend hash (finH3 hash pad (h, blk, n) dg)).1 (finD1 hash (h, blk, n) dg) (hlen hash)) j := hR
          have hle := hlen_le hash
          refine lv_iload_n (pc := 101) hx hb d_M_finish_101 rfl (lv_at hl 1 rfl) ?_
          refine lv_aload_n (pc := 102) hx hb d_M_finish_102 rfl (lv_at hl 0 rfl) ?_
          refine va_get (pc := 103) (D := (dC, dI)) (ci := 1) (v := .int (nI (hlen hash))) (C := R_M) (T := F_M) (N := 18) hx hb hts i_M hown hK hP 0 rfl rfl 17 (by decide) (hts _ fl_M_123) (fun _ h9 => h9) rfl d_M_finish_103 ?_
          refine xi_ge (pc := 106) (tgt := 127) hx hb d_M_finish_106 (by decide) (by omega) (by omega) (fun cT => ?_) (fun cT => ?_)
          · have hs4 : k = hlen hash := by omega
            subst hs4
            refine lv_aload_n (pc := 127) hx hb d_M_finish_127 rfl (lv_at hl 0 rfl) ?_
            refine lv_iconst (pc := 128) (v := (-1)) hx hb d_M_finish_128 (by decide) ?_
            refine va_put (pc := 129) (D := (dC, dI)) (ci := 1) (v := .int (-1)) (ty := .int) (C := R_M) (T := F_M) (N := 18) hx hb hts i_M t_M t_M_ok n_M hown hK hP hD hS 0 rfl rfl 4 (by decide) (hts _ fl_M_13) (fun _ h9 => h9) rfl (by decide +kernel) rfl rfl (Nat.le_of_ble_eq_true rfl) d_M_finish_129 (fun H locs hP hD hS => ?_)
            have hP : va_P (dC, dI) classes (wM cI cB r lim rdy (nI 0) (-1) mac byt hash (lN ((hend hash (finH3 hash pad (h, blk, n) dg)).2.2)) (nI (hlen hash)) key pad ((hend hash (finH3 hash pad (h, blk, n) dg)).1) ((hend hash (finH3 hash pad (h, blk, n) dg)).2.1) u7 sin rt (digU hash (hend hash (finH3 hash pad (h, blk, n) dg)).1 (finD1 hash (h, blk, n) dg) (hlen hash)) rf) H := hP
            have hD : va_D A (wM cI cB r lim rdy (nI 0) (-1) mac byt hash (lN ((hend hash (finH3 hash pad (h, blk, n) dg)).2.2)) (nI (hlen hash)) key pad ((hend hash (finH3 hash pad (h, blk, n) dg)).1) ((hend hash (finH3 hash pad (h, blk, n) dg)).2.1) u7 sin rt (digU hash (hend hash (finH3 hash pad (h, blk, n) dg)).1 (finD1 hash (h, blk, n) dg) (hlen hash)) rf) := hD
            refine lv_iconst (pc := 132) (v := (nI 1)) hx hb d_M_finish_132 (by decide) ?_
            exact W.zret (v := (nI 1)) hx hb hr rfl (fun t ht hW => ⟨⟨(nI 1), (nI 0, -1, nI (hlen hash), (hend hash (finH3 hash pad (h, blk, n) dg)).1, (hend hash (finH3 hash pad (h, blk, n) dg)).2.1, u7, (digU hash (hend hash (finH3 hash pad (h, blk, n) dg)).1 (finD1 hash (h, blk, n) dg) (hlen hash)), rf, (hend hash (finH3 hash pad (h, blk, n) dg)).2.2), rfl, Or.inr ⟨rfl, c0, by rw [if_neg c1], rfl, rfl, by rw [fin_1 c1], by rw [fin_1 c1], by rw [finD_1 c1], by rw [finD_1 c1]; exact hR, by rw [fin_1 c1]⟩, by rw [ht]; exact hP, va_K.moved hW.alike hK, hD⟩, hS.F ht⟩) hS.2.2 d_M_finish_133
          · refine lv_aload_n (pc := 109) hx hb d_M_finish_109 rfl (lv_at hl 0 rfl) ?_
            refine va_get (pc := 110) (D := (dC, dI)) (ci := 1) (v := .ref (r 9)) (C := R_M) (T := F_M) (N := 18) hx hb hts i_M hown hK hP 0 rfl rfl 16 (by decide) (hts _ fl_M_38) (fun _ h9 => h9) rfl d_M_finish_110 ?_
            refine lv_iload_n (pc := 113) hx hb d_M_finish_113 rfl (lv_at hl 1 rfl) ?_
            refine lv_aload_n (pc := 114) hx hb d_M_finish_114 rfl (lv_at hl 0 rfl) ?_
            refine va_get (pc := 115) (D := (dC, dI)) (ci := 1) (v := .ref (r 8)) (C := R_M) (T := F_M) (N := 18) hx hb hts i_M hown hK hP 0 rfl rfl 15 (by decide) (hts _ fl_M_35) (fun _ h9 => h9) rfl d_M_finish_115 ?_
            refine lv_iload_n (pc := 118) hx hb d_M_finish_118 rfl (lv_at hl 1 rfl) ?_
            refine xa_iald (pc := 119) hx hb hK hP 8 0 rfl rfl (by omega) (by decide) d_M_finish_119 ?_
            refine xa_iast (pc := 120) (x := ((digU hash (hend hash (finH3 hash pad (h, blk, n) dg)).1 (finD1 hash (h, blk, n) dg) (hlen hash)) k)) hx hb hK hP hD hS 9 0 rfl rfl (by omega) (by decide) d_M_finish_120 (fun H locs hP hD hS => ?_)
            have hP : va_P (dC, dI) classes (wM cI cB r lim rdy (nI 0) hash mac byt hash (lN ((hend hash (finH3 hash pad (h, blk, n) dg)).2.2)) (nI (hlen hash)) key pad ((hend hash (finH3 hash pad (h, blk, n) dg)).1) ((hend hash (finH3 hash pad (h, blk, n) dg)).2.1) u7 sin rt (digU hash (hend hash (finH3 hash pad (h, blk, n) dg)).1 (finD1 hash (h, blk, n) dg) (hlen hash)) (upd rf k ((digU hash (hend hash (finH3 hash pad (h, blk, n) dg)).1 (finD1 hash (h, blk, n) dg) (hlen hash)) k))) H := hP
            have hD : va_D A (wM cI cB r lim rdy (nI 0) hash mac byt hash (lN ((hend hash (finH3 hash pad (h, blk, n) dg)).2.2)) (nI (hlen hash)) key pad ((hend hash (finH3 hash pad (h, blk, n) dg)).1) ((hend hash (finH3 hash pad (h, blk, n) dg)).2.1) u7 sin rt (digU hash (hend hash (finH3 hash pad (h, blk, n) dg)).1 (finD1 hash (h, blk, n) dg) (hlen hash)) (upd rf k ((digU hash (hend hash (finH3 hash pad (h, blk, n) dg)).1 (finD1 hash (h, blk, n) dg) (hlen hash)) k))) := hD
            refine lv_iinc (pc := 121) (v := (nI (k + 1))) (lv' := [(1, .int (nI (k + 1))), (0, .ref (r 0))]) hx hb d_M_finish_121 hl (k := 1) rfl (inc1 _) (by decide) rfl (fun ls hl => ?_)
            refine lv_goto (pc := 124) (tgt := 101) hx hb d_M_finish_124 (by decide) ?_
            exact ihT (k + 1, upd rf k ((digU hash (hend hash (finH3 hash pad (h, blk, n) dg)).1 (finD1 hash (h, blk, n) dg) (hlen hash)) k)) _ _ _ (by show 20 - (k + 1) < 20 - k; omega) ⟨ls, rfl, lv_sub hl [1, 0] rfl, hP, hD, hS, (show (k + 1) ≤ hlen hash from by omega), (show ∀ j, j < (k + 1) → (upd rf k ((digU hash (hend hash (finH3 hash pad (h, blk, n) dg)).1 (finD1 hash (h, blk, n) dg) (hlen hash)) k)) j = (digU hash (hend hash (finH3 hash pad (h, blk, n) dg)).1 (finD1 hash (h, blk, n) dg) (hlen hash)) j from upd_lt hR rfl)⟩
        · refine lv_aload_n (pc := 66) hx hb d_M_finish_66 rfl (lv_at hl 0 rfl) ?_
          refine lv_aload_n (pc := 67) hx hb d_M_finish_67 rfl (lv_at hl 0 rfl) ?_
          refine va_get (pc := 68) (D := (dC, dI)) (ci := 1) (v := .ref (r 8)) (C := R_M) (T := F_M) (N := 18) hx hb hts i_M hown hK hP 0 rfl rfl 15 (by decide) (hts _ fl_M_35) (fun _ h9 => h9) rfl d_M_finish_68 ?_
          refine lv_iload_n (pc := 71) hx hb d_M_finish_71 rfl (lv_at hl 1 rfl) ?_
          refine xa_iald (pc := 72) hx hb hK hP 8 0 rfl rfl (by omega) (by decide) d_M_finish_72 ?_
          refine kvG (pc := 73) (As := [.int ((finD1 hash (h, blk, n) dg) k)]) (rest := []) (wr := []) (ci := 1) ⟨hx, hb, hml, hown, hts⟩ (c_M_add l dC dI cI cB r H.size lim rdy ks hash mac hash rs byt key pad ((hputs hash (finD1 hash (h, blk, n) dg) (finH2 hash pad (h, blk, n)) k).1) ((hputs hash (finD1 hash (h, blk, n) dg) (finH2 hash pad (h, blk, n)) k).2.1) wd sin rt (finD1 hash (h, blk, n) dg) res (hputs hash (finD1 hash (h, blk, n) dg) (finH2 hash pad (h, blk, n)) k).2.2 ((finD1 hash (h, blk, n) dg) k) (by omega) hsin hrt) (cwV 1 hts g_M_104 rfl rfl rfl hd_M_add ⟨by decide, by decide⟩) hK hP hD hS hA hST [0, 1, 2, 3, 4, 5, 6, 7, 8, 9] [] rfl rfl (by decide) (by decide) (by decide) rfl rfl rfl hl.1 rfl (Nat.le_of_ble_eq_true rfl) d_M_finish_73 ⟨by decide, by decide⟩ (fun u H locs hw hP hD hS => ?_)
          obtain ⟨v1, v2⟩ := u
          have hP : va_P (dC, dI) classes (wM cI cB r lim rdy ks hash mac byt hash (lN ((hputs hash (finD1 hash (h, blk, n) dg) (finH2 hash pad (h, blk, n)) k).2.2 + 1)) rs key pad v1 (upd (hputs hash (finD1 hash (h, blk, n) dg) (finH2 hash pad (h, blk, n)) k).2.1 ((hputs hash (finD1 hash (h, blk, n) dg) (finH2 hash pad (h, blk, n)) k).2.2 % 64) ((finD1 hash (h, blk, n) dg) k)) v2 sin rt (finD1 hash (h, blk, n) dg) res) H := hP
          have hD : va_D A (wM cI cB r lim rdy ks hash mac byt hash (lN ((hputs hash (finD1 hash (h, blk, n) dg) (finH2 hash pad (h, blk, n)) k).2.2 + 1)) rs key pad v1 (upd (hputs hash (finD1 hash (h, blk, n) dg) (finH2 hash pad (h, blk, n)) k).2.1 ((hputs hash (finD1 hash (h, blk, n) dg) (finH2 hash pad (h, blk, n)) k).2.2 % 64) ((finD1 hash (h, blk, n) dg) k)) v2 sin rt (finD1 hash (h, blk, n) dg) res) := hD
          dsimp only at hw
          subst hw
          refine lv_iinc (pc := 76) (v := (nI (k + 1))) (lv' := [(1, .int (nI (k + 1))), (0, .ref (r 0))]) hx hb d_M_finish_76 hl (k := 1) rfl (inc1 _) (by decide) rfl (fun ls hl => ?_)
          refine lv_goto (pc := 79) (tgt := 58) hx hb d_M_finish_79 (by decide) ?_
          exact ih2 (k + 1, v2) _ _ _ (by show 20 - (k + 1) < 20 - k; omega) ⟨ls, rfl, lv_sub hl [1, 0] rfl, hP, hD, hS, (show (k + 1) ≤ hlen hash from by omega)⟩
      · refine lv_aload_n (pc := 37) hx hb d_M_finish_37 rfl (lv_at hl 0 rfl) ?_
        refine lv_aload_n (pc := 38) hx hb d_M_finish_38 rfl (lv_at hl 0 rfl) ?_
        refine va_get (pc := 39) (D := (dC, dI)) (ci := 1) (v := .ref (r 2)) (C := R_M) (T := F_M) (N := 18) hx hb hts i_M hown hK hP 0 rfl rfl 7 (by decide) (hts _ fl_M_17) (fun _ h9 => h9) rfl d_M_finish_39 ?_
        refine lv_iload_n (pc := 42) hx hb d_M_finish_42 rfl (lv_at hl 1 rfl) ?_
        refine xa_iald (pc := 43) hx hb hK hP 2 0 rfl rfl (by omega) (by decide) d_M_finish_43 ?_
        refine lv_bipush (pc := 44) (v := (nI 92)) hx hb d_M_finish_44 (by decide) ?_
        refine lv_ixor (pc := 46) hx hb d_M_finish_46 ?_
        refine kvG (pc := 47) (As := [.int ((pad k) ^^^ (nI 92))]) (rest := []) (wr := []) (ci := 1) ⟨hx, hb, hml, hown, hts⟩ (c_M_add l dC dI cI cB r H.size lim rdy ks hash mac hash rs byt key pad ((hputs hash (fun zz => pad zz ^^^ nI 92) (hini (hend hash (h, blk, n)).1, (hend hash (h, blk, n)).2.1, 0) k).1) ((hputs hash (fun zz => pad zz ^^^ nI 92) (hini (hend hash (h, blk, n)).1, (hend hash (h, blk, n)).2.1, 0) k).2.1) wd sin rt (finD1 hash (h, blk, n) dg) res (hputs hash (fun zz => pad zz ^^^ nI 92) (hini (hend hash (h, blk, n)).1, (hend hash (h, blk, n)).2.1, 0) k).2.2 (pad k ^^^ nI 92) (by omega) hsin hrt) (cwV 1 hts g_M_104 rfl rfl rfl hd_M_add ⟨by decide, by decide⟩) hK hP hD hS hA hST [0, 1, 2, 3, 4, 5, 6, 7, 8, 9] [] rfl rfl (by decide) (by decide) (by decide) rfl rfl rfl hl.1 rfl (Nat.le_of_ble_eq_true rfl) d_M_finish_47 ⟨by decide, by decide⟩ (fun u H locs hw hP hD hS => ?_)
        obtain ⟨v1, v2⟩ := u
        have hP : va_P (dC, dI) classes (wM cI cB r lim rdy ks hash mac byt hash (lN ((hputs hash (fun zz => pad zz ^^^ nI 92) (hini (hend hash (h, blk, n)).1, (hend hash (h, blk, n)).2.1, 0) k).2.2 + 1)) rs key pad v1 (upd (hputs hash (fun zz => pad zz ^^^ nI 92) (hini (hend hash (h, blk, n)).1, (hend hash (h, blk, n)).2.1, 0) k).2.1 ((hputs hash (fun zz => pad zz ^^^ nI 92) (hini (hend hash (h, blk, n)).1, (hend hash (h, blk, n)).2.1, 0) k).2.2 % 64) (pad k ^^^ nI 92)) v2 sin rt (finD1 hash (h, blk, n) dg) res) H := hP
        have hD : va_D A (wM cI cB r lim rdy ks hash mac byt hash (lN ((hputs hash (fun zz => pad zz ^^^ nI 92) (hini (hend hash (h, blk, n)).1, (hend hash (h, blk, n)).2.1, 0) k).2.2 + 1)) rs key pad v1 (upd (hputs hash (fun zz => pad zz ^^^ nI 92) (hini (hend hash (h, blk, n)).1, (hend hash (h, blk, n)).2.1, 0) k).2.1 ((hputs hash (fun zz => pad zz ^^^ nI 92) (hini (hend hash (h, blk, n)).1, (hend hash (h, blk, n)).2.1, 0) k).2.2 % 64) (pad k ^^^ nI 92)) v2 sin rt (finD1 hash (h, blk, n) dg) res) := hD
        dsimp only at hw
        subst hw
        refine lv_iinc (pc := 50) (v := (nI (k + 1))) (lv' := [(1, .int (nI (k + 1))), (0, .ref (r 0))]) hx hb d_M_finish_50 hl (k := 1) rfl (inc1 _) (by decide) rfl (fun ls hl => ?_)
        refine lv_goto (pc := 53) (tgt := 31) hx hb d_M_finish_53 (by decide) ?_
        exact ih (k + 1, v2) _ _ _ (by show 64 - (k + 1) < 64 - k; omega) ⟨ls, rfl, lv_sub hl [1, 0] rfl, hP, hD, hS, (show (k + 1) ≤ 64 from by omega)⟩
  · refine lv_iconst (pc := 8) (v := (nI 0)) hx hb d_M_finish_8 (by decide) ?_
    exact W.zret (v := (nI 0)) hx hb hr rfl (fun t ht hW => ⟨⟨(nI 0), (ks, opn, rs, h, blk, w, dg, res, n), rfl, Or.inl ⟨rfl, c0, rfl⟩, by rw [ht]; exact hP, va_K.moved hW.alike hK, hD⟩, hS.F ht⟩) hS.2.2 d_M_finish_9
end
section
-- the sines, in the JVM's doubles
def nz (x : UInt64) : Bool := decide (x &&& 0x7fffffffffffffff ≤ 0x7ff0000000000000)
theorem nz_ok {x : UInt64} (h : nz x = true) : vf_n64 x := by
  show x &&& 0x7fffffffffffffff ≤ 0x7ff0000000000000
  exact of_decide_eq_true h
def cTURN : UInt64 := 4618760256179416344
def cREST : UInt64 := 4373459396149402631
def cHALF : UInt64 := 4602678819172646912
def cT32 : UInt64 := 4751297606875873280
def snT (n : Nat) : Int32 := FP.d2i (FP.dadd (FP.ddiv (FP.i2d (nI n)) cTURN) cHALF)
def snA (n : Nat) : UInt64 := FP.dsub (FP.i2d (nI n)) (FP.dmul (FP.i2d (snT n)) cTURN)
def snR (n : Nat) : UInt64 := FP.dsub (snA n) (FP.dmul (FP.i2d (snT n)) cREST)
def snP (r p : UInt64) (i : Nat) : UInt64 := FP.dsub FP.dconst0 (FP.ddiv (FP.dmul (FP.dmul p r) r) (FP.i2d (nI ((2 * i + 1 + 1) * (2 * i + 1 + 2)))))
def snS (r : UInt64) : Nat → UInt64 × UInt64
  | 0 => (FP.dconst0, r)
  | i + 1 => (FP.dadd (snS r i).1 (snS r i).2, snP r (snS r i).2 i)
def snOK (r : UInt64) (q : UInt64 × UInt64) (i : Nat) : Bool := nz (FP.dadd q.1 q.2) && nz (FP.dmul q.2 r) && nz (FP.dmul (FP.dmul q.2 r) r) && nz (FP.ddiv (FP.dmul (FP.dmul q.2 r) r) (FP.i2d (nI ((2 * i + 1 + 1) * (2 * i + 1 + 2))))) && nz (snP r q.2 i)
def sineV (n : Nat) : UInt64 := (snS (snR n) 20).1
def szV (v : UInt64) : UInt64 := if 0 ≤ Op.cmpValue (FP.dcmp v FP.dconst0) .g then v else FP.dsub FP.dconst0 v
def snPre (n : Nat) : Bool := nz (FP.ddiv (FP.i2d (nI n)) cTURN) && nz (FP.dadd (FP.ddiv (FP.i2d (nI n)) cTURN) cHALF) && nz (FP.dmul (FP.i2d (snT n)) cTURN) && nz (snA n) && nz (FP.dmul (FP.i2d (snT n)) cREST) && nz (snR n)
def snAll (n : Nat) : Bool := (List.range 20).all (fun i => snOK (snR n) (snS (snR n) i) i)
def snFin (n : Nat) : Bool := nz (FP.dsub FP.dconst0 (sineV n)) && nz (FP.dmul (szV (sineV n)) cT32) && decide ((FP.d2l (FP.dmul (szV (sineV n)) cT32)).toInt32 = sinesT (n - 1))
theorem snPre_ok : ∀ n, n < 65 → snPre n = true := by decide +kernel
theorem snFin_0 : ∀ n, n < 16 → snAll (n + 1) = true ∧ snFin (n + 1) = true := by decide +kernel
theorem snFin_1 : ∀ n, n < 16 → snAll (n + 17) = true ∧ snFin (n + 17) = true := by decide +kernel
theorem snFin_2 : ∀ n, n < 16 → snAll (n + 33) = true ∧ snFin (n + 33) = true := by decide +kernel
theorem snFin_3 : ∀ n, n < 16 → snAll (n + 49) = true ∧ snFin (n + 49) = true := by decide +kernel
theorem sn_ok {n : Nat} (h : n < 64) : snAll (n + 1) = true ∧ snFin (n + 1) = true := by
  by_cases h1 : n < 16
  · exact snFin_0 n h1
  · by_cases h2 : n < 32
    · have := snFin_1 (n - 16) (by omega)
      rwa [show n - 16 + 17 = n + 1 by omega] at this
    · by_cases h3 : n < 48
      · have := snFin_2 (n - 32) (by omega)
        rwa [show n - 32 + 33 = n + 1 by omega] at this
      · have := snFin_3 (n - 48) (by omega)
        rwa [show n - 48 + 49 = n + 1 by omega] at this
theorem sn_step {n i : Nat} (h : snAll n = true) (hi : i < 20) : snOK (snR n) (snS (snR n) i) i = true := List.all_eq_true.mp h i (List.mem_range.mpr hi)
theorem and5 {a b c d e : Bool} (h : (a && b && c && d && e) = true) : a = true ∧ b = true ∧ c = true ∧ d = true ∧ e = true := by
  cases a <;> cases b <;> cases c <;> cases d <;> cases e <;> simp_all
theorem and6 {a b c d e f : Bool} (h : (a && b && c && d && e && f) = true) : a = true ∧ b = true ∧ c = true ∧ d = true ∧ e = true ∧ f = true := by
  cases a <;> cases b <;> cases c <;> cases d <;> cases e <;> cases f <;> simp_all
theorem and3 {a b c : Bool} (h : (a && b && c) = true) : a = true ∧ b = true ∧ c = true := by
  cases a <;> cases b <;> cases c <;> simp_all
-- the roots
def rtG (n : Int64) : Int64 := n <<< ((nI 60).toInt64 &&& 63) + (-9223372036854775808)
def rtY (x : Int64) (bit : Nat) : Int64 := x ||| lN 1 <<< ((nI bit).toInt64 &&& 63)
def rtS (g x : Int64) (bit : Nat) : Int64 := if rtY x bit * rtY x bit + (-9223372036854775808) ≤ g then rtY x bit else x
def rtX (g : Int64) : Nat → Int64
  | 0 => lN 0
  | i + 1 => rtS g (rtX g i) (31 - i)
theorem root_ok : ∀ j, j < 4 → (rtX (rtG ([2, 3, 5, 10].getD j 0)) 32).toInt32 = addedT j := by decide +kernel
end
section
theorem bit_dec : ∀ i, i < 32 → nI 31 - nI i + Int32.ofInt (-1) = nI 31 - nI (i + 1) := by decide +kernel
theorem bit_nn : ∀ i, i < 32 → ¬ (nI 31 - nI i < 0) := by decide +kernel
theorem lim_M (x : Int32) (h0 : ¬ x < 0) (h1 : ¬ nI 300 < x) : x = nI (limN x) := by
  rw [limN, if_neg h0, if_neg h1]
  obtain ⟨j, hj, rfl⟩ := nI_of h0
  rw [nI_clamp hj]
end
section
set_option maxHeartbeats 4000000 in
set_option maxRecDepth 100000 in
theorem c_M_size (l : Launch) (v : UInt64) (hne : vf_n64 (FP.dsub FP.dconst0 v)) : Met l y_M_size (k_M_size :: tT) ({ frames := 0, cells := 0, slots := 0, locals := 0 }) (va_Pc [.double v] (fun _ => True)) (vp_Sd (fun rr : UInt64 => rr = szV v)) 0 0 (fun _ => False) := by
  refine Met.ofW (cc := b_M_size) (maxL := 2) (ret := (some .double)) (by decide) rfl ?_
  intro p e s m args below meth c s₁ B hml hv
  obtain ⟨rfl, -⟩ := hv
  have hx := B.exec
  have hb := B.bytes
  have hr := B.returns
  have hts : ∀ w ∈ tT, w.before _ s = true := fun w h => atoms_spec (ws := k_M_size :: tT) B.pre w (List.mem_cons_of_mem _ h)
  have hown : s.vm.findClass "DigestDeskModel" = some m.cls := findClass_of_methodNamed B.named
  have hlocks := B.notSynchronized
  have hl := lv_entry ([.double v]) (n := 2) (Nat.le_of_ble_eq_true rfl)
  rw [lg_entry_eq]
  generalize (lg_sl ([.double v]) ++ List.replicate (2 - (lg_sl ([.double v])).length) Slot.unset).toArray = ls at hl ⊢
  have hl : lv_has ls 2 [(0, .double v)] := hl
  refine lv_dload_n (pc := 0) hx hb d_M_size_0 rfl (lv_at hl 0 rfl) ?_
  refine lv_dconst0 (pc := 1) hx hb d_M_size_1 ?_
  refine lv_dcmp (pc := 2) hx hb d_M_size_2 ?_
  refine lv_if_ge (pc := 3) (tgt := 12) hx hb d_M_size_3 (by decide) (fun c0 => ?_) (fun c0 => ?_)
  · refine lv_dload_n (pc := 12) hx hb d_M_size_12 rfl (lv_at hl 0 rfl) ?_
    exact W.dret (v := v) hx hb hr (fun t ht hW => ⟨v, rfl, by rw [szV, if_pos c0], ht⟩) (fun q h => by cases h) d_M_size_13
  · refine lv_dconst0 (pc := 6) hx hb d_M_size_6 ?_
    refine lv_dload_n (pc := 7) hx hb d_M_size_7 rfl (lv_at hl 0 rfl) ?_
    refine lv_dsub (pc := 8) hx hb d_M_size_8 hne ?_
    refine lv_goto (pc := 9) (tgt := 13) hx hb d_M_size_9 (by decide) ?_
    exact W.dret (v := (FP.dsub FP.dconst0 v)) hx hb hr (fun t ht hW => ⟨(FP.dsub FP.dconst0 v), rfl, by rw [szV, if_neg c0], ht⟩) (fun q h => by cases h) d_M_size_13
set_option maxHeartbeats 4000000 in
set_option maxRecDepth 100000 in
theorem c_M_sine (l : Launch) (n : Nat) (hn : n < 65) (ha : snAll n = true) : Met l y_M_sine (k_M_sine :: tT) ({ frames := 0, cells := 0, slots := 0, locals := 0 }) (va_Pc [.int (nI n)] (fun _ => True)) (vp_Sd (fun rr : UInt64 => rr = sineV n)) 0 0 (fun _ => False) := by
  refine Met.ofW (cc := b_M_sine) (maxL := 9) (ret := (some .double)) (by decide) rfl ?_
  intro p e s m args below meth c s₁ B hml hv
  obtain ⟨rfl, -⟩ := hv
  have hx := B.exec
  have hb := B.bytes
  have hr := B.returns
  have hts : ∀ w ∈ tT, w.before _ s = true := fun w h => atoms_spec (ws := k_M_sine :: tT) B.pre w (List.mem_cons_of_mem _ h)
  have hown : s.vm.findClass "DigestDeskModel" = some m.cls := findClass_of_methodNamed B.named
  have hlocks := B.notSynchronized
  have hl := lv_entry ([.int (nI n)]) (n := 9) (Nat.le_of_ble_eq_true rfl)
  rw [lg_entry_eq]
  generalize (lg_sl ([.int (nI n)]) ++ List.replicate (9 - (lg_sl ([.int (nI n)])).length) Slot.unset).toArray = ls at hl ⊢
  have hl : lv_has ls 9 [(0, .int (nI n))] := hl
  obtain ⟨n1, n2, n3, n4, n5, n6⟩ := and6 (snPre_ok n hn)
  refine lv_iload_n (pc := 0) hx hb d_M_sine_0 rfl (lv_at hl 0 rfl) ?_
  refine lv_i2d (pc := 1) hx hb d_M_sine_1 ?_
  refine lv_ldc2d (pc := 2) hx hb hown (hts _ cn_M_66) d_M_sine_2 ?_
  refine xs_d (y := cTURN) (rfl) ?_
  refine lv_ddiv (pc := 5) hx hb d_M_sine_5 (nz_ok n1) ?_
  refine lv_ldc2d (pc := 6) hx hb hown (hts _ cn_M_68) d_M_sine_6 ?_
  refine xs_d (y := cHALF) (rfl) ?_
  refine lv_dadd (pc := 9) hx hb d_M_sine_9 (nz_ok n2) ?_
  refine lv_d2i (pc := 10) hx hb d_M_sine_10 ?_
  refine xs_i (y := (snT n)) (rfl) ?_
  refine lv_istore_n (pc := 11) (lv' := [(1, .int (snT n)), (0, .int (nI n))]) hx hb d_M_sine_11 rfl hl (by decide) rfl (fun ls hl => ?_)
  refine lv_iload_n (pc := 12) hx hb d_M_sine_12 rfl (lv_at hl 1 rfl) ?_
  refine lv_i2d (pc := 13) hx hb d_M_sine_13 ?_
  refine lv_iload_n (pc := 14) hx hb d_M_sine_14 rfl (lv_at hl 0 rfl) ?_
  refine lv_i2d (pc := 15) hx hb d_M_sine_15 ?_
  refine lv_ldc2d (pc := 16) hx hb hown (hts _ cn_M_66) d_M_sine_16 ?_
  refine xs_d (y := cTURN) (rfl) ?_
  refine lv_dmul (pc := 19) hx hb d_M_sine_19 (nz_ok n3) ?_
  refine lv_dsub (pc := 20) hx hb d_M_sine_20 (nz_ok n4) ?_
  refine xs_d (y := (snA n)) (rfl) ?_
  refine lv_iload_n (pc := 21) hx hb d_M_sine_21 rfl (lv_at hl 0 rfl) ?_
  refine lv_i2d (pc := 22) hx hb d_M_sine_22 ?_
  refine lv_ldc2d (pc := 23) hx hb hown (hts _ cn_M_70) d_M_sine_23 ?_
  refine xs_d (y := cREST) (rfl) ?_
  refine lv_dmul (pc := 26) hx hb d_M_sine_26 (nz_ok n5) ?_
  refine lv_dsub (pc := 27) hx hb d_M_sine_27 (nz_ok n6) ?_
  refine xs_d (y := (snR n)) (rfl) ?_
  refine lv_dstore_n (pc := 28) (lv' := [(2, .double (snR n)), (1, .int (snT n)), (0, .int (nI n))]) hx hb d_M_sine_28 rfl hl (by decide) rfl (fun ls hl => ?_)
  refine lv_dconst0 (pc := 29) hx hb d_M_sine_29 ?_
  refine lv_dstore (pc := 30) (lv' := [(4, .double FP.dconst0), (2, .double (snR n)), (1, .int (snT n)), (0, .int (nI n))]) hx hb d_M_sine_30 hl (by decide) rfl (fun ls hl => ?_)
  refine lv_dload_n (pc := 32) hx hb d_M_sine_32 rfl (lv_at hl 1 rfl) ?_
  refine lv_dstore (pc := 33) (lv' := [(6, .double (snR n)), (4, .double FP.dconst0), (2, .double (snR n)), (1, .int (snT n)), (0, .int (nI n))]) hx hb d_M_sine_33 hl (by decide) rfl (fun ls hl => ?_)
  refine lv_iconst (pc := 35) (v := (nI 1)) hx hb d_M_sine_35 (by decide) ?_
  refine lv_istore (pc := 36) (lv' := [(8, .int (nI 1)), (6, .double (snR n)), (4, .double FP.dconst0), (2, .double (snR n)), (1, .int (snT n)), (0, .int (nI n))]) hx hb d_M_sine_36 hl (by decide) rfl (fun ls hl => ?_)
  refine lp (α := Nat) (fun xv => 20 - xv) (fun xv H1 locs1 g => ∃ ls, g = F0 m 38 ls [] ∧ lv_has ls 9 [(2, .double (snR n)), (4, .double ((snS (snR n) xv).1)), (6, .double ((snS (snR n) xv).2)), (8, .int (nI (2 * xv + 1)))] ∧ H1 = s.heap ∧ locs1 = [] ∧ (xv ≤ 20)) ?_ (0) ⟨ls, rfl, lv_sub hl [3, 2, 1, 0] rfl, rfl, rfl, (show 0 ≤ 20 from by omega)⟩
  rintro i H1 locs1 g ih ⟨ls, rfl, hl, rfl, rfl, hi⟩
  have hl : lv_has ls 9 [(2, .double (snR n)), (4, .double ((snS (snR n) i).1)), (6, .double ((snS (snR n) i).2)), (8, .int (nI (2 * i + 1)))] := hl
  have hi : i ≤ 20 := hi
  refine lv_iload (pc := 38) hx hb d_M_sine_38 (lv_at hl 3 rfl) ?_
  refine lv_bipush (pc := 40) (v := (nI 40)) hx hb d_M_sine_40 (by decide) ?_
  refine xi_ge (pc := 42) (tgt := 79) hx hb d_M_sine_42 (by decide) (by omega) (by omega) (fun c0 => ?_) (fun c0 => ?_)
  · have hs1 : i = 20 := by omega
    subst hs1
    refine lv_dload (pc := 79) hx hb d_M_sine_79 (lv_at hl 1 rfl) ?_
    exact W.dret (v := ((snS (snR n) 20).1)) hx hb hr (fun t ht hW => ⟨((snS (snR n) 20).1), rfl, rfl, ht⟩) (fun q h => by cases h) d_M_sine_81
  · obtain ⟨m1, m2, m3, m4, m5⟩ := and5 (sn_step ha (show i < 20 by omega))
    refine lv_dload (pc := 45) hx hb d_M_sine_45 (lv_at hl 1 rfl) ?_
    refine lv_dload (pc := 47) hx hb d_M_sine_47 (lv_at hl 2 rfl) ?_
    refine lv_dadd (pc := 49) hx hb d_M_sine_49 (nz_ok m1) ?_
    refine lv_dstore (pc := 50) (lv' := [(4, .double (FP.dadd ((snS (snR n) i).1) ((snS (snR n) i).2))), (2, .double (snR n)), (6, .double ((snS (snR n) i).2)), (8, .int (nI (2 * i + 1)))]) hx hb d_M_sine_50 hl (by decide) rfl (fun ls hl => ?_)
    refine lv_dconst0 (pc := 52) hx hb d_M_sine_52 ?_
    refine lv_dload (pc := 53) hx hb d_M_sine_53 (lv_at hl 2 rfl) ?_
    refine lv_dload_n (pc := 55) hx hb d_M_sine_55 rfl (lv_at hl 1 rfl) ?_
    refine lv_dmul (pc := 56) hx hb d_M_sine_56 (nz_ok m2) ?_
    refine lv_dload_n (pc := 57) hx hb d_M_sine_57 rfl (lv_at hl 1 rfl) ?_
    refine lv_dmul (pc := 58) hx hb d_M_sine_58 (nz_ok m3) ?_
    refine lv_iload (pc := 59) hx hb d_M_sine_59 (lv_at hl 3 rfl) ?_
    refine lv_iconst (pc := 61) (v := (nI 1)) hx hb d_M_sine_61 (by decide) ?_
    refine xi_add (pc := 62) hx hb d_M_sine_62 ?_
    refine lv_iload (pc := 63) hx hb d_M_sine_63 (lv_at hl 3 rfl) ?_
    refine lv_iconst (pc := 65) (v := (nI 2)) hx hb d_M_sine_65 (by decide) ?_
    refine xi_add (pc := 66) hx hb d_M_sine_66 ?_
    refine xi_mul (pc := 67) hx hb d_M_sine_67 ?_
    refine lv_i2d (pc := 68) hx hb d_M_sine_68 ?_
    refine lv_ddiv (pc := 69) hx hb d_M_sine_69 (nz_ok m4) ?_
    refine lv_dsub (pc := 70) hx hb d_M_sine_70 (nz_ok m5) ?_
    refine lv_dstore (pc := 71) (lv' := [(6, .double (FP.dsub FP.dconst0 (FP.ddiv (FP.dmul (FP.dmul ((snS (snR n) i).2) (snR n)) (snR n)) (FP.i2d (nI (((2 * i + 1) + 1) * ((2 * i + 1) + 2))))))), (4, .double (FP.dadd ((snS (snR n) i).1) ((snS (snR n) i).2))), (2, .double (snR n)), (8, .int (nI (2 * i + 1)))]) hx hb d_M_sine_71 hl (by decide) rfl (fun ls hl => ?_)
    refine lv_iinc (pc := 73) (v := (nI ((2 * i + 1) + 2))) (lv' := [(8, .int (nI ((2 * i + 1) + 2))), (6, .double (FP.dsub FP.dconst0 (FP.ddiv (FP.dmul (FP.dmul ((snS (snR n) i).2) (snR n)) (snR n)) (FP.i2d (nI (((2 * i + 1) + 1) * ((2 * i + 1) + 2))))))), (4, .double (FP.dadd ((snS (snR n) i).1) ((snS (snR n) i).2))), (2, .double (snR n))]) hx hb d_M_sine_73 hl (k := 3) rfl (inc2 _) (by decide) rfl (fun ls hl => ?_)
    refine lv_goto (pc := 76) (tgt := 38) hx hb d_M_sine_76 (by decide) ?_
    exact ih (i + 1) _ _ _ (by show 20 - (i + 1) < 20 - i; omega) ⟨ls, rfl, lv_sub hl [3, 2, 1, 0] rfl, rfl, rfl, (show (i + 1) ≤ 20 from by omega)⟩
set_option maxHeartbeats 4000000 in
set_option maxRecDepth 100000 in
theorem c_M_root (l : Launch) (n : Int64)  : Met l y_M_root (k_M_root :: tT) ({ frames := 0, cells := 0, slots := 0, locals := 0 }) (va_Pc [.long n] (fun _ => True)) (vp_Si (fun rr : Int32 => rr = (rtX (rtG n) 32).toInt32)) 0 0 (fun _ => False) := by
  refine Met.ofW (cc := b_M_root) (maxL := 9) (ret := (some .int)) (by decide) rfl ?_
  intro p e s m args below meth c s₁ B hml hv
  obtain ⟨rfl, -⟩ := hv
  have hx := B.exec
  have hb := B.bytes
  have hr := B.returns
  have hts : ∀ w ∈ tT, w.before _ s = true := fun w h => atoms_spec (ws := k_M_root :: tT) B.pre w (List.mem_cons_of_mem _ h)
  have hown : s.vm.findClass "DigestDeskModel" = some m.cls := findClass_of_methodNamed B.named
  have hlocks := B.notSynchronized
  have hl := lv_entry ([.long n]) (n := 9) (Nat.le_of_ble_eq_true rfl)
  rw [lg_entry_eq]
  generalize (lg_sl ([.long n]) ++ List.replicate (9 - (lg_sl ([.long n])).length) Slot.unset).toArray = ls at hl ⊢
  have hl : lv_has ls 9 [(0, .long n)] := hl
  refine lv_lload_n (pc := 0) hx hb d_M_root_0 rfl (lv_at hl 0 rfl) ?_
  refine lv_bipush (pc := 1) (v := (nI 60)) hx hb d_M_root_1 (by decide) ?_
  refine lv_lshl (pc := 3) (v := n <<< ((nI 60).toInt64 &&& 63)) hx hb d_M_root_3 rfl ?_
  refine lv_ldc2 (pc := 4) hx hb hown (hts _ cn_M_72) d_M_root_4 ?_
  refine lv_ladd (pc := 7) hx hb d_M_root_7 ?_
  refine xs_l (y := (rtG n)) (rfl) ?_
  refine lv_lstore_n (pc := 8) (lv' := [(2, .long (rtG n)), (0, .long n)]) hx hb d_M_root_8 rfl hl (by decide) rfl (fun ls hl => ?_)
  refine lv_lconst (pc := 9) (v := (lN 0)) hx hb d_M_root_9 rfl ?_
  refine lv_lstore (pc := 10) (lv' := [(4, .long (lN 0)), (2, .long (rtG n)), (0, .long n)]) hx hb d_M_root_10 hl (by decide) rfl (fun ls hl => ?_)
  refine lv_bipush (pc := 12) (v := (nI 31)) hx hb d_M_root_12 (by decide) ?_
  refine lv_istore (pc := 14) (lv' := [(6, .int (nI 31)), (4, .long (lN 0)), (2, .long (rtG n)), (0, .long n)]) hx hb d_M_root_14 hl (by decide) rfl (fun ls hl => ?_)
  have hl := lv_sub hl [2, 1, 0] (l' := [(2, .long (rtG n)), (4, .long (rtX (rtG n) 0)), (6, .int (nI 31 - nI 0))]) rfl
  refine lp (α := Nat) (fun xv => 32 - xv) (fun xv H1 locs1 g => ∃ ls, g = F0 m 16 ls [] ∧ lv_has ls 9 [(2, .long (rtG n)), (4, .long (rtX (rtG n) xv)), (6, .int (nI 31 - nI xv))] ∧ H1 = s.heap ∧ locs1 = [] ∧ (xv ≤ 32)) ?_ (0) ⟨ls, rfl, lv_sub hl [0, 1, 2] rfl, rfl, rfl, (show 0 ≤ 32 from by omega)⟩
  rintro i H1 locs1 g ih ⟨ls, rfl, hl, rfl, rfl, hi⟩
  have hl : lv_has ls 9 [(2, .long (rtG n)), (4, .long (rtX (rtG n) i)), (6, .int (nI 31 - nI i))] := hl
  have hi : i ≤ 32 := hi
  refine lv_iload (pc := 16) hx hb d_M_root_16 (lv_at hl 2 rfl) ?_
  refine lv_if_lt (pc := 18) (tgt := 59) hx hb d_M_root_18 (by decide) (fun c0 => ?_) (fun c0 => ?_)
  · have hs2 : i = 32 := by
        by_cases z : i < 32
        · exact absurd c0 (bit_nn i z)
        · omega
    subst hs2
    refine lv_lload (pc := 59) hx hb d_M_root_59 (lv_at hl 1 rfl) ?_
    refine lv_l2i (pc := 61) (v := (rtX (rtG n) 32).toInt32) hx hb d_M_root_61 rfl ?_
    exact W.iret (v := ((rtX (rtG n) 32).toInt32)) hx hb hr (fun t ht hW => ⟨((rtX (rtG n) 32).toInt32), rfl, rfl, ht⟩) (fun q h => by cases h) d_M_root_62
  · have hi2 : i < 32 := by
      by_cases z : i < 32
      · exact z
      · exact absurd (by rw [show i = 32 by omega]; decide) c0
    refine lv_lload (pc := 21) hx hb d_M_root_21 (lv_at hl 1 rfl) ?_
    refine lv_lconst (pc := 23) (v := (lN 1)) hx hb d_M_root_23 rfl ?_
    refine lv_iload (pc := 24) hx hb d_M_root_24 (lv_at hl 2 rfl) ?_
    refine xs_i (y := (nI (31 - i))) (pk_sub (by omega)) ?_
    refine lv_lshl (pc := 26) (v := (lN 1) <<< ((nI (31 - i)).toInt64 &&& 63)) hx hb d_M_root_26 rfl ?_
    refine lv_lor (pc := 27) hx hb d_M_root_27 ?_
    refine xs_l (y := (rtY (rtX (rtG n) i) (31 - i))) (rfl) ?_
    refine lv_lstore (pc := 28) (lv' := [(7, .long (rtY (rtX (rtG n) i) (31 - i))), (2, .long (rtG n)), (4, .long (rtX (rtG n) i)), (6, .int (nI 31 - nI i))]) hx hb d_M_root_28 hl (by decide) rfl (fun ls hl => ?_)
    refine lv_lload (pc := 30) hx hb d_M_root_30 (lv_at hl 0 rfl) ?_
    refine lv_lload (pc := 32) hx hb d_M_root_32 (lv_at hl 0 rfl) ?_
    refine lv_lmul (pc := 34) hx hb d_M_root_34 ?_
    refine lv_ldc2 (pc := 35) hx hb hown (hts _ cn_M_72) d_M_root_35 ?_
    refine lv_ladd (pc := 38) hx hb d_M_root_38 ?_
    refine lv_lload_n (pc := 39) hx hb d_M_root_39 rfl (lv_at hl 1 rfl) ?_
    refine W.lcmp (pc := 40) hx hb d_M_root_40 ?_
    refine lv_if_gt (pc := 41) (tgt := 49) hx hb d_M_root_41 (by decide) (fun c1 => ?_) (fun c1 => ?_)
    · refine lv_lload (pc := 49) hx hb d_M_root_49 (lv_at hl 2 rfl) ?_
      refine xs_l (y := (rtX (rtG n) (i + 1))) ((by show rtS (rtG n) _ (31 - i) = _; rw [rtS, if_neg (fun z => absurd ((lg_cmp_gt _ _).mp c1) (Int64.not_lt.mpr z))] : (rtX (rtG n) (i + 1)) = (rtX (rtG n) i)).symm) ?_
      refine lv_lstore (pc := 51) (lv' := [(4, .long (rtX (rtG n) (i + 1))), (7, .long (rtY (rtX (rtG n) i) (31 - i))), (2, .long (rtG n)), (6, .int (nI 31 - nI i))]) hx hb d_M_root_51 hl (by decide) rfl (fun ls hl => ?_)
      refine lv_iinc (pc := 53) (v := (nI 31 - nI (i + 1))) (lv' := [(6, .int (nI 31 - nI (i + 1))), (4, .long (rtX (rtG n) (i + 1))), (7, .long (rtY (rtX (rtG n) i) (31 - i))), (2, .long (rtG n))]) hx hb d_M_root_53 hl (k := 3) rfl (bit_dec i hi2) (by decide) rfl (fun ls hl => ?_)
      refine lv_goto (pc := 56) (tgt := 16) hx hb d_M_root_56 (by decide) ?_
      exact ih (i + 1) _ _ _ (by show 32 - (i + 1) < 32 - i; omega) ⟨ls, rfl, lv_sub hl [3, 1, 0] rfl, rfl, rfl, (show (i + 1) ≤ 32 from by omega)⟩
    · refine lv_lload (pc := 44) hx hb d_M_root_44 (lv_at hl 0 rfl) ?_
      refine lv_goto (pc := 46) (tgt := 51) hx hb d_M_root_46 (by decide) ?_
      refine xs_l (y := (rtX (rtG n) (i + 1))) ((by show rtS (rtG n) _ (31 - i) = _; rw [rtS, if_pos (Int64.not_lt.mp (fun z => c1 ((lg_cmp_gt _ _).mpr z)))] : (rtX (rtG n) (i + 1)) = (rtY (rtX (rtG n) i) (31 - i))).symm) ?_
      refine lv_lstore (pc := 51) (lv' := [(4, .long (rtX (rtG n) (i + 1))), (7, .long (rtY (rtX (rtG n) i) (31 - i))), (2, .long (rtG n)), (6, .int (nI 31 - nI i))]) hx hb d_M_root_51 hl (by decide) rfl (fun ls hl => ?_)
      refine lv_iinc (pc := 53) (v := (nI 31 - nI (i + 1))) (lv' := [(6, .int (nI 31 - nI (i + 1))), (4, .long (rtX (rtG n) (i + 1))), (7, .long (rtY (rtX (rtG n) i) (31 - i))), (2, .long (rtG n))]) hx hb d_M_root_53 hl (k := 3) rfl (bit_dec i hi2) (by decide) rfl (fun ls hl => ?_)
      refine lv_goto (pc := 56) (tgt := 16) hx hb d_M_root_56 (by decide) ?_
      exact ih (i + 1) _ _ _ (by show 32 - (i + 1) < 32 - i; omega) ⟨ls, rfl, lv_sub hl [3, 1, 0] rfl, rfl, rfl, (show (i + 1) ≤ 32 from by omega)⟩
theorem rt_ok : ∀ j, j < 4 → (upd (upd (upd (upd Z0 0 (addedT 0)) 1 (addedT 1)) 2 (addedT 2)) 3 (addedT 3)) j = addedT j := by decide +kernel
set_option maxHeartbeats 4000000 in
set_option maxRecDepth 100000 in
theorem c_M_new (l : Launch) (dC : Nat → ClassId) (dI : Nat → Nat → Nat) (cI cB : ClassId) (h0 sz : Nat) (x : Int32) : Met l y_M_new (k_M_new :: tT) ({ frames := 1, cells := 9, slots := 621, locals := 28 }) (va_Pc [.ref h0, .int x] (fun U => U.heap.size = sz ∧ va_P (dC, dI) classes (w0M h0) U.heap ∧ va_K (dC, dI) classes (tyD cI cB) U ∧ va_D (fun _ => True) (w0M h0))) (va_Qv (fun u : (Nat → Nat) × (Nat → Int32) × (Nat → Int32) => u.1 0 = h0 ∧ (∀ j, j < 64 → u.2.1 j = sinesT j) ∧ (∀ j, j < 4 → u.2.2 j = addedT j)) (fun u t => qD (dC, dI) cI cB (va_A (w0M h0) sz) (wM cI cB u.1 (nI (limN x)) (nI 0) (nI 0) (-1) (nI 0) (lN 0) (nI 0) (lN 0) (nI 0) Z0 Z0 Z0 Z0 Z0 u.2.1 u.2.2 Z0 Z0) t) (va_A (w0M h0) sz)) 9 621 (va_A (w0M h0) sz) := by
  refine Met.ofW (cc := b_M_new) (maxL := 3) (ret := none) (by decide) rfl ?_
  intro p e s m args below meth c s₁ B hml hv
  obtain ⟨rfl, hsz, hP, hK, hD0⟩ := hv
  have hx := B.exec
  have hb := B.bytes
  have hr := B.returns
  have hts : ∀ w ∈ tT, w.before _ s = true := fun w h => atoms_spec (ws := k_M_new :: tT) B.pre w (List.mem_cons_of_mem _ h)
  have hown : s.vm.findClass R_M = some m.cls := findClass_of_methodNamed B.named
  have hlocks := B.notSynchronized
  have hin : meth.name = "<init>" := (name_of_methodNamed B.named B.method).1
  subst hsz
  have hD := hD0.self (sz := s.heap.size)
  generalize hAe : va_A (w0M h0) s.heap.size = A at hD ⊢
  have hA : ∀ q : Nat, s.heap.size ≤ q → A q := fun q h => by rw [← hAe]; exact Or.inr h
  have hS : va_S A s.heap s.heap [] := va_S.rf
  have hl := lv_entry ([.ref h0, .int x]) (n := 3) (Nat.le_of_ble_eq_true rfl)
  rw [lg_entry_eq]
  generalize (lg_sl ([.ref h0, .int x]) ++ List.replicate (3 - (lg_sl ([.ref h0, .int x])).length) Slot.unset).toArray = ls at hl ⊢
  have hl : lv_has ls 3 [(0, .ref h0), (1, .int x)] := hl
  refine lv_aload_n (pc := 0) hx hb d_M_new_0 rfl (lv_at hl 0 rfl) ?_
  refine W.objInit hx hb hown (hts _ ml_M_1) (hts _ im_O_new) (hts _ cd_O_new) rfl (by rw [hml]; exact hl.1) rfl d_M_new_1 (by decide) (Nat.le_of_ble_eq_true rfl) ?_
  refine W.eq (g2 := F0 m 4 ls []) rfl ?_
  refine lv_aload_n (pc := 4) hx hb d_M_new_4 rfl (lv_at hl 0 rfl) ?_
  refine lv_sipush (pc := 5) (v := (nI 300)) hx hb d_M_new_5 (by decide) ?_
  refine va_newa (pc := 8) (atype := .int) (ty := .int) (N' := 300) (a0 := (300, .inl Z0)) hx hb (hts _ ac_int) rfl hK hP hD hS hA (fun cA => rfl) (nI_pos (by decide)) (nI_clamp (by decide)) (by decide) (by decide) (by decide) d_M_new_8 (fun qk cA3 H hK hP hD hS => ?_)
  have ecA3 : cI = cA3 := kk_int hK 0 2 rfl rfl
  subst ecA3
  have hK := hK.sub (tys' := tyD cI cB) [0, 1] rfl
  have hP : va_P (dC, dI) classes [(h0, .inr (1, [.int (nI 0), .int (nI 0), .null, .int (nI 0), .int (nI 0), .int (nI 0), .long (lN 0), .null, .int (nI 0), .null, .null, .long (lN 0), .null, .null, .null, .null, .null, .int (nI 0)])), (qk, .inl (cI, 300, .inl Z0))] H := hP
  have hD : va_D A [(h0, .inr (1, [.int (nI 0), .int (nI 0), .null, .int (nI 0), .int (nI 0), .int (nI 0), .long (lN 0), .null, .int (nI 0), .null, .null, .long (lN 0), .null, .null, .null, .null, .null, .int (nI 0)])), (qk, .inl (cI, 300, .inl Z0))] := hD
  refine va_putF (pc := 10) (D := (dC, dI)) (ci := 1) (v := .ref qk) (ty := .array .int) (C := R_M) (T := F_M) (N := 18) hx hb hts i_M t_M t_M_ok n_M hown hK hP hD hS 0 rfl rfl 2 (by decide) (hts _ fl_M_7) (fun _ h9 => h9) rfl hin rfl (by decide +kernel) rfl rfl (Nat.le_of_ble_eq_true rfl) d_M_new_10 (fun H locs hP hD hS => ?_)
  have hP : va_P (dC, dI) classes [(h0, .inr (1, [.int (nI 0), .int (nI 0), .ref qk, .int (nI 0), .int (nI 0), .int (nI 0), .long (lN 0), .null, .int (nI 0), .null, .null, .long (lN 0), .null, .null, .null, .null, .null, .int (nI 0)])), (qk, .inl (cI, 300, .inl Z0))] H := hP
  have hD : va_D A [(h0, .inr (1, [.int (nI 0), .int (nI 0), .ref qk, .int (nI 0), .int (nI 0), .int (nI 0), .long (lN 0), .null, .int (nI 0), .null, .null, .long (lN 0), .null, .null, .null, .null, .null, .int (nI 0)])), (qk, .inl (cI, 300, .inl Z0))] := hD
  refine lv_aload_n (pc := 13) hx hb d_M_new_13 rfl (lv_at hl 0 rfl) ?_
  refine lv_iconst (pc := 14) (v := (-1)) hx hb d_M_new_14 (by decide) ?_
  refine va_put (pc := 15) (D := (dC, dI)) (ci := 1) (v := .int (-1)) (ty := .int) (C := R_M) (T := F_M) (N := 18) hx hb hts i_M t_M t_M_ok n_M hown hK hP hD hS 0 rfl rfl 4 (by decide) (hts _ fl_M_13) (fun _ h9 => h9) rfl (by decide +kernel) rfl rfl (Nat.le_of_ble_eq_true rfl) d_M_new_15 (fun H locs hP hD hS => ?_)
  have hP : va_P (dC, dI) classes [(h0, .inr (1, [.int (nI 0), .int (nI 0), .ref qk, .int (nI 0), .int (-1), .int (nI 0), .long (lN 0), .null, .int (nI 0), .null, .null, .long (lN 0), .null, .null, .null, .null, .null, .int (nI 0)])), (qk, .inl (cI, 300, .inl Z0))] H := hP
  have hD : va_D A [(h0, .inr (1, [.int (nI 0), .int (nI 0), .ref qk, .int (nI 0), .int (-1), .int (nI 0), .long (lN 0), .null, .int (nI 0), .null, .null, .long (lN 0), .null, .null, .null, .null, .null, .int (nI 0)])), (qk, .inl (cI, 300, .inl Z0))] := hD
  refine lv_aload_n (pc := 18) hx hb d_M_new_18 rfl (lv_at hl 0 rfl) ?_
  refine lv_bipush (pc := 19) (v := (nI 64)) hx hb d_M_new_19 (by decide) ?_
  refine va_newa (pc := 21) (atype := .int) (ty := .int) (N' := 64) (a0 := (64, .inl Z0)) hx hb (hts _ ac_int) rfl hK hP hD hS hA (fun cA => rfl) (nI_pos (by decide)) (nI_clamp (by decide)) (by decide) (by decide) (by decide) d_M_new_21 (fun qp cA4 H hK hP hD hS => ?_)
  have ecA4 : cI = cA4 := kk_int hK 0 2 rfl rfl
  subst ecA4
  have hK := hK.sub (tys' := tyD cI cB) [0, 1] rfl
  have hP : va_P (dC, dI) classes [(h0, .inr (1, [.int (nI 0), .int (nI 0), .ref qk, .int (nI 0), .int (-1), .int (nI 0), .long (lN 0), .null, .int (nI 0), .null, .null, .long (lN 0), .null, .null, .null, .null, .null, .int (nI 0)])), (qk, .inl (cI, 300, .inl Z0)), (qp, .inl (cI, 64, .inl Z0))] H := hP
  have hD : va_D A [(h0, .inr (1, [.int (nI 0), .int (nI 0), .ref qk, .int (nI 0), .int (-1), .int (nI 0), .long (lN 0), .null, .int (nI 0), .null, .null, .long (lN 0), .null, .null, .null, .null, .null, .int (nI 0)])), (qk, .inl (cI, 300, .inl Z0)), (qp, .inl (cI, 64, .inl Z0))] := hD
  refine va_putF (pc := 23) (D := (dC, dI)) (ci := 1) (v := .ref qp) (ty := .array .int) (C := R_M) (T := F_M) (N := 18) hx hb hts i_M t_M t_M_ok n_M hown hK hP hD hS 0 rfl rfl 7 (by decide) (hts _ fl_M_17) (fun _ h9 => h9) rfl hin rfl (by decide +kernel) rfl rfl (Nat.le_of_ble_eq_true rfl) d_M_new_23 (fun H locs hP hD hS => ?_)
  have hP : va_P (dC, dI) classes [(h0, .inr (1, [.int (nI 0), .int (nI 0), .ref qk, .int (nI 0), .int (-1), .int (nI 0), .long (lN 0), .ref qp, .int (nI 0), .null, .null, .long (lN 0), .null, .null, .null, .null, .null, .int (nI 0)])), (qk, .inl (cI, 300, .inl Z0)), (qp, .inl (cI, 64, .inl Z0))] H := hP
  have hD : va_D A [(h0, .inr (1, [.int (nI 0), .int (nI 0), .ref qk, .int (nI 0), .int (-1), .int (nI 0), .long (lN 0), .ref qp, .int (nI 0), .null, .null, .long (lN 0), .null, .null, .null, .null, .null, .int (nI 0)])), (qk, .inl (cI, 300, .inl Z0)), (qp, .inl (cI, 64, .inl Z0))] := hD
  refine lv_aload_n (pc := 26) hx hb d_M_new_26 rfl (lv_at hl 0 rfl) ?_
  refine lv_iconst (pc := 27) (v := (nI 5)) hx hb d_M_new_27 (by decide) ?_
  refine va_newa (pc := 28) (atype := .int) (ty := .int) (N' := 5) (a0 := (5, .inl Z0)) hx hb (hts _ ac_int) rfl hK hP hD hS hA (fun cA => rfl) (nI_pos (by decide)) (nI_clamp (by decide)) (by decide) (by decide) (by decide) d_M_new_28 (fun qh cA5 H hK hP hD hS => ?_)
  have ecA5 : cI = cA5 := kk_int hK 0 2 rfl rfl
  subst ecA5
  have hK := hK.sub (tys' := tyD cI cB) [0, 1] rfl
  have hP : va_P (dC, dI) classes [(h0, .inr (1, [.int (nI 0), .int (nI 0), .ref qk, .int (nI 0), .int (-1), .int (nI 0), .long (lN 0), .ref qp, .int (nI 0), .null, .null, .long (lN 0), .null, .null, .null, .null, .null, .int (nI 0)])), (qk, .inl (cI, 300, .inl Z0)), (qp, .inl (cI, 64, .inl Z0)), (qh, .inl (cI, 5, .inl Z0))] H := hP
  have hD : va_D A [(h0, .inr (1, [.int (nI 0), .int (nI 0), .ref qk, .int (nI 0), .int (-1), .int (nI 0), .long (lN 0), .ref qp, .int (nI 0), .null, .null, .long (lN 0), .null, .null, .null, .null, .null, .int (nI 0)])), (qk, .inl (cI, 300, .inl Z0)), (qp, .inl (cI, 64, .inl Z0)), (qh, .inl (cI, 5, .inl Z0))] := hD
  refine va_putF (pc := 30) (D := (dC, dI)) (ci := 1) (v := .ref qh) (ty := .array .int) (C := R_M) (T := F_M) (N := 18) hx hb hts i_M t_M t_M_ok n_M hown hK hP hD hS 0 rfl rfl 9 (by decide) (hts _ fl_M_20) (fun _ h9 => h9) rfl hin rfl (by decide +kernel) rfl rfl (Nat.le_of_ble_eq_true rfl) d_M_new_30 (fun H locs hP hD hS => ?_)
  have hP : va_P (dC, dI) classes [(h0, .inr (1, [.int (nI 0), .int (nI 0), .ref qk, .int (nI 0), .int (-1), .int (nI 0), .long (lN 0), .ref qp, .int (nI 0), .ref qh, .null, .long (lN 0), .null, .null, .null, .null, .null, .int (nI 0)])), (qk, .inl (cI, 300, .inl Z0)), (qp, .inl (cI, 64, .inl Z0)), (qh, .inl (cI, 5, .inl Z0))] H := hP
  have hD : va_D A [(h0, .inr (1, [.int (nI 0), .int (nI 0), .ref qk, .int (nI 0), .int (-1), .int (nI 0), .long (lN 0), .ref qp, .int (nI 0), .ref qh, .null, .long (lN 0), .null, .null, .null, .null, .null, .int (nI 0)])), (qk, .inl (cI, 300, .inl Z0)), (qp, .inl (cI, 64, .inl Z0)), (qh, .inl (cI, 5, .inl Z0))] := hD
  refine lv_aload_n (pc := 33) hx hb d_M_new_33 rfl (lv_at hl 0 rfl) ?_
  refine lv_bipush (pc := 34) (v := (nI 64)) hx hb d_M_new_34 (by decide) ?_
  refine va_newa (pc := 36) (atype := .int) (ty := .int) (N' := 64) (a0 := (64, .inl Z0)) hx hb (hts _ ac_int) rfl hK hP hD hS hA (fun cA => rfl) (nI_pos (by decide)) (nI_clamp (by decide)) (by decide) (by decide) (by decide) d_M_new_36 (fun qb cA6 H hK hP hD hS => ?_)
  have ecA6 : cI = cA6 := kk_int hK 0 2 rfl rfl
  subst ecA6
  have hK := hK.sub (tys' := tyD cI cB) [0, 1] rfl
  have hP : va_P (dC, dI) classes [(h0, .inr (1, [.int (nI 0), .int (nI 0), .ref qk, .int (nI 0), .int (-1), .int (nI 0), .long (lN 0), .ref qp, .int (nI 0), .ref qh, .null, .long (lN 0), .null, .null, .null, .null, .null, .int (nI 0)])), (qk, .inl (cI, 300, .inl Z0)), (qp, .inl (cI, 64, .inl Z0)), (qh, .inl (cI, 5, .inl Z0)), (qb, .inl (cI, 64, .inl Z0))] H := hP
  have hD : va_D A [(h0, .inr (1, [.int (nI 0), .int (nI 0), .ref qk, .int (nI 0), .int (-1), .int (nI 0), .long (lN 0), .ref qp, .int (nI 0), .ref qh, .null, .long (lN 0), .null, .null, .null, .null, .null, .int (nI 0)])), (qk, .inl (cI, 300, .inl Z0)), (qp, .inl (cI, 64, .inl Z0)), (qh, .inl (cI, 5, .inl Z0)), (qb, .inl (cI, 64, .inl Z0))] := hD
  refine va_putF (pc := 38) (D := (dC, dI)) (ci := 1) (v := .ref qb) (ty := .array .int) (C := R_M) (T := F_M) (N := 18) hx hb hts i_M t_M t_M_ok n_M hown hK hP hD hS 0 rfl rfl 10 (by decide) (hts _ fl_M_23) (fun _ h9 => h9) rfl hin rfl (by decide +kernel) rfl rfl (Nat.le_of_ble_eq_true rfl) d_M_new_38 (fun H locs hP hD hS => ?_)
  have hP : va_P (dC, dI) classes [(h0, .inr (1, [.int (nI 0), .int (nI 0), .ref qk, .int (nI 0), .int (-1), .int (nI 0), .long (lN 0), .ref qp, .int (nI 0), .ref qh, .ref qb, .long (lN 0), .null, .null, .null, .null, .null, .int (nI 0)])), (qk, .inl (cI, 300, .inl Z0)), (qp, .inl (cI, 64, .inl Z0)), (qh, .inl (cI, 5, .inl Z0)), (qb, .inl (cI, 64, .inl Z0))] H := hP
  have hD : va_D A [(h0, .inr (1, [.int (nI 0), .int (nI 0), .ref qk, .int (nI 0), .int (-1), .int (nI 0), .long (lN 0), .ref qp, .int (nI 0), .ref qh, .ref qb, .long (lN 0), .null, .null, .null, .null, .null, .int (nI 0)])), (qk, .inl (cI, 300, .inl Z0)), (qp, .inl (cI, 64, .inl Z0)), (qh, .inl (cI, 5, .inl Z0)), (qb, .inl (cI, 64, .inl Z0))] := hD
  refine lv_aload_n (pc := 41) hx hb d_M_new_41 rfl (lv_at hl 0 rfl) ?_
  refine lv_bipush (pc := 42) (v := (nI 80)) hx hb d_M_new_42 (by decide) ?_
  refine va_newa (pc := 44) (atype := .int) (ty := .int) (N' := 80) (a0 := (80, .inl Z0)) hx hb (hts _ ac_int) rfl hK hP hD hS hA (fun cA => rfl) (nI_pos (by decide)) (nI_clamp (by decide)) (by decide) (by decide) (by decide) d_M_new_44 (fun qw cA7 H hK hP hD hS => ?_)
  have ecA7 : cI = cA7 := kk_int hK 0 2 rfl rfl
  subst ecA7
  have hK := hK.sub (tys' := tyD cI cB) [0, 1] rfl
  have hP : va_P (dC, dI) classes [(h0, .inr (1, [.int (nI 0), .int (nI 0), .ref qk, .int (nI 0), .int (-1), .int (nI 0), .long (lN 0), .ref qp, .int (nI 0), .ref qh, .ref qb, .long (lN 0), .null, .null, .null, .null, .null, .int (nI 0)])), (qk, .inl (cI, 300, .inl Z0)), (qp, .inl (cI, 64, .inl Z0)), (qh, .inl (cI, 5, .inl Z0)), (qb, .inl (cI, 64, .inl Z0)), (qw, .inl (cI, 80, .inl Z0))] H := hP
  have hD : va_D A [(h0, .inr (1, [.int (nI 0), .int (nI 0), .ref qk, .int (nI 0), .int (-1), .int (nI 0), .long (lN 0), .ref qp, .int (nI 0), .ref qh, .ref qb, .long (lN 0), .null, .null, .null, .null, .null, .int (nI 0)])), (qk, .inl (cI, 300, .inl Z0)), (qp, .inl (cI, 64, .inl Z0)), (qh, .inl (cI, 5, .inl Z0)), (qb, .inl (cI, 64, .inl Z0)), (qw, .inl (cI, 80, .inl Z0))] := hD
  refine va_putF (pc := 46) (D := (dC, dI)) (ci := 1) (v := .ref qw) (ty := .array .int) (C := R_M) (T := F_M) (N := 18) hx hb hts i_M t_M t_M_ok n_M hown hK hP hD hS 0 rfl rfl 12 (by decide) (hts _ fl_M_26) (fun _ h9 => h9) rfl hin rfl (by decide +kernel) rfl rfl (Nat.le_of_ble_eq_true rfl) d_M_new_46 (fun H locs hP hD hS => ?_)
  have hP : va_P (dC, dI) classes [(h0, .inr (1, [.int (nI 0), .int (nI 0), .ref qk, .int (nI 0), .int (-1), .int (nI 0), .long (lN 0), .ref qp, .int (nI 0), .ref qh, .ref qb, .long (lN 0), .ref qw, .null, .null, .null, .null, .int (nI 0)])), (qk, .inl (cI, 300, .inl Z0)), (qp, .inl (cI, 64, .inl Z0)), (qh, .inl (cI, 5, .inl Z0)), (qb, .inl (cI, 64, .inl Z0)), (qw, .inl (cI, 80, .inl Z0))] H := hP
  have hD : va_D A [(h0, .inr (1, [.int (nI 0), .int (nI 0), .ref qk, .int (nI 0), .int (-1), .int (nI 0), .long (lN 0), .ref qp, .int (nI 0), .ref qh, .ref qb, .long (lN 0), .ref qw, .null, .null, .null, .null, .int (nI 0)])), (qk, .inl (cI, 300, .inl Z0)), (qp, .inl (cI, 64, .inl Z0)), (qh, .inl (cI, 5, .inl Z0)), (qb, .inl (cI, 64, .inl Z0)), (qw, .inl (cI, 80, .inl Z0))] := hD
  refine lv_aload_n (pc := 49) hx hb d_M_new_49 rfl (lv_at hl 0 rfl) ?_
  refine lv_bipush (pc := 50) (v := (nI 64)) hx hb d_M_new_50 (by decide) ?_
  refine va_newa (pc := 52) (atype := .int) (ty := .int) (N' := 64) (a0 := (64, .inl Z0)) hx hb (hts _ ac_int) rfl hK hP hD hS hA (fun cA => rfl) (nI_pos (by decide)) (nI_clamp (by decide)) (by decide) (by decide) (by decide) d_M_new_52 (fun qs cA8 H hK hP hD hS => ?_)
  have ecA8 : cI = cA8 := kk_int hK 0 2 rfl rfl
  subst ecA8
  have hK := hK.sub (tys' := tyD cI cB) [0, 1] rfl
  have hP : va_P (dC, dI) classes [(h0, .inr (1, [.int (nI 0), .int (nI 0), .ref qk, .int (nI 0), .int (-1), .int (nI 0), .long (lN 0), .ref qp, .int (nI 0), .ref qh, .ref qb, .long (lN 0), .ref qw, .null, .null, .null, .null, .int (nI 0)])), (qk, .inl (cI, 300, .inl Z0)), (qp, .inl (cI, 64, .inl Z0)), (qh, .inl (cI, 5, .inl Z0)), (qb, .inl (cI, 64, .inl Z0)), (qw, .inl (cI, 80, .inl Z0)), (qs, .inl (cI, 64, .inl Z0))] H := hP
  have hD : va_D A [(h0, .inr (1, [.int (nI 0), .int (nI 0), .ref qk, .int (nI 0), .int (-1), .int (nI 0), .long (lN 0), .ref qp, .int (nI 0), .ref qh, .ref qb, .long (lN 0), .ref qw, .null, .null, .null, .null, .int (nI 0)])), (qk, .inl (cI, 300, .inl Z0)), (qp, .inl (cI, 64, .inl Z0)), (qh, .inl (cI, 5, .inl Z0)), (qb, .inl (cI, 64, .inl Z0)), (qw, .inl (cI, 80, .inl Z0)), (qs, .inl (cI, 64, .inl Z0))] := hD
  refine va_putF (pc := 54) (D := (dC, dI)) (ci := 1) (v := .ref qs) (ty := .array .int) (C := R_M) (T := F_M) (N := 18) hx hb hts i_M t_M t_M_ok n_M hown hK hP hD hS 0 rfl rfl 13 (by decide) (hts _ fl_M_29) (fun _ h9 => h9) rfl hin rfl (by decide +kernel) rfl rfl (Nat.le_of_ble_eq_true rfl) d_M_new_54 (fun H locs hP hD hS => ?_)
  have hP : va_P (dC, dI) classes [(h0, .inr (1, [.int (nI 0), .int (nI 0), .ref qk, .int (nI 0), .int (-1), .int (nI 0), .long (lN 0), .ref qp, .int (nI 0), .ref qh, .ref qb, .long (lN 0), .ref qw, .ref qs, .null, .null, .null, .int (nI 0)])), (qk, .inl (cI, 300, .inl Z0)), (qp, .inl (cI, 64, .inl Z0)), (qh, .inl (cI, 5, .inl Z0)), (qb, .inl (cI, 64, .inl Z0)), (qw, .inl (cI, 80, .inl Z0)), (qs, .inl (cI, 64, .inl Z0))] H := hP
  have hD : va_D A [(h0, .inr (1, [.int (nI 0), .int (nI 0), .ref qk, .int (nI 0), .int (-1), .int (nI 0), .long (lN 0), .ref qp, .int (nI 0), .ref qh, .ref qb, .long (lN 0), .ref qw, .ref qs, .null, .null, .null, .int (nI 0)])), (qk, .inl (cI, 300, .inl Z0)), (qp, .inl (cI, 64, .inl Z0)), (qh, .inl (cI, 5, .inl Z0)), (qb, .inl (cI, 64, .inl Z0)), (qw, .inl (cI, 80, .inl Z0)), (qs, .inl (cI, 64, .inl Z0))] := hD
  refine lv_aload_n (pc := 57) hx hb d_M_new_57 rfl (lv_at hl 0 rfl) ?_
  refine lv_iconst (pc := 58) (v := (nI 4)) hx hb d_M_new_58 (by decide) ?_
  refine va_newa (pc := 59) (atype := .int) (ty := .int) (N' := 4) (a0 := (4, .inl Z0)) hx hb (hts _ ac_int) rfl hK hP hD hS hA (fun cA => rfl) (nI_pos (by decide)) (nI_clamp (by decide)) (by decide) (by decide) (by decide) d_M_new_59 (fun qt cA9 H hK hP hD hS => ?_)
  have ecA9 : cI = cA9 := kk_int hK 0 2 rfl rfl
  subst ecA9
  have hK := hK.sub (tys' := tyD cI cB) [0, 1] rfl
  have hP : va_P (dC, dI) classes [(h0, .inr (1, [.int (nI 0), .int (nI 0), .ref qk, .int (nI 0), .int (-1), .int (nI 0), .long (lN 0), .ref qp, .int (nI 0), .ref qh, .ref qb, .long (lN 0), .ref qw, .ref qs, .null, .null, .null, .int (nI 0)])), (qk, .inl (cI, 300, .inl Z0)), (qp, .inl (cI, 64, .inl Z0)), (qh, .inl (cI, 5, .inl Z0)), (qb, .inl (cI, 64, .inl Z0)), (qw, .inl (cI, 80, .inl Z0)), (qs, .inl (cI, 64, .inl Z0)), (qt, .inl (cI, 4, .inl Z0))] H := hP
  have hD : va_D A [(h0, .inr (1, [.int (nI 0), .int (nI 0), .ref qk, .int (nI 0), .int (-1), .int (nI 0), .long (lN 0), .ref qp, .int (nI 0), .ref qh, .ref qb, .long (lN 0), .ref qw, .ref qs, .null, .null, .null, .int (nI 0)])), (qk, .inl (cI, 300, .inl Z0)), (qp, .inl (cI, 64, .inl Z0)), (qh, .inl (cI, 5, .inl Z0)), (qb, .inl (cI, 64, .inl Z0)), (qw, .inl (cI, 80, .inl Z0)), (qs, .inl (cI, 64, .inl Z0)), (qt, .inl (cI, 4, .inl Z0))] := hD
  refine va_putF (pc := 61) (D := (dC, dI)) (ci := 1) (v := .ref qt) (ty := .array .int) (C := R_M) (T := F_M) (N := 18) hx hb hts i_M t_M t_M_ok n_M hown hK hP hD hS 0 rfl rfl 14 (by decide) (hts _ fl_M_32) (fun _ h9 => h9) rfl hin rfl (by decide +kernel) rfl rfl (Nat.le_of_ble_eq_true rfl) d_M_new_61 (fun H locs hP hD hS => ?_)
  have hP : va_P (dC, dI) classes [(h0, .inr (1, [.int (nI 0), .int (nI 0), .ref qk, .int (nI 0), .int (-1), .int (nI 0), .long (lN 0), .ref qp, .int (nI 0), .ref qh, .ref qb, .long (lN 0), .ref qw, .ref qs, .ref qt, .null, .null, .int (nI 0)])), (qk, .inl (cI, 300, .inl Z0)), (qp, .inl (cI, 64, .inl Z0)), (qh, .inl (cI, 5, .inl Z0)), (qb, .inl (cI, 64, .inl Z0)), (qw, .inl (cI, 80, .inl Z0)), (qs, .inl (cI, 64, .inl Z0)), (qt, .inl (cI, 4, .inl Z0))] H := hP
  have hD : va_D A [(h0, .inr (1, [.int (nI 0), .int (nI 0), .ref qk, .int (nI 0), .int (-1), .int (nI 0), .long (lN 0), .ref qp, .int (nI 0), .ref qh, .ref qb, .long (lN 0), .ref qw, .ref qs, .ref qt, .null, .null, .int (nI 0)])), (qk, .inl (cI, 300, .inl Z0)), (qp, .inl (cI, 64, .inl Z0)), (qh, .inl (cI, 5, .inl Z0)), (qb, .inl (cI, 64, .inl Z0)), (qw, .inl (cI, 80, .inl Z0)), (qs, .inl (cI, 64, .inl Z0)), (qt, .inl (cI, 4, .inl Z0))] := hD
  refine lv_aload_n (pc := 64) hx hb d_M_new_64 rfl (lv_at hl 0 rfl) ?_
  refine lv_bipush (pc := 65) (v := (nI 20)) hx hb d_M_new_65 (by decide) ?_
  refine va_newa (pc := 67) (atype := .int) (ty := .int) (N' := 20) (a0 := (20, .inl Z0)) hx hb (hts _ ac_int) rfl hK hP hD hS hA (fun cA => rfl) (nI_pos (by decide)) (nI_clamp (by decide)) (by decide) (by decide) (by decide) d_M_new_67 (fun qd cA10 H hK hP hD hS => ?_)
  have ecA10 : cI = cA10 := kk_int hK 0 2 rfl rfl
  subst ecA10
  have hK := hK.sub (tys' := tyD cI cB) [0, 1] rfl
  have hP : va_P (dC, dI) classes [(h0, .inr (1, [.int (nI 0), .int (nI 0), .ref qk, .int (nI 0), .int (-1), .int (nI 0), .long (lN 0), .ref qp, .int (nI 0), .ref qh, .ref qb, .long (lN 0), .ref qw, .ref qs, .ref qt, .null, .null, .int (nI 0)])), (qk, .inl (cI, 300, .inl Z0)), (qp, .inl (cI, 64, .inl Z0)), (qh, .inl (cI, 5, .inl Z0)), (qb, .inl (cI, 64, .inl Z0)), (qw, .inl (cI, 80, .inl Z0)), (qs, .inl (cI, 64, .inl Z0)), (qt, .inl (cI, 4, .inl Z0)), (qd, .inl (cI, 20, .inl Z0))] H := hP
  have hD : va_D A [(h0, .inr (1, [.int (nI 0), .int (nI 0), .ref qk, .int (nI 0), .int (-1), .int (nI 0), .long (lN 0), .ref qp, .int (nI 0), .ref qh, .ref qb, .long (lN 0), .ref qw, .ref qs, .ref qt, .null, .null, .int (nI 0)])), (qk, .inl (cI, 300, .inl Z0)), (qp, .inl (cI, 64, .inl Z0)), (qh, .inl (cI, 5, .inl Z0)), (qb, .inl (cI, 64, .inl Z0)), (qw, .inl (cI, 80, .inl Z0)), (qs, .inl (cI, 64, .inl Z0)), (qt, .inl (cI, 4, .inl Z0)), (qd, .inl (cI, 20, .inl Z0))] := hD
  refine va_putF (pc := 69) (D := (dC, dI)) (ci := 1) (v := .ref qd) (ty := .array .int) (C := R_M) (T := F_M) (N := 18) hx hb hts i_M t_M t_M_ok n_M hown hK hP hD hS 0 rfl rfl 15 (by decide) (hts _ fl_M_35) (fun _ h9 => h9) rfl hin rfl (by decide +kernel) rfl rfl (Nat.le_of_ble_eq_true rfl) d_M_new_69 (fun H locs hP hD hS => ?_)
  have hP : va_P (dC, dI) classes [(h0, .inr (1, [.int (nI 0), .int (nI 0), .ref qk, .int (nI 0), .int (-1), .int (nI 0), .long (lN 0), .ref qp, .int (nI 0), .ref qh, .ref qb, .long (lN 0), .ref qw, .ref qs, .ref qt, .ref qd, .null, .int (nI 0)])), (qk, .inl (cI, 300, .inl Z0)), (qp, .inl (cI, 64, .inl Z0)), (qh, .inl (cI, 5, .inl Z0)), (qb, .inl (cI, 64, .inl Z0)), (qw, .inl (cI, 80, .inl Z0)), (qs, .inl (cI, 64, .inl Z0)), (qt, .inl (cI, 4, .inl Z0)), (qd, .inl (cI, 20, .inl Z0))] H := hP
  have hD : va_D A [(h0, .inr (1, [.int (nI 0), .int (nI 0), .ref qk, .int (nI 0), .int (-1), .int (nI 0), .long (lN 0), .ref qp, .int (nI 0), .ref qh, .ref qb, .long (lN 0), .ref qw, .ref qs, .ref qt, .ref qd, .null, .int (nI 0)])), (qk, .inl (cI, 300, .inl Z0)), (qp, .inl (cI, 64, .inl Z0)), (qh, .inl (cI, 5, .inl Z0)), (qb, .inl (cI, 64, .inl Z0)), (qw, .inl (cI, 80, .inl Z0)), (qs, .inl (cI, 64, .inl Z0)), (qt, .inl (cI, 4, .inl Z0)), (qd, .inl (cI, 20, .inl Z0))] := hD
  refine lv_aload_n (pc := 72) hx hb d_M_new_72 rfl (lv_at hl 0 rfl) ?_
  refine lv_bipush (pc := 73) (v := (nI 20)) hx hb d_M_new_73 (by decide) ?_
  refine va_newa (pc := 75) (atype := .int) (ty := .int) (N' := 20) (a0 := (20, .inl Z0)) hx hb (hts _ ac_int) rfl hK hP hD hS hA (fun cA => rfl) (nI_pos (by decide)) (nI_clamp (by decide)) (by decide) (by decide) (by decide) d_M_new_75 (fun qr cA11 H hK hP hD hS => ?_)
  have ecA11 : cI = cA11 := kk_int hK 0 2 rfl rfl
  subst ecA11
  have hK := hK.sub (tys' := tyD cI cB) [0, 1] rfl
  have hP : va_P (dC, dI) classes [(h0, .inr (1, [.int (nI 0), .int (nI 0), .ref qk, .int (nI 0), .int (-1), .int (nI 0), .long (lN 0), .ref qp, .int (nI 0), .ref qh, .ref qb, .long (lN 0), .ref qw, .ref qs, .ref qt, .ref qd, .null, .int (nI 0)])), (qk, .inl (cI, 300, .inl Z0)), (qp, .inl (cI, 64, .inl Z0)), (qh, .inl (cI, 5, .inl Z0)), (qb, .inl (cI, 64, .inl Z0)), (qw, .inl (cI, 80, .inl Z0)), (qs, .inl (cI, 64, .inl Z0)), (qt, .inl (cI, 4, .inl Z0)), (qd, .inl (cI, 20, .inl Z0)), (qr, .inl (cI, 20, .inl Z0))] H := hP
  have hD : va_D A [(h0, .inr (1, [.int (nI 0), .int (nI 0), .ref qk, .int (nI 0), .int (-1), .int (nI 0), .long (lN 0), .ref qp, .int (nI 0), .ref qh, .ref qb, .long (lN 0), .ref qw, .ref qs, .ref qt, .ref qd, .null, .int (nI 0)])), (qk, .inl (cI, 300, .inl Z0)), (qp, .inl (cI, 64, .inl Z0)), (qh, .inl (cI, 5, .inl Z0)), (qb, .inl (cI, 64, .inl Z0)), (qw, .inl (cI, 80, .inl Z0)), (qs, .inl (cI, 64, .inl Z0)), (qt, .inl (cI, 4, .inl Z0)), (qd, .inl (cI, 20, .inl Z0)), (qr, .inl (cI, 20, .inl Z0))] := hD
  refine va_putF (pc := 77) (D := (dC, dI)) (ci := 1) (v := .ref qr) (ty := .array .int) (C := R_M) (T := F_M) (N := 18) hx hb hts i_M t_M t_M_ok n_M hown hK hP hD hS 0 rfl rfl 16 (by decide) (hts _ fl_M_38) (fun _ h9 => h9) rfl hin rfl (by decide +kernel) rfl rfl (Nat.le_of_ble_eq_true rfl) d_M_new_77 (fun H locs hP hD hS => ?_)
  have hP : va_P (dC, dI) classes [(h0, .inr (1, [.int (nI 0), .int (nI 0), .ref qk, .int (nI 0), .int (-1), .int (nI 0), .long (lN 0), .ref qp, .int (nI 0), .ref qh, .ref qb, .long (lN 0), .ref qw, .ref qs, .ref qt, .ref qd, .ref qr, .int (nI 0)])), (qk, .inl (cI, 300, .inl Z0)), (qp, .inl (cI, 64, .inl Z0)), (qh, .inl (cI, 5, .inl Z0)), (qb, .inl (cI, 64, .inl Z0)), (qw, .inl (cI, 80, .inl Z0)), (qs, .inl (cI, 64, .inl Z0)), (qt, .inl (cI, 4, .inl Z0)), (qd, .inl (cI, 20, .inl Z0)), (qr, .inl (cI, 20, .inl Z0))] H := hP
  have hD : va_D A [(h0, .inr (1, [.int (nI 0), .int (nI 0), .ref qk, .int (nI 0), .int (-1), .int (nI 0), .long (lN 0), .ref qp, .int (nI 0), .ref qh, .ref qb, .long (lN 0), .ref qw, .ref qs, .ref qt, .ref qd, .ref qr, .int (nI 0)])), (qk, .inl (cI, 300, .inl Z0)), (qp, .inl (cI, 64, .inl Z0)), (qh, .inl (cI, 5, .inl Z0)), (qb, .inl (cI, 64, .inl Z0)), (qw, .inl (cI, 80, .inl Z0)), (qs, .inl (cI, 64, .inl Z0)), (qt, .inl (cI, 4, .inl Z0)), (qd, .inl (cI, 20, .inl Z0)), (qr, .inl (cI, 20, .inl Z0))] := hD
  refine W.widen (k := 9) (n := 621) (by decide) (by decide) ?_
  refine lv_aload_n (pc := 80) hx hb d_M_new_80 rfl (lv_at hl 0 rfl) ?_
  refine jn_i (fun x1 : Int32 => x1 = nI (limN x)) 103 ls [.ref h0] (fun x1 ex1 => ?_) (fun J => ?_)
  · refine xs_i (y := (nI (limN x))) (ex1) ?_
    refine va_putF (pc := 103) (D := (dC, dI)) (ci := 1) (v := .int (nI (limN x))) (ty := .int) (C := R_M) (T := F_M) (N := 18) hx hb hts i_M t_M t_M_ok n_M hown hK hP hD hS 0 rfl rfl 0 (by decide) (hts _ fl_M_41) (fun _ h9 => h9) rfl hin rfl (by decide +kernel) rfl rfl (Nat.le_of_ble_eq_true rfl) d_M_new_103 (fun H locs hP hD hS => ?_)
    have hP : va_P (dC, dI) classes [(h0, .inr (1, [.int (nI (limN x)), .int (nI 0), .ref qk, .int (nI 0), .int (-1), .int (nI 0), .long (lN 0), .ref qp, .int (nI 0), .ref qh, .ref qb, .long (lN 0), .ref qw, .ref qs, .ref qt, .ref qd, .ref qr, .int (nI 0)])), (qk, .inl (cI, 300, .inl Z0)), (qp, .inl (cI, 64, .inl Z0)), (qh, .inl (cI, 5, .inl Z0)), (qb, .inl (cI, 64, .inl Z0)), (qw, .inl (cI, 80, .inl Z0)), (qs, .inl (cI, 64, .inl Z0)), (qt, .inl (cI, 4, .inl Z0)), (qd, .inl (cI, 20, .inl Z0)), (qr, .inl (cI, 20, .inl Z0))] H := hP
    have hD : va_D A [(h0, .inr (1, [.int (nI (limN x)), .int (nI 0), .ref qk, .int (nI 0), .int (-1), .int (nI 0), .long (lN 0), .ref qp, .int (nI 0), .ref qh, .ref qb, .long (lN 0), .ref qw, .ref qs, .ref qt, .ref qd, .ref qr, .int (nI 0)])), (qk, .inl (cI, 300, .inl Z0)), (qp, .inl (cI, 64, .inl Z0)), (qh, .inl (cI, 5, .inl Z0)), (qb, .inl (cI, 64, .inl Z0)), (qw, .inl (cI, 80, .inl Z0)), (qs, .inl (cI, 64, .inl Z0)), (qt, .inl (cI, 4, .inl Z0)), (qd, .inl (cI, 20, .inl Z0)), (qr, .inl (cI, 20, .inl Z0))] := hD
    obtain ⟨r, er⟩ : ∃ r : Nat → Nat, r = (fun k => [h0, qk, qp, qh, qb, qw, qs, qt, qd, qr].getD k 0) := ⟨_, rfl⟩
    have hr0 : r 0 = h0 := by rw [er]; rfl
    have hP : va_P (dC, dI) classes (wM cI cB r (nI (limN x)) (nI 0) (nI 0) (-1) (nI 0) (lN 0) (nI 0) (lN 0) (nI 0) Z0 Z0 Z0 Z0 Z0 Z0 Z0 Z0 Z0) H := by rw [er]; exact hP
    have hD : va_D A (wM cI cB r (nI (limN x)) (nI 0) (nI 0) (-1) (nI 0) (lN 0) (nI 0) (lN 0) (nI 0) Z0 Z0 Z0 Z0 Z0 Z0 Z0 Z0 Z0) := by rw [er]; exact hD
    have hl : lv_has ls 3 [(0, .ref (r 0)), (1, .int x)] := by rw [er]; exact hl
    refine lv_iconst (pc := 106) (v := (nI 0)) hx hb d_M_new_106 (by decide) ?_
    refine lv_istore_n (pc := 107) (lv' := [(2, .int (nI 0)), (0, .ref (r 0)), (1, .int x)]) hx hb d_M_new_107 rfl hl (by decide) rfl (fun ls hl => ?_)
    refine lp (α := Nat × (Nat → Int32)) (fun xv => 64 - xv.1) (fun xv H1 locs1 g => ∃ ls, g = F0 m 108 ls [] ∧ lv_has ls 3 [(0, .ref (r 0)), (2, .int (nI xv.1))] ∧ va_P (dC, dI) classes (wM cI cB r (nI (limN x)) (nI 0) (nI 0) (-1) (nI 0) (lN 0) (nI 0) (lN 0) (nI 0) Z0 Z0 Z0 Z0 Z0 xv.2 Z0 Z0 Z0) H1 ∧ va_D A (wM cI cB r (nI (limN x)) (nI 0) (nI 0) (-1) (nI 0) (lN 0) (nI 0) (lN 0) (nI 0) Z0 Z0 Z0 Z0 Z0 xv.2 Z0 Z0 Z0) ∧ va_S A s.heap H1 locs1 ∧ (xv.1 ≤ 64) ∧ (∀ j, j < xv.1 → xv.2 j = sinesT j)) ?_ (0, Z0) ⟨ls, rfl, lv_sub hl [1, 0] rfl, hP, hD, hS, (show 0 ≤ 64 from by omega), (show ∀ j, j < 0 → Z0 j = sinesT j from fun j h => absurd h (Nat.not_lt_zero _))⟩
    rintro ⟨k, f⟩ H locs g ih ⟨ls, rfl, hl, hP, hD, hS, hk, hf⟩
    have hl : lv_has ls 3 [(0, .ref (r 0)), (2, .int (nI k))] := hl
    have hP : va_P (dC, dI) classes (wM cI cB r (nI (limN x)) (nI 0) (nI 0) (-1) (nI 0) (lN 0) (nI 0) (lN 0) (nI 0) Z0 Z0 Z0 Z0 Z0 f Z0 Z0 Z0) H := hP
    have hD : va_D A (wM cI cB r (nI (limN x)) (nI 0) (nI 0) (-1) (nI 0) (lN 0) (nI 0) (lN 0) (nI 0) Z0 Z0 Z0 Z0 Z0 f Z0 Z0 Z0) := hD
    have hk : k ≤ 64 := hk
    have hf : ∀ j, j < k → f j = sinesT j := hf
    refine lv_iload_n (pc := 108) hx hb d_M_new_108 rfl (lv_at hl 1 rfl) ?_
    refine lv_bipush (pc := 109) (v := (nI 64)) hx hb d_M_new_109 (by decide) ?_
    refine xi_ge (pc := 111) (tgt := 141) hx hb d_M_new_111 (by decide) (by omega) (by omega) (fun c2 => ?_) (fun c2 => ?_)
    · have hs16 : k = 64 := by omega
      subst hs16
      refine lv_aload_n (pc := 141) hx hb d_M_new_141 rfl (lv_at hl 0 rfl) ?_
      refine va_get (pc := 142) (D := (dC, dI)) (ci := 1) (v := .ref (r 7)) (C := R_M) (T := F_M) (N := 18) hx hb hts i_M hown hK hP 0 rfl rfl 14 (by decide) (hts _ fl_M_32) (fun _ h9 => h9) rfl d_M_new_142 ?_
      refine lv_iconst (pc := 145) (v := (nI 0)) hx hb d_M_new_145 (by decide) ?_
      refine lv_ldc2 (pc := 146) hx hb hown (hts _ cn_M_54) d_M_new_146 ?_
      refine xs_l (y := (lN 2)) (rfl) ?_
      refine ksi (pc := 149) (As := [.long (lN 2)]) (rest := [.int (nI 0), .ref (r 7)]) ⟨hx, hb, hml, hown, hts⟩ (c_M_root l (lN 2)) (va_cwS 1 hts g_M_56 rfl rfl rfl hs_M_root ⟨by decide, by decide⟩) rfl hl.1 rfl (Nat.le_of_ble_eq_true rfl) d_M_new_149 ⟨by decide, by decide⟩ (fun r17 er18 => ?_)
      subst er18
      refine xs_i (y := (addedT 0)) (root_ok 0 (by decide)) ?_
      refine xa_iast (pc := 152) (x := (addedT 0)) hx hb hK hP hD hS 7 0 rfl rfl (by decide) (by decide) d_M_new_152 (fun H locs hP hD hS => ?_)
      have hP : va_P (dC, dI) classes (wM cI cB r (nI (limN x)) (nI 0) (nI 0) (-1) (nI 0) (lN 0) (nI 0) (lN 0) (nI 0) Z0 Z0 Z0 Z0 Z0 f (upd Z0 0 (addedT 0)) Z0 Z0) H := hP
      have hD : va_D A (wM cI cB r (nI (limN x)) (nI 0) (nI 0) (-1) (nI 0) (lN 0) (nI 0) (lN 0) (nI 0) Z0 Z0 Z0 Z0 Z0 f (upd Z0 0 (addedT 0)) Z0 Z0) := hD
      refine lv_aload_n (pc := 153) hx hb d_M_new_153 rfl (lv_at hl 0 rfl) ?_
      refine va_get (pc := 154) (D := (dC, dI)) (ci := 1) (v := .ref (r 7)) (C := R_M) (T := F_M) (N := 18) hx hb hts i_M hown hK hP 0 rfl rfl 14 (by decide) (hts _ fl_M_32) (fun _ h9 => h9) rfl d_M_new_154 ?_
      refine lv_iconst (pc := 157) (v := (nI 1)) hx hb d_M_new_157 (by decide) ?_
      refine lv_ldc2 (pc := 158) hx hb hown (hts _ cn_M_60) d_M_new_158 ?_
      refine xs_l (y := (lN 3)) (rfl) ?_
      refine ksi (pc := 161) (As := [.long (lN 3)]) (rest := [.int (nI 1), .ref (r 7)]) ⟨hx, hb, hml, hown, hts⟩ (c_M_root l (lN 3)) (va_cwS 1 hts g_M_56 rfl rfl rfl hs_M_root ⟨by decide, by decide⟩) rfl hl.1 rfl (Nat.le_of_ble_eq_true rfl) d_M_new_161 ⟨by decide, by decide⟩ (fun r19 er20 => ?_)
      subst er20
      refine xs_i (y := (addedT 1)) (root_ok 1 (by decide)) ?_
      refine xa_iast (pc := 164) (x := (addedT 1)) hx hb hK hP hD hS 7 0 rfl rfl (by decide) (by decide) d_M_new_164 (fun H locs hP hD hS => ?_)
      have hP : va_P (dC, dI) classes (wM cI cB r (nI (limN x)) (nI 0) (nI 0) (-1) (nI 0) (lN 0) (nI 0) (lN 0) (nI 0) Z0 Z0 Z0 Z0 Z0 f (upd (upd Z0 0 (addedT 0)) 1 (addedT 1)) Z0 Z0) H := hP
      have hD : va_D A (wM cI cB r (nI (limN x)) (nI 0) (nI 0) (-1) (nI 0) (lN 0) (nI 0) (lN 0) (nI 0) Z0 Z0 Z0 Z0 Z0 f (upd (upd Z0 0 (addedT 0)) 1 (addedT 1)) Z0 Z0) := hD
      refine lv_aload_n (pc := 165) hx hb d_M_new_165 rfl (lv_at hl 0 rfl) ?_
      refine va_get (pc := 166) (D := (dC, dI)) (ci := 1) (v := .ref (r 7)) (C := R_M) (T := F_M) (N := 18) hx hb hts i_M hown hK hP 0 rfl rfl 14 (by decide) (hts _ fl_M_32) (fun _ h9 => h9) rfl d_M_new_166 ?_
      refine lv_iconst (pc := 169) (v := (nI 2)) hx hb d_M_new_169 (by decide) ?_
      refine lv_ldc2 (pc := 170) hx hb hown (hts _ cn_M_62) d_M_new_170 ?_
      refine xs_l (y := (lN 5)) (rfl) ?_
      refine ksi (pc := 173) (As := [.long (lN 5)]) (rest := [.int (nI 2), .ref (r 7)]) ⟨hx, hb, hml, hown, hts⟩ (c_M_root l (lN 5)) (va_cwS 1 hts g_M_56 rfl rfl rfl hs_M_root ⟨by decide, by decide⟩) rfl hl.1 rfl (Nat.le_of_ble_eq_true rfl) d_M_new_173 ⟨by decide, by decide⟩ (fun r21 er22 => ?_)
      subst er22
      refine xs_i (y := (addedT 2)) (root_ok 2 (by decide)) ?_
      refine xa_iast (pc := 176) (x := (addedT 2)) hx hb hK hP hD hS 7 0 rfl rfl (by decide) (by decide) d_M_new_176 (fun H locs hP hD hS => ?_)
      have hP : va_P (dC, dI) classes (wM cI cB r (nI (limN x)) (nI 0) (nI 0) (-1) (nI 0) (lN 0) (nI 0) (lN 0) (nI 0) Z0 Z0 Z0 Z0 Z0 f (upd (upd (upd Z0 0 (addedT 0)) 1 (addedT 1)) 2 (addedT 2)) Z0 Z0) H := hP
      have hD : va_D A (wM cI cB r (nI (limN x)) (nI 0) (nI 0) (-1) (nI 0) (lN 0) (nI 0) (lN 0) (nI 0) Z0 Z0 Z0 Z0 Z0 f (upd (upd (upd Z0 0 (addedT 0)) 1 (addedT 1)) 2 (addedT 2)) Z0 Z0) := hD
      refine lv_aload_n (pc := 177) hx hb d_M_new_177 rfl (lv_at hl 0 rfl) ?_
      refine va_get (pc := 178) (D := (dC, dI)) (ci := 1) (v := .ref (r 7)) (C := R_M) (T := F_M) (N := 18) hx hb hts i_M hown hK hP 0 rfl rfl 14 (by decide) (hts _ fl_M_32) (fun _ h9 => h9) rfl d_M_new_178 ?_
      refine lv_iconst (pc := 181) (v := (nI 3)) hx hb d_M_new_181 (by decide) ?_
      refine lv_ldc2 (pc := 182) hx hb hown (hts _ cn_M_64) d_M_new_182 ?_
      refine xs_l (y := (lN 10)) (rfl) ?_
      refine ksi (pc := 185) (As := [.long (lN 10)]) (rest := [.int (nI 3), .ref (r 7)]) ⟨hx, hb, hml, hown, hts⟩ (c_M_root l (lN 10)) (va_cwS 1 hts g_M_56 rfl rfl rfl hs_M_root ⟨by decide, by decide⟩) rfl hl.1 rfl (Nat.le_of_ble_eq_true rfl) d_M_new_185 ⟨by decide, by decide⟩ (fun r23 er24 => ?_)
      subst er24
      refine xs_i (y := (addedT 3)) (root_ok 3 (by decide)) ?_
      refine xa_iast (pc := 188) (x := (addedT 3)) hx hb hK hP hD hS 7 0 rfl rfl (by decide) (by decide) d_M_new_188 (fun H locs hP hD hS => ?_)
      have hP : va_P (dC, dI) classes (wM cI cB r (nI (limN x)) (nI 0) (nI 0) (-1) (nI 0) (lN 0) (nI 0) (lN 0) (nI 0) Z0 Z0 Z0 Z0 Z0 f (upd (upd (upd (upd Z0 0 (addedT 0)) 1 (addedT 1)) 2 (addedT 2)) 3 (addedT 3)) Z0 Z0) H := hP
      have hD : va_D A (wM cI cB r (nI (limN x)) (nI 0) (nI 0) (-1) (nI 0) (lN 0) (nI 0) (lN 0) (nI 0) Z0 Z0 Z0 Z0 Z0 f (upd (upd (upd (upd Z0 0 (addedT 0)) 1 (addedT 1)) 2 (addedT 2)) 3 (addedT 3)) Z0 Z0) := hD
      exact W.vret hx hb hr (fun t ht hW => ⟨⟨(r, f, (upd (upd (upd (upd Z0 0 (addedT 0)) 1 (addedT 1)) 2 (addedT 2)) 3 (addedT 3))), rfl, ⟨hr0, hf, rt_ok⟩, by rw [ht]; exact hP, va_K.moved hW.alike hK, hD⟩, hS.F ht⟩) hS.2.2 d_M_new_189
    · obtain ⟨f1, f2, f3⟩ := and3 (sn_ok c2).2
      refine lv_aload_n (pc := 114) hx hb d_M_new_114 rfl (lv_at hl 0 rfl) ?_
      refine va_get (pc := 115) (D := (dC, dI)) (ci := 1) (v := .ref (r 6)) (C := R_M) (T := F_M) (N := 18) hx hb hts i_M hown hK hP 0 rfl rfl 13 (by decide) (hts _ fl_M_29) (fun _ h9 => h9) rfl d_M_new_115 ?_
      refine lv_iload_n (pc := 118) hx hb d_M_new_118 rfl (lv_at hl 1 rfl) ?_
      refine lv_iload_n (pc := 119) hx hb d_M_new_119 rfl (lv_at hl 1 rfl) ?_
      refine lv_iconst (pc := 120) (v := (nI 1)) hx hb d_M_new_120 (by decide) ?_
      refine xi_add (pc := 121) hx hb d_M_new_121 ?_
      refine ksd (pc := 122) (As := [.int (nI (k + 1))]) (rest := [.int (nI k), .ref (r 6)]) ⟨hx, hb, hml, hown, hts⟩ (c_M_sine l (k + 1) (by omega) (sn_ok c2).1) (va_cwS 1 hts g_M_44 rfl rfl rfl hs_M_sine ⟨by decide, by decide⟩) rfl hl.1 rfl (Nat.le_of_ble_eq_true rfl) d_M_new_122 ⟨by decide, by decide⟩ (fun r12 er13 => ?_)
      subst er13
      refine ksd (pc := 125) (As := [.double (sineV (k + 1))]) (rest := [.int (nI k), .ref (r 6)]) ⟨hx, hb, hml, hown, hts⟩ (c_M_size l (sineV (k + 1)) (nz_ok f1)) (va_cwS 1 hts g_M_48 rfl rfl rfl hs_M_size ⟨by decide, by decide⟩) rfl hl.1 rfl (Nat.le_of_ble_eq_true rfl) d_M_new_125 ⟨by decide, by decide⟩ (fun r14 er15 => ?_)
      subst er15
      refine lv_ldc2d (pc := 128) hx hb hown (hts _ cn_M_52) d_M_new_128 ?_
      refine xs_d (y := cT32) (rfl) ?_
      refine lv_dmul (pc := 131) hx hb d_M_new_131 (nz_ok f2) ?_
      refine lv_d2l (pc := 132) hx hb d_M_new_132 ?_
      refine lv_l2i (pc := 133) (v := (FP.d2l (FP.dmul (szV (sineV (k + 1))) cT32)).toInt32) hx hb d_M_new_133 rfl ?_
      refine xs_i (y := (sinesT k)) (of_decide_eq_true f3) ?_
      refine xa_iast (pc := 134) (x := (sinesT k)) hx hb hK hP hD hS 6 0 rfl rfl (by omega) (by decide) d_M_new_134 (fun H locs hP hD hS => ?_)
      have hP : va_P (dC, dI) classes (wM cI cB r (nI (limN x)) (nI 0) (nI 0) (-1) (nI 0) (lN 0) (nI 0) (lN 0) (nI 0) Z0 Z0 Z0 Z0 Z0 (upd f k (sinesT k)) Z0 Z0 Z0) H := hP
      have hD : va_D A (wM cI cB r (nI (limN x)) (nI 0) (nI 0) (-1) (nI 0) (lN 0) (nI 0) (lN 0) (nI 0) Z0 Z0 Z0 Z0 Z0 (upd f k (sinesT k)) Z0 Z0 Z0) := hD
      refine lv_iinc (pc := 135) (v := (nI (k + 1))) (lv' := [(2, .int (nI (k + 1))), (0, .ref (r 0))]) hx hb d_M_new_135 hl (k := 1) rfl (inc1 _) (by decide) rfl (fun ls hl => ?_)
      refine lv_goto (pc := 138) (tgt := 108) hx hb d_M_new_138 (by decide) ?_
      exact ih (k + 1, upd f k (sinesT k)) _ _ _ (by show 64 - (k + 1) < 64 - k; omega) ⟨ls, rfl, lv_sub hl [1, 0] rfl, hP, hD, hS, (show (k + 1) ≤ 64 from by omega), (show ∀ j, j < (k + 1) → (upd f k (sinesT k)) j = sinesT j from upd_lt hf rfl)⟩
  · refine lv_iload_n (pc := 81) hx hb d_M_new_81 rfl (lv_at hl 1 rfl) ?_
    refine lv_if_ge (pc := 82) (tgt := 89) hx hb d_M_new_82 (by decide) (fun c0 => ?_) (fun c0 => ?_)
    · refine lv_iload_n (pc := 89) hx hb d_M_new_89 rfl (lv_at hl 1 rfl) ?_
      refine lv_sipush (pc := 90) (v := (nI 300)) hx hb d_M_new_90 (by decide) ?_
      refine lv_icmp_le (pc := 93) (tgt := 102) hx hb d_M_new_93 (by decide) (fun c1 => ?_) (fun c1 => ?_)
      · refine lv_iload_n (pc := 102) hx hb d_M_new_102 rfl (lv_at hl 1 rfl) ?_
        exact J _ (lim_M x (Int32.not_lt.mpr c0) (Int32.not_lt.mpr c1))
      · refine lv_sipush (pc := 96) (v := (nI 300)) hx hb d_M_new_96 (by decide) ?_
        refine lv_goto (pc := 99) (tgt := 103) hx hb d_M_new_99 (by decide) ?_
        exact J _ (by rw [limN, if_neg (Int32.not_lt.mpr c0), if_pos (Int32.not_le.mp c1)])
    · refine lv_iconst (pc := 85) (v := (nI 0)) hx hb d_M_new_85 (by decide) ?_
      refine lv_goto (pc := 86) (tgt := 103) hx hb d_M_new_86 (by decide) ?_
      exact J _ (by rw [limN, if_pos (Int32.not_le.mp c0)])
end
section
/-! THE CLAIM OUT OF ONE WALK OF THE LAW'S BODY. Your part is whole_start (and what it stands on); all else here is the same for every law, but numbers. -/
def R_law : String := "DigestDeskLaw"
def lw_P (b : Addr) (xs : List Int32) (args : Array Value) (s : State) : Prop := args = #[.ref b] ∧ s.IntsAt b xs ∧ xs.length ≤ 3073 ∧ (Jvm.Cond.and given_1 narrow_1).before args s = true
def lw_Q (_ : Array Value) (s : State) (o : Outcome) (t : State) : Prop := o = .returned (some (.int 1)) ∧ Framed s o t [] 600000 7302250
def lw_Z (below : List Frame) (a : Array Value) (s : State) : State → Prop := fun t => ∃ o, t.status = .running ∧ Ended t below o ∧ lw_Q a s o t
/-- the law's own end, with 1 on the stack, nothing written that was there before, its room as the claim has it -/
theorem lw_ret {p : Program} {l : Launch} {e : Env} {s : State} {m : MethodId} {below : List Frame} {meth : Method} {c : Code} {b : Nat} (hx : p.tables.exec = Jvm.exec) (hb : c.code = code) (hr : meth.sig.returnType = ret) (hlocks : meth.locks = false) {pc : Nat} {H : Heap} {ls : Array Slot} (hdg : decode code pc = .ok (.ireturn, 1)) : W p l e room_1 s m #[Value.ref b] below meth c H [] 600000 7302250 (lw_Z below #[Value.ref b] s) (F0 m pc ls [.int 1]) := by
  intro T hT X
  obtain ⟨fs, hret, hrun, hended, hW, hframe⟩ := X.leave (v := some (.int 1)) (hlocks := hlocks) (fun h => by rw [hr] at h; cases h)
  have hmeth' : T.vm.method? m = some meth := X.method'
  refine ⟨T.setFrames fs, ?_, .returned (some (.int 1)), hrun, hended, rfl, ⟨_, rfl⟩, hW, hframe⟩
  jvm_step X.here [X.here.top, hx, hb, hdg, hmeth', hr, ret, narrow_b1]
  (try refine ⟨rfl, ?_⟩); (try refine ⟨rfl, ?_⟩)
  first | (intro acts; rw [hret _ acts rfl rfl rfl]) | rw [hret _ _ rfl rfl rfl]
  exact Steps.refl _
/-- what holds at the law's entry: the machine, the code, the tables' words (any of lw_tbl by 'hts w (by decide +kernel)'), the script of L ints xs at the cell b, what the Statement gives of the start (any of its parts by flat_of_before) -/
def lw_At (p : Program) (s : State) (m : MethodId) (meth : Method) (c : Code) (b L : Nat) (xs : Nat → Int32) : Prop :=
  p.tables.exec = Jvm.exec ∧ c.code = code ∧ meth.sig.returnType = ret ∧ c.maxLocals = 4 ∧ s.vm.findClass R_law = some m.cls ∧ (∀ w ∈ lw_tbl, w.before #[Value.ref b] s = true) ∧ va_X b L xs s s.heap ∧ b < s.heap.size ∧ meth.locks = false ∧ (Jvm.Cond.and given_1 narrow_1).before #[Value.ref b] s = true
theorem fl_tab {c : Cond} {args : Array Value} {s : State} (h : (Jvm.Cond.and given_1 narrow_1).before args s = true) (hc : c ∈ flatC (Jvm.Cond.and given_1 narrow_1)) : c.before args s = true := flat_of_before _ h c hc
abbrev tmS (n : String) : Term := .static "DigestDesk" n "[I"
theorem xZ_of {args : Array Value} {s : State} {n : String} {N : Nat} {f : Nat → Int32} {A : Nat → Prop} (hN : N < 2 ^ 31) (hl : (Cond.laysStatic R_D n "[I").before args s = true) (hini : (Cond.initialized R_D).before args s = true) (harr : (Cond.arrayOf (tmS n) .int).before args s = true) (hlen : (Cond.eq (.length (tmS n)) (.int (Int32.ofNat N))).before args s = true)
    (hel : ∀ j : Nat, j < N → (Cond.eq (.elem (tmS n) (.int (Int32.ofNat j))) (.int (f j))).before args s = true) (hA : ∀ a : Nat, a < s.heap.size → ¬ A a) : xZ n N f A s s.heap := by
  obtain ⟨t, ht, hT⟩ := va_Tof (f := fun j => .int (f j)) hN harr (va_eqt hlen) (fun j hj => va_eqt (hel j hj)) hA
  exact ⟨t, va_Zof hl hini ht hA, hT⟩
theorem fe_START : ∀ j, j < 5 → Cond.eq (.elem (tmS "START") (.int (Int32.ofNat j))) (.int (startT j)) ∈ flatC (Jvm.Cond.and given_1 narrow_1) := by decide +kernel
theorem fn_START : Cond.eq (.length (tmS "START")) (.int (Int32.ofNat 5)) ∈ flatC (Jvm.Cond.and given_1 narrow_1) := by decide +kernel
theorem fa_START : Cond.arrayOf (tmS "START") .int ∈ flatC (Jvm.Cond.and given_1 narrow_1) := by decide +kernel
theorem fe_SINES : ∀ j, j < 64 → Cond.eq (.elem (tmS "SINES") (.int (Int32.ofNat j))) (.int (sinesT j)) ∈ flatC (Jvm.Cond.and given_1 narrow_1) := by decide +kernel
theorem fn_SINES : Cond.eq (.length (tmS "SINES")) (.int (Int32.ofNat 64)) ∈ flatC (Jvm.Cond.and given_1 narrow_1) := by decide +kernel
theorem fa_SINES : Cond.arrayOf (tmS "SINES") .int ∈ flatC (Jvm.Cond.and given_1 narrow_1) := by decide +kernel
theorem fe_TURNS : ∀ j, j < 16 → Cond.eq (.elem (tmS "TURNS") (.int (Int32.ofNat j))) (.int (turnsT j)) ∈ flatC (Jvm.Cond.and given_1 narrow_1) := by decide +kernel
theorem fn_TURNS : Cond.eq (.length (tmS "TURNS")) (.int (Int32.ofNat 16)) ∈ flatC (Jvm.Cond.and given_1 narrow_1) := by decide +kernel
theorem fa_TURNS : Cond.arrayOf (tmS "TURNS") .int ∈ flatC (Jvm.Cond.and given_1 narrow_1) := by decide +kernel
theorem fe_ADDED : ∀ j, j < 4 → Cond.eq (.elem (tmS "ADDED") (.int (Int32.ofNat j))) (.int (addedT j)) ∈ flatC (Jvm.Cond.and given_1 narrow_1) := by decide +kernel
theorem fn_ADDED : Cond.eq (.length (tmS "ADDED")) (.int (Int32.ofNat 4)) ∈ flatC (Jvm.Cond.and given_1 narrow_1) := by decide +kernel
theorem fa_ADDED : Cond.arrayOf (tmS "ADDED") .int ∈ flatC (Jvm.Cond.and given_1 narrow_1) := by decide +kernel
theorem xST_of {args : Array Value} {s : State} {A : Nat → Prop} (hts : ∀ w ∈ lw_tbl, w.before args s = true) (hgv : (Jvm.Cond.and given_1 narrow_1).before args s = true) (hA : ∀ a : Nat, a < s.heap.size → ¬ A a) : xST A s s.heap :=
  ⟨xZ_of (by decide) (hts _ ls_START) (hts _ (tT_sub in_D)) (fl_tab hgv fa_START) (fl_tab hgv fn_START) (fun j hj => fl_tab hgv (fe_START j hj)) hA, xZ_of (by decide) (hts _ ls_SINES) (hts _ (tT_sub in_D)) (fl_tab hgv fa_SINES) (fl_tab hgv fn_SINES) (fun j hj => fl_tab hgv (fe_SINES j hj)) hA, xZ_of (by decide) (hts _ ls_TURNS) (hts _ (tT_sub in_D)) (fl_tab hgv fa_TURNS) (fl_tab hgv fn_TURNS) (fun j hj => fl_tab hgv (fe_TURNS j hj)) hA, xZ_of (by decide) (hts _ ls_ADDED) (hts _ (tT_sub in_D)) (fl_tab hgv fa_ADDED) (fl_tab hgv fn_ADDED) (fun j hj => fl_tab hgv (fe_ADDED j hj)) hA⟩
section XL
variable {p : Program} {l : Launch} {e : Env} {R : Room} {s : State} {m : MethodId} {args : Array Value} {below : List Frame} {meth : Method} {c : Code} {H : Heap} {locs : List Loc} {cells slots : Nat} {Q : State → Prop}
variable {cc : ByteArray} {pc : Nat} {ls : Array Slot} {rest : List Value} {A : Nat → Prop} {H0 : Heap} {b L : Nat} {xs : Nat → Int32}
theorem xsld (hexec : p.tables.exec = Jvm.exec) (hb : c.code = cc) (hX : va_X b L xs s H0) (hbl : b < H0.size) (hbA : ¬ A b) (hS : va_S A H0 H locs) {i : Nat} (hin : i < L) (hL : L < 2 ^ 31) (hdg : decode cc pc = .ok (.iaload, 1))
    (kk : W p l e R s m args below meth c H locs cells slots Q (F0 m (pc + 1) ls (.int (xs i) :: rest))) : W p l e R s m args below meth c H locs cells slots Q (F0 m pc ls (.int (nI i) :: .ref b :: rest)) :=
  va_sld hexec hb hX hbl hbA hS (vp_in_nI hin hL) hdg (xs_i (by rw [nI_clamp (Nat.lt_trans hin hL)]) kk)
theorem sPreX {av : List Value} (hX : va_X b L xs s s.heap) (hbl : b < s.heap.size) (hbA : ¬ A b) (hS : va_S A s.heap H locs) : PreS s H (va_Pc av (fun U => va_X b L xs U U.heap)) av :=
  ⟨fun a U g mk h => ⟨h.1, va_X.moved (u := U) (U := U.calling g mk a) (Vm.Alike.refl U.vm) h.2⟩, fun U hU hW => ⟨rfl, by show va_X b L xs U U.heap; rw [hU]; exact (hX.kept (hS.2.1 b hbl hbA)).moved hW.alike⟩⟩
end XL
theorem X_lt {b L : Nat} {xs : Nat → Int32} {U : State} {H : Heap} (h : va_X b L xs U H) : b < H.size := by
  obtain ⟨scr, h1, -⟩ := h
  exact (Array.getElem?_eq_some_iff.mp h1).1
def cellV (L : Nat) (xs : Nat → Int32) : Int32 := if 0 < L then xs 0 else nI 0
set_option maxHeartbeats 4000000 in
set_option maxRecDepth 100000 in
theorem c_L_cell (l : Launch) (b L : Nat) (xs : Nat → Int32) (hL : L < 2 ^ 31) : Met l y_L_cell (k_L_cell :: tT) ({ frames := 0, cells := 0, slots := 0, locals := 0 }) (va_Pc [.ref b, .int (nI 0)] (fun U => va_X b L xs U U.heap)) (vp_Si (fun rr : Int32 => rr = cellV L xs)) 0 0 (fun _ => False) := by
  refine Met.ofW (cc := b_L_cell) (maxL := 2) (ret := (some .int)) (by decide) rfl ?_
  intro p e s m args below meth c s₁ B hml hv
  obtain ⟨rfl, hX⟩ := hv
  have hx := B.exec
  have hb := B.bytes
  have hr := B.returns
  have hlocks := B.notSynchronized
  have hS : va_S (fun _ : Nat => False) s.heap s.heap [] := va_S.rf
  have hbl := X_lt hX
  have hbA : ¬ (fun _ : Nat => False) b := fun h => h
  have hl := lv_entry ([.ref b, .int (nI 0)]) (n := 2) (Nat.le_of_ble_eq_true rfl)
  rw [lg_entry_eq]
  generalize (lg_sl ([.ref b, .int (nI 0)]) ++ List.replicate (2 - (lg_sl ([.ref b, .int (nI 0)])).length) Slot.unset).toArray = ls at hl ⊢
  have hl : lv_has ls 2 [(0, .ref b), (1, .int (nI 0))] := hl
  refine lv_iload_n (pc := 0) hx hb d_L_cell_0 rfl (lv_at hl 1 rfl) ?_
  refine lv_aload_n (pc := 1) hx hb d_L_cell_1 rfl (lv_at hl 0 rfl) ?_
  refine va_slen (pc := 2) hx hb hX hbl hbA hS d_L_cell_2 ?_
  show W _ _ _ _ _ _ _ _ _ _ _ _ _ _ _ (F0 m (2 + 1) ls [.int (nI L), .int (nI 0)])
  refine xi_ge (pc := 3) (tgt := 12) hx hb d_L_cell_3 (by decide) (by omega) (by omega) (fun c0 => ?_) (fun c0 => ?_)
  · refine lv_iconst (pc := 12) (v := (nI 0)) hx hb d_L_cell_12 (by decide) ?_
    exact W.iret (v := (nI 0)) hx hb hr (fun t ht hW => ⟨(nI 0), rfl, by rw [cellV, if_neg (by omega)], ht⟩) (fun q h => by cases h) d_L_cell_13
  · refine lv_aload_n (pc := 6) hx hb d_L_cell_6 rfl (lv_at hl 0 rfl) ?_
    refine lv_iload_n (pc := 7) hx hb d_L_cell_7 rfl (lv_at hl 1 rfl) ?_
    refine xsld (pc := 8) hx hb hX hbl hbA hS c0 hL d_L_cell_8 ?_
    refine lv_goto (pc := 9) (tgt := 13) hx hb d_L_cell_9 (by decide) ?_
    exact W.iret (v := (xs 0)) hx hb hr (fun t ht hW => ⟨(xs 0), rfl, by rw [cellV, if_pos c0], ht⟩) (fun q h => by cases h) d_L_cell_13
end
section
def OCP (opn mo alg mac mm2 : Int32) (n bn : Nat) (fil pad : Nat → Int32) : Prop := (opn = 0 ∧ mo = -1) ∨ (¬ opn = 0 ∧ ¬ mo = -1 ∧ alg = mo ∧ mac = mm2 ∧ ((mac = 0 ∧ n = bn) ∨ (¬ mac = 0 ∧ n = bn + 64 ∧ ∀ k, k < 64 → fil k &&& nI 255 = pad k)))
theorem oc_iff {opn mo alg mac mm2 : Int32} {n bn : Nat} {fil pad : Nat → Int32} (h : OCP opn mo alg mac mm2 n bn fil pad) : opn = 0 ↔ mo = -1 := by
  rcases h with ⟨a, b⟩ | ⟨a, b, -⟩
  · exact ⟨fun _ => b, fun _ => a⟩
  · exact ⟨fun z => absurd z a, fun z => absurd z b⟩
theorem oc_add {opn mo alg mac mm2 : Int32} {n bn : Nat} {fil pad : Nat → Int32} (h : OCP opn mo alg mac mm2 n bn fil pad) (d : Nat) : OCP opn mo alg mac mm2 (n + d) (bn + d) fil pad := by
  rcases h with h | ⟨a, b, c, d2, ⟨e, f⟩ | ⟨e, f, g⟩⟩
  · exact Or.inl h
  · exact Or.inr ⟨a, b, c, d2, Or.inl ⟨e, by omega⟩⟩
  · exact Or.inr ⟨a, b, c, d2, Or.inr ⟨e, by omega, g⟩⟩
theorem oc_open {opn mo alg mac mm2 : Int32} {n bn : Nat} {fil pad : Nat → Int32} (h : OCP opn mo alg mac mm2 n bn fil pad) (c : ¬ opn = 0) : ¬ mo = -1 ∧ alg = mo ∧ mac = mm2 ∧ ((mac = 0 ∧ n = bn) ∨ (¬ mac = 0 ∧ n = bn + 64 ∧ ∀ k, k < 64 → fil k &&& nI 255 = pad k)) := by
  rcases h with ⟨a, -⟩ | ⟨-, h⟩
  · exact absurd a c
  · exact h
theorem oc_pad {opn mo alg mac mm2 : Int32} {n bn : Nat} {fil pad : Nat → Int32} (h : OCP opn mo alg mac mm2 n bn fil pad) (c : ¬ opn = 0) (c2 : ¬ mac = 0) : ∀ k, k < 64 → fil k &&& nI 255 = pad k := by
  rcases (oc_open h c).2.2.2 with ⟨e, -⟩ | ⟨-, -, g⟩
  · exact absurd e c2
  · exact g
theorem oc_64 {opn mo alg mac mm2 : Int32} {n bn : Nat} {fil pad : Nat → Int32} (h : OCP opn mo alg mac mm2 n bn fil pad) (c : ¬ opn = 0) (c2 : ¬ mac = 0) : 64 ≤ n := by
  rcases (oc_open h c).2.2.2 with ⟨e, -⟩ | ⟨-, g, -⟩
  · exact absurd e c2
  · omega
theorem oc_len {opn mo alg mac mm2 : Int32} {n bn : Nat} {fil pad : Nat → Int32} (h : OCP opn mo alg mac mm2 n bn fil pad) : (if opn = 0 then (-1 : Int64) else if mac = 0 then lN n else lN (n - 64)) = if mo = -1 then -1 else lN bn := by
  by_cases c : opn = 0
  · rw [if_pos c, if_pos ((oc_iff h).mp c)]
  · rw [if_neg c, if_neg (fun z => c ((oc_iff h).mpr z))]
    rcases (oc_open h c).2.2.2 with ⟨e, f⟩ | ⟨e, f, -⟩
    · rw [if_pos e, f]
    · rw [if_neg e, show n - 64 = bn by omega]
theorem may_ne {rdy wh : Int32} (h : ¬ mayS rdy wh = 0) : ¬ wh = -1 := by
  rcases (mayS_or h).2 with e | e <;> rw [e] <;> decide
theorem kb_iff {rdy b : Int32} {p q : Prop} {kn L : Nat} (h : p ↔ q) : kbOK rdy p b kn L ↔ kbOK rdy q b kn L := by unfold kbOK; rw [h]
theorem up_iff {b : Int32} {p q : Prop} (h : p ↔ q) : upOK p b ↔ upOK q b := by unfold upOK; rw [h]
theorem po_iff {n ag : Int32} {p q : Prop} (h : p ↔ q) : poOK p n ag ↔ poOK q n ag := by unfold poOK; rw [h]
theorem po_le {n ag : Int32} {p : Prop} (h : poOK p n ag) : n.toNatClampNeg * ag.toNatClampNeg ≤ 12000 := by
  obtain ⟨-, h1, h2, h3, h4⟩ := h
  obtain ⟨x, hx, rfl⟩ := pn_of h1 h2
  obtain ⟨y, hy, rfl⟩ := ag_of h3 h4
  rw [nI_clamp (by omega), nI_clamp (by omega)]
  exact Nat.mul_le_mul hx hy
theorem finH_n (alg mac : Int32) (pad : Nat → Int32) (h : HS) (dg : Nat → Int32) : (finH alg mac pad h dg).2.2 ≤ h.2.2 + 400 := by
  by_cases c : mac = 0
  · rw [fin_0 c, hend_n]
    have := hzn_le (h.2.2 + 1)
    omega
  · rw [fin_1 c, hend_n]
    have e1 : (finH3 alg pad h dg).2.2 = 0 + 64 + hlen alg := (hputs_n _ _ _ _).trans (by rw [show (finH2 alg pad h).2.2 = 0 + 64 from hputs_n _ _ _ _])
    have := hzn_le ((finH3 alg pad h dg).2.2 + 1)
    have := hlen_le alg
    omega
theorem macH_n (wh : Int32) (pad : Nat → Int32) (h : HS) : (macH wh pad h).2.2 = 0 + 64 := hputs_n _ _ _ _
theorem law_in {i NL : Nat} (hi : i ≤ 3080) (hN : NL ≤ 3073) (h : ¬ (nI NL - nI 6 < nI i)) : i + 6 ≤ NL := by
  have h1 := Int32.not_lt.mp h
  have h2 := Int32.le_iff_toInt_le.mp h1
  rw [pk_sub_toInt (by omega) (by omega), nI_toInt (by omega)] at h2
  omega
theorem born_D : ∀ j, j < 14 → defaultValue (t_D j) = vp_V [.int (nI 0), .int (nI 0), .null, .int (nI 0), .int (nI 0), .null, .null, .null, .long (lN 0), .int (nI 0), .int (nI 0), .null, .null, .int (nI 0)] j := by
  intro j hj
  rcases (show j = 0 ∨ j = 1 ∨ j = 2 ∨ j = 3 ∨ j = 4 ∨ j = 5 ∨ j = 6 ∨ j = 7 ∨ j = 8 ∨ j = 9 ∨ j = 10 ∨ j = 11 ∨ j = 12 ∨ j = 13 by omega) with rfl | rfl | rfl | rfl | rfl | rfl | rfl | rfl | rfl | rfl | rfl | rfl | rfl | rfl <;> rfl
theorem born_M : ∀ j, j < 18 → defaultValue (t_M j) = vp_V [.int (nI 0), .int (nI 0), .null, .int (nI 0), .int (nI 0), .int (nI 0), .long (lN 0), .null, .int (nI 0), .null, .null, .long (lN 0), .null, .null, .null, .null, .null, .int (nI 0)] j := by
  intro j hj
  rcases (show j = 0 ∨ j = 1 ∨ j = 2 ∨ j = 3 ∨ j = 4 ∨ j = 5 ∨ j = 6 ∨ j = 7 ∨ j = 8 ∨ j = 9 ∨ j = 10 ∨ j = 11 ∨ j = 12 ∨ j = 13 ∨ j = 14 ∨ j = 15 ∨ j = 16 ∨ j = 17 by omega) with rfl | rfl | rfl | rfl | rfl | rfl | rfl | rfl | rfl | rfl | rfl | rfl | rfl | rfl | rfl | rfl | rfl | rfl <;> rfl
theorem R8_Z0 : R8 Z0 Z0 := fun _ => (show (0 : Int32) &&& nI 255 = 0 by decide)
end
section
set_option maxHeartbeats 16000000 in
set_option maxRecDepth 100000 in
/-- THE LAW, from its entry -/
theorem whole_start {p : Program} {e : Env} {s : State} {m : MethodId} {below : List Frame} {meth : Method} {c : Code} (l : Launch) {b NL : Nat} {xs : Nat → Int32} (hL : NL ≤ 3073) (C0 : lw_At p s m meth c b NL xs) : W p l e room_1 s m #[Value.ref b] below meth c s.heap [] 0 0 (lw_Z below #[Value.ref b] s) (entryFrame m ([Value.ref b] : List Value).toArray 4) := by
  obtain ⟨hx, hb, hr, hml, hown, hts0, hX, hbl, hlocks, hgv⟩ := id C0
  have hown : s.vm.findClass "DigestDeskLaw" = some m.cls := hown
  have hts : ∀ w ∈ tT, w.before #[Value.ref b] s = true := fun w h => hts0 w (tT_sub h)
  obtain ⟨A, hAe⟩ : ∃ A : Nat → Prop, A = (fun q => s.heap.size ≤ q) := ⟨_, rfl⟩
  have hA : ∀ q : Nat, s.heap.size ≤ q → A q := fun q h => by rw [hAe]; exact h
  have hAF : ∀ q : Nat, A q → s.heap.size ≤ q := fun q h => by rw [hAe] at h; exact h
  have hbA : ¬ A b := fun h => absurd (hAF b h) (Nat.not_le.mpr hbl)
  have hST : xST A s s.heap := xST_of hts0 hgv (fun a h z => absurd (hAF a z) (Nat.not_le.mpr h))
  obtain ⟨c0, iS0, hKn0⟩ := u_known (C := R_D) (T := F_D) (N := 14) (n := 14) hts i_D (hts _ it_D)
  obtain ⟨c1, iS1, hKn1⟩ := u_known (C := R_M) (T := F_M) (N := 18) (n := 18) hts i_M (hts _ it_M)
  obtain ⟨dC, dI, hKc⟩ : ∃ (dC : Nat → ClassId) (dI : Nat → Nat → Nat), ∀ (k : Nat) (q : vw_C), classes[k]? = some q → u_Kn s q.1 q.2.1 q.2.2 (dC k) (dI k) := by
    refine ⟨fun k => if k = 0 then c0 else c1, fun k => if k = 0 then iS0 else iS1, ?_⟩
    intro k q hq
    match k, hq with
    | 0, hq => cases hq; exact hKn0
    | 1, hq => cases hq; exact hKn1
    | k + 2, hq => simp [classes] at hq
  have hS : va_S A s.heap s.heap [] := va_S.rf
  have hK : va_K (dC, dI) classes [] s := ⟨hKc, fun k q h => by simp at h⟩
  have hP : va_P (dC, dI) classes [] s.heap := fun k q h => by simp at h
  have hD : va_D A [] := ⟨fun i j p q h => by simp at h, fun k q h => by simp at h⟩
  have hl := lv_entry ([.ref b]) (n := 4) (Nat.le_of_ble_eq_true rfl)
  rw [lg_entry_eq]
  generalize (lg_sl ([.ref b]) ++ List.replicate (4 - (lg_sl ([.ref b])).length) Slot.unset).toArray = ls at hl ⊢
  have hl : lv_has ls 4 [(0, .ref b)] := hl
  refine va_new (pc := 0) (ci := 0) (fs := [.int (nI 0), .int (nI 0), .null, .int (nI 0), .int (nI 0), .null, .null, .null, .long (lN 0), .int (nI 0), .int (nI 0), .null, .null, .int (nI 0)]) (C := R_D) (T := F_D) (N := 14) hx hb hts i_D t_D t_D_ok hown (hts _ cl_L_7) (hts _ it_D) (hts _ in_D) hK hP hD hS hA rfl born_D (by decide) (by decide) d_L_law_0 (fun q0 H hP hD hS => ?_)
  have hP : va_P (dC, dI) classes (w0D q0) H := hP
  have hD : va_D A (w0D q0) := hD
  refine lv_dup (pc := 3) hx hb d_L_law_3 rfl ?_
  refine lv_aload_n (pc := 4) hx hb d_L_law_4 rfl (lv_at hl 0 rfl) ?_
  refine lv_iconst (pc := 5) (v := (nI 0)) hx hb d_L_law_5 (by decide) ?_
  refine vp_callSi (W.runS (As := [.ref b, .int (nI 0)]) (rest := [.ref q0, .ref q0]) (g := F0 m 6 ls [.int (nI 0), .ref b, .ref q0, .ref q0]) ⟨hx, hb, hml, hown, hts⟩ (c_L_cell l b NL xs (by omega)) (va_cwS 2 hts g_L_9 rfl rfl rfl hs_L_cell ⟨by decide, by decide⟩) (sPreX hX hbl hbA hS) rfl rfl hl.1 rfl (lv_room (Nat.le_of_ble_eq_true rfl)) d_L_law_6 ⟨by decide, by decide⟩) (fun rr er => ?_)
  subst er
  obtain ⟨x0, ex0⟩ : ∃ z, z = cellV NL xs := ⟨_, rfl⟩
  rw [← ex0]
  have hPc : va_P (dC, dI) classes (w0D q0) H := hP
  have hDc : va_D A (w0D q0) := hD
  have hFc := va_free (wc := w0D q0) hD hS hA [0] rfl
  refine va_callv (va_runI (As := [.int x0]) (rest := [.ref q0]) ⟨hx, hb, hml, hown, hts⟩ (c_D_new l dC dI q0 H.size x0) (cwI 1 hts (tT_cons cd_D_new) rfl rfl rfl (hts _ in_D) (hts _ ml_L_15) (hts _ im_D_new) rfl hs_D_new ⟨by decide, by decide⟩) ⟨fun a U g mk q => by obtain ⟨y0, y1, yP, yK, yD⟩ := q; exact ⟨y0, y1, yP, va_K.moved (u := U) (U := U.calling g mk a) (Vm.Alike.refl U.vm) yK, yD⟩, fun U hU hW => ⟨rfl, by rw [hU], by rw [hU]; exact hPc, va_K.moved hW.alike hK, hDc.weaken (fun _ _ _ _ => trivial)⟩⟩ rfl rfl hl.1 rfl (lv_room (Nat.le_of_ble_eq_true rfl)) d_L_law_9 ⟨by decide, by decide⟩) hS (fun q _ h => hFc q h) hFc (fun u t H1 locs ht hvm hw hB hz1 hk1 hS => ?_)
  obtain ⟨cI, cB, q⟩ := u
  obtain ⟨hP1, hK1, hD1⟩ := hB
  rw [ht] at hP1
  have hK : va_K (dC, dI) classes (tyD cI cB) s := va_K.moved hvm.symm hK1
  dsimp only at hw
  obtain ⟨L, eL⟩ : ∃ z, z = limN x0 := ⟨_, rfl⟩
  obtain ⟨hPj, hDj⟩ := va_join (wr := []) (w1 := (wD cI cB q (limN x0) (nI (limN x0)) (nI 0) (nI 0) (nI 0) (lN 0) (nI 0) (nI 0) (nI 0) Z0 Z0 Z0 Z0 Z0 Z0)) hP hD [0] [] rfl rfl (by decide) (by decide) hk1 hFc hP1 hD1
  clear hP1 hD1 hPc hDc hP hD hz1 hk1 hFc ht
  generalize H1 = H at hPj hS ⊢
  subst hw
  have hP : va_P (dC, dI) classes (wD cI cB q L (nI L) (nI 0) (nI 0) (nI 0) (lN 0) (nI 0) (nI 0) (nI 0) Z0 Z0 Z0 Z0 Z0 Z0) H := by rw [eL]; exact hPj
  have hD : va_D A (wD cI cB q L (nI L) (nI 0) (nI 0) (nI 0) (lN 0) (nI 0) (nI 0) (nI 0) Z0 Z0 Z0 Z0 Z0 Z0) := by rw [eL]; exact hDj
  refine lv_astore_n (pc := 12) (lv' := [(1, .ref (q 0)), (0, .ref b)]) hx hb d_L_law_12 rfl hl (by decide) rfl (fun ls hl => ?_)
  refine va_new (pc := 13) (ci := 1) (fs := [.int (nI 0), .int (nI 0), .null, .int (nI 0), .int (nI 0), .int (nI 0), .long (lN 0), .null, .int (nI 0), .null, .null, .long (lN 0), .null, .null, .null, .null, .null, .int (nI 0)]) (C := R_M) (T := F_M) (N := 18) hx hb hts i_M t_M t_M_ok hown (hts _ cl_L_18) (hts _ it_M) (hts _ in_M) hK hP hD hS hA rfl born_M (by decide) (by decide) d_L_law_13 (fun r0 H hP hD hS => ?_)
  have hP : va_P (dC, dI) classes ((wD cI cB q L (nI L) (nI 0) (nI 0) (nI 0) (lN 0) (nI 0) (nI 0) (nI 0) Z0 Z0 Z0 Z0 Z0 Z0) ++ w0M r0) H := hP
  have hD : va_D A ((wD cI cB q L (nI L) (nI 0) (nI 0) (nI 0) (lN 0) (nI 0) (nI 0) (nI 0) Z0 Z0 Z0 Z0 Z0 Z0) ++ w0M r0) := hD
  refine lv_dup (pc := 16) hx hb d_L_law_16 rfl ?_
  refine lv_aload_n (pc := 17) hx hb d_L_law_17 rfl (lv_at hl 1 rfl) ?_
  refine lv_iconst (pc := 18) (v := (nI 0)) hx hb d_L_law_18 (by decide) ?_
  refine vp_callSi (W.runS (As := [.ref b, .int (nI 0)]) (rest := [.ref r0, .ref r0]) (g := F0 m 19 ls [.int (nI 0), .ref b, .ref r0, .ref r0]) ⟨hx, hb, hml, hown, hts⟩ (c_L_cell l b NL xs (by omega)) (va_cwS 2 hts g_L_9 rfl rfl rfl hs_L_cell ⟨by decide, by decide⟩) (sPreX hX hbl hbA hS) rfl rfl hl.1 rfl (lv_room (Nat.le_of_ble_eq_true rfl)) d_L_law_19 ⟨by decide, by decide⟩) (fun rr er => ?_)
  rw [← ex0] at er
  have er := er.symm
  subst er
  have hPc : va_P (dC, dI) classes (w0M r0) H := hP.sub [7] rfl
  have hDc : va_D A (w0M r0) := hD.sub [7] (by decide) rfl
  have hFc := va_free (wc := w0M r0) hD hS hA [7] rfl
  refine va_callv (va_runI (As := [.int x0]) (rest := [.ref r0]) ⟨hx, hb, hml, hown, hts⟩ (c_M_new l dC dI cI cB r0 H.size x0) (cwI 1 hts (tT_cons cd_M_new) rfl rfl rfl (hts _ in_M) (hts _ ml_L_20) (hts _ im_M_new) rfl hs_M_new ⟨by decide, by decide⟩) ⟨fun a U g mk q => by obtain ⟨y0, y1, yP, yK, yD⟩ := q; exact ⟨y0, y1, yP, va_K.moved (u := U) (U := U.calling g mk a) (Vm.Alike.refl U.vm) yK, yD⟩, fun U hU hW => ⟨rfl, by rw [hU], by rw [hU]; exact hPc, va_K.moved hW.alike hK, hDc.weaken (fun _ _ _ _ => trivial)⟩⟩ rfl rfl hl.1 rfl (lv_room (Nat.le_of_ble_eq_true rfl)) d_L_law_22 ⟨by decide, by decide⟩) hS (fun q _ h => hFc q h) hFc (fun u t H1 locs ht hvm hw hB hz1 hk1 hS => ?_)
  obtain ⟨r, sin, rt⟩ := u
  obtain ⟨hP1, hK1, hD1⟩ := hB
  rw [ht] at hP1
  dsimp only at hw
  obtain ⟨hr0, hsin, hrt⟩ := hw
  obtain ⟨hPj, hDj⟩ := va_join (wr := (wD cI cB q L (nI L) (nI 0) (nI 0) (nI 0) (lN 0) (nI 0) (nI 0) (nI 0) Z0 Z0 Z0 Z0 Z0 Z0)) (w1 := (wM cI cB r (nI (limN x0)) (nI 0) (nI 0) (-1) (nI 0) (lN 0) (nI 0) (lN 0) (nI 0) Z0 Z0 Z0 Z0 Z0 sin rt Z0 Z0)) hP hD [7] [0, 1, 2, 3, 4, 5, 6] rfl rfl (by decide) (by decide) hk1 hFc hP1 hD1
  clear hP1 hD1 hPc hDc hP hD hz1 hk1 hFc ht
  generalize H1 = H at hPj hS ⊢
  subst hr0
  have hP : va_P (dC, dI) classes ((wD cI cB q L (nI L) (nI 0) (nI 0) (nI 0) (lN 0) (nI 0) (nI 0) (nI 0) Z0 Z0 Z0 Z0 Z0 Z0) ++ (wM cI cB r (nI L) (nI 0) (nI 0) (-1) (nI 0) (lN 0) (nI 0) (lN 0) (nI 0) Z0 Z0 Z0 Z0 Z0 sin rt Z0 Z0)) H := by rw [eL] at hPj ⊢; exact hPj
  have hD : va_D A ((wD cI cB q L (nI L) (nI 0) (nI 0) (nI 0) (lN 0) (nI 0) (nI 0) (nI 0) Z0 Z0 Z0 Z0 Z0 Z0) ++ (wM cI cB r (nI L) (nI 0) (nI 0) (-1) (nI 0) (lN 0) (nI 0) (lN 0) (nI 0) Z0 Z0 Z0 Z0 Z0 sin rt Z0 Z0)) := by rw [eL] at hDj ⊢; exact hDj
  refine lv_astore_n (pc := 25) (lv' := [(2, .ref (r 0)), (1, .ref (q 0)), (0, .ref b)]) hx hb d_L_law_25 rfl hl (by decide) rfl (fun ls hl => ?_)
  refine lv_iconst (pc := 26) (v := (nI 1)) hx hb d_L_law_26 (by decide) ?_
  refine lv_istore_n (pc := 27) (lv' := [(3, .int (nI 1)), (2, .ref (r 0)), (1, .ref (q 0)), (0, .ref b)]) hx hb d_L_law_27 rfl hl (by decide) rfl (fun ls hl => ?_)
  have hL3 : L ≤ 300 := by rw [eL]; exact limN_le _
  refine W.widen (k := 17) (n := 1186) (by decide) (by decide) ?_
  refine lp (α := Nat × Int32 × Int32 × Int32 × Int32 × Int32 × Int32 × Nat × Nat × Nat × Nat × (Nat → Int32) × (Nat → Int32) × (Nat → Int32) × (Nat → Int32) × (Nat → Int32) × (Nat → Int32) × (Nat → Int32) × (Nat → Int32) × (Nat → Int32) × (Nat → Int32) × (Nat → Int32) × (Nat → Int32)) (fun xv => 4000 - xv.1) (fun xv H1 locs1 g => ∃ ls, g = F0 m 28 ls [] ∧ lv_has ls 4 [(0, .ref b), (1, .ref (q 0)), (2, .ref (r 0)), (3, .int (nI xv.1))] ∧ va_P (dC, dI) classes ((wD cI cB q L (nI L) xv.2.1 (nI xv.2.2.2.2.2.2.2.1) xv.2.2.1 (lN xv.2.2.2.2.2.2.2.2.1) xv.2.2.2.1 xv.2.2.2.2.1 (nI xv.2.2.2.2.2.2.2.2.2.1) xv.2.2.2.2.2.2.2.2.2.2.2.1 xv.2.2.2.2.2.2.2.2.2.2.2.2.1 xv.2.2.2.2.2.2.2.2.2.2.2.2.2.1 xv.2.2.2.2.2.2.2.2.2.2.2.2.2.2.1 xv.2.2.2.2.2.2.2.2.2.2.2.2.2.2.2.1 xv.2.2.2.2.2.2.2.2.2.2.2.2.2.2.2.2.1) ++ (wM cI cB r (nI L) xv.2.1 (nI xv.2.2.2.2.2.2.2.1) xv.2.2.2.2.2.1 xv.2.2.2.2.2.2.1 (lN xv.2.2.2.2.2.2.2.2.2.2.1) xv.2.2.1 (lN xv.2.2.2.2.2.2.2.2.1) (nI xv.2.2.2.2.2.2.2.2.2.1) xv.2.2.2.2.2.2.2.2.2.2.2.2.2.2.2.2.2.1 xv.2.2.2.2.2.2.2.2.2.2.2.2.2.2.2.2.2.2.1 xv.2.2.2.2.2.2.2.2.2.2.2.2.1 xv.2.2.2.2.2.2.2.2.2.2.2.2.2.2.2.2.2.2.2.1 xv.2.2.2.2.2.2.2.2.2.2.2.2.2.2.2.2.2.2.2.2.1 sin rt xv.2.2.2.2.2.2.2.2.2.2.2.2.2.2.2.2.2.2.2.2.2.1 xv.2.2.2.2.2.2.2.2.2.2.2.2.2.2.2.2.2.2.2.2.2.2)) H1 ∧ va_D A ((wD cI cB q L (nI L) xv.2.1 (nI xv.2.2.2.2.2.2.2.1) xv.2.2.1 (lN xv.2.2.2.2.2.2.2.2.1) xv.2.2.2.1 xv.2.2.2.2.1 (nI xv.2.2.2.2.2.2.2.2.2.1) xv.2.2.2.2.2.2.2.2.2.2.2.1 xv.2.2.2.2.2.2.2.2.2.2.2.2.1 xv.2.2.2.2.2.2.2.2.2.2.2.2.2.1 xv.2.2.2.2.2.2.2.2.2.2.2.2.2.2.1 xv.2.2.2.2.2.2.2.2.2.2.2.2.2.2.2.1 xv.2.2.2.2.2.2.2.2.2.2.2.2.2.2.2.2.1) ++ (wM cI cB r (nI L) xv.2.1 (nI xv.2.2.2.2.2.2.2.1) xv.2.2.2.2.2.1 xv.2.2.2.2.2.2.1 (lN xv.2.2.2.2.2.2.2.2.2.2.1) xv.2.2.1 (lN xv.2.2.2.2.2.2.2.2.1) (nI xv.2.2.2.2.2.2.2.2.2.1) xv.2.2.2.2.2.2.2.2.2.2.2.2.2.2.2.2.2.1 xv.2.2.2.2.2.2.2.2.2.2.2.2.2.2.2.2.2.2.1 xv.2.2.2.2.2.2.2.2.2.2.2.2.1 xv.2.2.2.2.2.2.2.2.2.2.2.2.2.2.2.2.2.2.2.1 xv.2.2.2.2.2.2.2.2.2.2.2.2.2.2.2.2.2.2.2.2.1 sin rt xv.2.2.2.2.2.2.2.2.2.2.2.2.2.2.2.2.2.2.2.2.2.1 xv.2.2.2.2.2.2.2.2.2.2.2.2.2.2.2.2.2.2.2.2.2.2)) ∧ va_S A s.heap H1 locs1 ∧ (1 ≤ xv.1 ∧ xv.1 ≤ 3080) ∧ (xv.2.2.2.2.2.2.2.1 ≤ L) ∧ (xv.2.2.2.2.2.2.2.2.2.1 ≤ 20) ∧ (xv.2.2.2.2.2.2.2.2.1 ≤ 20000 * xv.1) ∧ (R8 xv.2.2.2.2.2.2.2.2.2.2.2.1 xv.2.2.2.2.2.2.2.2.2.2.2.2.2.2.2.2.2.1) ∧ (sb_Fit xv.2.2.2.2.2.2.2.2.2.2.2.1) ∧ (R8 xv.2.2.2.2.2.2.2.2.2.2.2.2.2.1 xv.2.2.2.2.2.2.2.2.2.2.2.2.2.2.2.2.2.2.2.1) ∧ (R8 xv.2.2.2.2.2.2.2.2.2.2.2.2.2.2.2.2.1 xv.2.2.2.2.2.2.2.2.2.2.2.2.2.2.2.2.2.2.2.2.2.1) ∧ (sb_Fit xv.2.2.2.2.2.2.2.2.2.2.2.2.2.2.2.2.1) ∧ (∀ j, j < xv.2.2.2.2.2.2.2.2.2.1 → xv.2.2.2.2.2.2.2.2.2.2.2.2.2.2.2.2.2.2.2.2.2.2 j = xv.2.2.2.2.2.2.2.2.2.2.2.2.2.2.2.2.2.2.2.2.2.1 j) ∧ (OCP xv.2.2.2.1 xv.2.2.2.2.2.1 xv.2.2.1 xv.2.2.2.2.1 xv.2.2.2.2.2.2.1 xv.2.2.2.2.2.2.2.2.1 xv.2.2.2.2.2.2.2.2.2.2.1 xv.2.2.2.2.2.2.2.2.2.2.2.2.2.2.2.1 xv.2.2.2.2.2.2.2.2.2.2.2.2.2.2.2.2.2.2.1)) ?_ (1, nI 0, nI 0, nI 0, nI 0, (-1), nI 0, 0, 0, 0, 0, Z0, Z0, Z0, Z0, Z0, Z0, Z0, Z0, Z0, Z0, Z0, Z0) ⟨ls, rfl, lv_sub hl [3, 2, 1, 0] rfl, hP, hD, hS, (show 1 ≤ 1 ∧ 1 ≤ 3080 from ⟨by decide, by decide⟩), (show 0 ≤ L from Nat.zero_le _), (show 0 ≤ 20 from Nat.zero_le _), (show 0 ≤ 20000 * 1 from Nat.zero_le _), (show R8 Z0 Z0 from R8_Z0), (show sb_Fit Z0 from sb_fit0), (show R8 Z0 Z0 from R8_Z0), (show R8 Z0 Z0 from R8_Z0), (show sb_Fit Z0 from sb_fit0), (show ∀ j, j < 0 → Z0 j = Z0 j from fun j h => absurd h (Nat.not_lt_zero _)), (show OCP (nI 0) (-1) (nI 0) (nI 0) (nI 0) 0 0 Z0 Z0 from Or.inl ⟨rfl, rfl⟩)⟩
  rintro ⟨i, rdy, alg, opn, mac, mo, mm2, kn, n, rn, bn, key, st, buf, wds, fil, res, mkey, pad, blk, w, dg, mres⟩ H locs g ih ⟨ls, rfl, hl, hP, hD, hS, hi1, hkn, hrn, hn, k8, fk, h8, r8, fr, hres, oc⟩
  have hl : lv_has ls 4 [(0, .ref b), (1, .ref (q 0)), (2, .ref (r 0)), (3, .int (nI i))] := hl
  have hP : va_P (dC, dI) classes ((wD cI cB q L (nI L) rdy (nI kn) alg (lN n) opn mac (nI rn) key st buf wds fil res) ++ (wM cI cB r (nI L) rdy (nI kn) mo mm2 (lN bn) alg (lN n) (nI rn) mkey pad st blk w sin rt dg mres)) H := hP
  have hD : va_D A ((wD cI cB q L (nI L) rdy (nI kn) alg (lN n) opn mac (nI rn) key st buf wds fil res) ++ (wM cI cB r (nI L) rdy (nI kn) mo mm2 (lN bn) alg (lN n) (nI rn) mkey pad st blk w sin rt dg mres)) := hD
  have hkn : kn ≤ L := hkn
  have hrn : rn ≤ 20 := hrn
  have hn : n ≤ 20000 * i := hn
  have k8 : R8 key mkey := k8
  have fk : sb_Fit key := fk
  have h8 : R8 buf blk := h8
  have r8 : R8 res dg := r8
  have fr : sb_Fit res := fr
  have hres : ∀ j, j < rn → mres j = dg j := hres
  have oc : OCP opn mo alg mac mm2 n bn fil pad := oc
  have hi1 : 1 ≤ i ∧ i ≤ 3080 := hi1
  refine lv_iload_n (pc := 28) hx hb d_L_law_28 rfl (lv_at hl 3 rfl) ?_
  refine lv_aload_n (pc := 29) hx hb d_L_law_29 rfl (lv_at hl 0 rfl) ?_
  refine va_slen (pc := 30) hx hb hX hbl hbA hS d_L_law_30 ?_
  show W _ _ _ _ _ _ _ _ _ _ _ _ _ _ _ (F0 m (30 + 1) ls [.int (nI NL), .int (nI i)])
  refine lv_bipush (pc := 31) (v := (nI 6)) hx hb d_L_law_31 (by decide) ?_
  refine lv_isub (pc := 33) hx hb d_L_law_33 ?_
  refine lv_icmp_gt (pc := 34) (tgt := 348) hx hb d_L_law_34 (by decide) (fun cx => ?_) (fun cx => ?_)
  · refine lv_iconst (pc := 348) (v := (nI 1)) hx hb d_L_law_348 (by decide) ?_
    refine va_forget (fun q hq => hAF _ (hS.2.2 q hq)) ?_
    refine W.widen (k := 600000) (n := 7302250) (by decide) (by decide) ?_
    exact lw_ret hx hb hr hlocks d_L_law_349
  · have hiN := law_in hi1.2 hL cx
    refine jn (α := Int32 × Int32 × Int32 × Int32 × Int32 × Int32 × Nat × Nat × Nat × Nat × (Nat → Int32) × (Nat → Int32) × (Nat → Int32) × (Nat → Int32) × (Nat → Int32) × (Nat → Int32) × (Nat → Int32) × (Nat → Int32) × (Nat → Int32) × (Nat → Int32) × (Nat → Int32) × (Nat → Int32)) (fun xv H1 locs1 g => ∃ ls, g = F0 m 342 ls [] ∧ lv_has ls 4 [(0, .ref b), (1, .ref (q 0)), (2, .ref (r 0)), (3, .int (nI i))] ∧ va_P (dC, dI) classes ((wD cI cB q L (nI L) xv.1 (nI xv.2.2.2.2.2.2.1) xv.2.1 (lN xv.2.2.2.2.2.2.2.1) xv.2.2.1 xv.2.2.2.1 (nI xv.2.2.2.2.2.2.2.2.1) xv.2.2.2.2.2.2.2.2.2.2.1 xv.2.2.2.2.2.2.2.2.2.2.2.1 xv.2.2.2.2.2.2.2.2.2.2.2.2.1 xv.2.2.2.2.2.2.2.2.2.2.2.2.2.1 xv.2.2.2.2.2.2.2.2.2.2.2.2.2.2.1 xv.2.2.2.2.2.2.2.2.2.2.2.2.2.2.2.1) ++ (wM cI cB r (nI L) xv.1 (nI xv.2.2.2.2.2.2.1) xv.2.2.2.2.1 xv.2.2.2.2.2.1 (lN xv.2.2.2.2.2.2.2.2.2.1) xv.2.1 (lN xv.2.2.2.2.2.2.2.1) (nI xv.2.2.2.2.2.2.2.2.1) xv.2.2.2.2.2.2.2.2.2.2.2.2.2.2.2.2.1 xv.2.2.2.2.2.2.2.2.2.2.2.2.2.2.2.2.2.1 xv.2.2.2.2.2.2.2.2.2.2.2.1 xv.2.2.2.2.2.2.2.2.2.2.2.2.2.2.2.2.2.2.1 xv.2.2.2.2.2.2.2.2.2.2.2.2.2.2.2.2.2.2.2.1 sin rt xv.2.2.2.2.2.2.2.2.2.2.2.2.2.2.2.2.2.2.2.2.1 xv.2.2.2.2.2.2.2.2.2.2.2.2.2.2.2.2.2.2.2.2.2)) H1 ∧ va_D A ((wD cI cB q L (nI L) xv.1 (nI xv.2.2.2.2.2.2.1) xv.2.1 (lN xv.2.2.2.2.2.2.2.1) xv.2.2.1 xv.2.2.2.1 (nI xv.2.2.2.2.2.2.2.2.1) xv.2.2.2.2.2.2.2.2.2.2.1 xv.2.2.2.2.2.2.2.2.2.2.2.1 xv.2.2.2.2.2.2.2.2.2.2.2.2.1 xv.2.2.2.2.2.2.2.2.2.2.2.2.2.1 xv.2.2.2.2.2.2.2.2.2.2.2.2.2.2.1 xv.2.2.2.2.2.2.2.2.2.2.2.2.2.2.2.1) ++ (wM cI cB r (nI L) xv.1 (nI xv.2.2.2.2.2.2.1) xv.2.2.2.2.1 xv.2.2.2.2.2.1 (lN xv.2.2.2.2.2.2.2.2.2.1) xv.2.1 (lN xv.2.2.2.2.2.2.2.1) (nI xv.2.2.2.2.2.2.2.2.1) xv.2.2.2.2.2.2.2.2.2.2.2.2.2.2.2.2.1 xv.2.2.2.2.2.2.2.2.2.2.2.2.2.2.2.2.2.1 xv.2.2.2.2.2.2.2.2.2.2.2.1 xv.2.2.2.2.2.2.2.2.2.2.2.2.2.2.2.2.2.2.1 xv.2.2.2.2.2.2.2.2.2.2.2.2.2.2.2.2.2.2.2.1 sin rt xv.2.2.2.2.2.2.2.2.2.2.2.2.2.2.2.2.2.2.2.2.1 xv.2.2.2.2.2.2.2.2.2.2.2.2.2.2.2.2.2.2.2.2.2)) ∧ va_S A s.heap H1 locs1 ∧ (xv.2.2.2.2.2.2.1 ≤ L) ∧ (xv.2.2.2.2.2.2.2.2.1 ≤ 20) ∧ (xv.2.2.2.2.2.2.2.1 ≤ 20000 * (i + 6)) ∧ (R8 xv.2.2.2.2.2.2.2.2.2.2.1 xv.2.2.2.2.2.2.2.2.2.2.2.2.2.2.2.2.1) ∧ (sb_Fit xv.2.2.2.2.2.2.2.2.2.2.1) ∧ (R8 xv.2.2.2.2.2.2.2.2.2.2.2.2.1 xv.2.2.2.2.2.2.2.2.2.2.2.2.2.2.2.2.2.2.1) ∧ (R8 xv.2.2.2.2.2.2.2.2.2.2.2.2.2.2.2.1 xv.2.2.2.2.2.2.2.2.2.2.2.2.2.2.2.2.2.2.2.2.1) ∧ (sb_Fit xv.2.2.2.2.2.2.2.2.2.2.2.2.2.2.2.1) ∧ (∀ j, j < xv.2.2.2.2.2.2.2.2.1 → xv.2.2.2.2.2.2.2.2.2.2.2.2.2.2.2.2.2.2.2.2.2 j = xv.2.2.2.2.2.2.2.2.2.2.2.2.2.2.2.2.2.2.2.2.1 j) ∧ (OCP xv.2.2.1 xv.2.2.2.2.1 xv.2.1 xv.2.2.2.1 xv.2.2.2.2.2.1 xv.2.2.2.2.2.2.2.1 xv.2.2.2.2.2.2.2.2.2.1 xv.2.2.2.2.2.2.2.2.2.2.2.2.2.2.1 xv.2.2.2.2.2.2.2.2.2.2.2.2.2.2.2.2.2.1)) ?_ ?_
    · rintro ⟨rdy, alg, opn, mac, mo, mm2, kn, n, rn, bn, key, st, buf, wds, fil, res, mkey, pad, blk, w, dg, mres⟩ H locs g ⟨ls, rfl, hl, hP, hD, hS, hkn, hrn, hn, k8, fk, h8, r8, fr, hres, oc⟩
      have hl : lv_has ls 4 [(0, .ref b), (1, .ref (q 0)), (2, .ref (r 0)), (3, .int (nI i))] := hl
      have hP : va_P (dC, dI) classes ((wD cI cB q L (nI L) rdy (nI kn) alg (lN n) opn mac (nI rn) key st buf wds fil res) ++ (wM cI cB r (nI L) rdy (nI kn) mo mm2 (lN bn) alg (lN n) (nI rn) mkey pad st blk w sin rt dg mres)) H := hP
      have hD : va_D A ((wD cI cB q L (nI L) rdy (nI kn) alg (lN n) opn mac (nI rn) key st buf wds fil res) ++ (wM cI cB r (nI L) rdy (nI kn) mo mm2 (lN bn) alg (lN n) (nI rn) mkey pad st blk w sin rt dg mres)) := hD
      have hkn : kn ≤ L := hkn
      have hrn : rn ≤ 20 := hrn
      have hn : n ≤ 20000 * (i + 6) := hn
      have k8 : R8 key mkey := k8
      have fk : sb_Fit key := fk
      have h8 : R8 buf blk := h8
      have r8 : R8 res dg := r8
      have fr : sb_Fit res := fr
      have hres : ∀ j, j < rn → mres j = dg j := hres
      have oc : OCP opn mo alg mac mm2 n bn fil pad := oc
      refine lv_iinc (pc := 342) (v := (nI (i + 6))) (lv' := [(3, .int (nI (i + 6))), (0, .ref b), (1, .ref (q 0)), (2, .ref (r 0))]) hx hb d_L_law_342 hl (k := 3) rfl (inc6 _) (by decide) rfl (fun ls hl => ?_)
      refine lv_goto (pc := 345) (tgt := 28) hx hb d_L_law_345 (by decide) ?_
      exact ih (i + 6, rdy, alg, opn, mac, mo, mm2, kn, n, rn, bn, key, st, buf, wds, fil, res, mkey, pad, blk, w, dg, mres) _ _ _ (by show 4000 - (i + 6) < 4000 - i; omega) ⟨ls, rfl, lv_sub hl [1, 2, 3, 0] rfl, hP, hD, hS, (show 1 ≤ i + 6 ∧ i + 6 ≤ 3080 by omega), hkn, hrn, hn, k8, fk, h8, r8, fr, hres, oc⟩
    · intro Jn
      refine lv_aload_n (pc := 37) hx hb d_L_law_37 rfl (lv_at hl 0 rfl) ?_
      refine lv_iload_n (pc := 38) hx hb d_L_law_38 rfl (lv_at hl 3 rfl) ?_
      refine xsld (pc := 39) hx hb hX hbl hbA hS (show i < NL by omega) (by omega) d_L_law_39 ?_
      refine lv_bipush (pc := 40) (v := (nI 15)) hx hb d_L_law_40 (by decide) ?_
      refine lv_iand (pc := 42) hx hb d_L_law_42 ?_
      obtain ⟨jj, hj, ej⟩ := pk_andE (xs i) (m := nI 15) 4 (by decide)
      refine xs_i (y := (nI jj)) (ej) ?_
      rcases (show jj = 0 ∨ jj = 1 ∨ jj = 2 ∨ jj = 3 ∨ jj = 4 ∨ jj = 5 ∨ jj = 6 ∨ jj = 7 ∨ jj = 8 ∨ jj = 9 ∨ jj = 10 ∨ 11 ≤ jj by omega) with rfl | rfl | rfl | rfl | rfl | rfl | rfl | rfl | rfl | rfl | rfl | hjj
      · refine lv_tableIn (pc := 43) (tgt := 100) (off := 57) hx hb d_L_law_43 (by decide) (by decide) rfl (by decide) ?_
        refine lv_aload_n (pc := 100) hx hb d_L_law_100 rfl (lv_at hl 1 rfl) ?_
        refine kvG (pc := 101) (As := []) (rest := []) (wr := (wM cI cB r (nI L) rdy (nI kn) mo mm2 (lN bn) alg (lN n) (nI rn) mkey pad st blk w sin rt dg mres)) (ci := 0) ⟨hx, hb, hml, hown, hts⟩ (c_D_init l dC dI cI cB q H.size L (nI L) rdy (nI kn) alg opn mac (nI rn) (lN n) key st buf wds fil res) (cwV 0 hts g_L_21 rfl rfl rfl hd_D_init ⟨by decide, by decide⟩) hK hP hD hS hA hST [0, 1, 2, 3, 4, 5, 6] [7, 8, 9, 10, 11, 12, 13, 14, 15, 16] rfl rfl (by decide) (by decide) (by decide) rfl rfl rfl hl.1 rfl (Nat.le_of_ble_eq_true rfl) d_L_law_101 ⟨by decide, by decide⟩ (fun uD H locs hwD hP hD hS => ?_)
        have hP : va_P (dC, dI) classes ((wM cI cB r (nI L) rdy (nI kn) mo mm2 (lN bn) alg (lN n) (nI rn) mkey pad st blk w sin rt dg mres) ++ (wD cI cB q L (nI L) (nI 1) (nI 0) alg (lN n) (nI 0) mac (nI 0) key st buf wds fil res)) H := hP
        have hD : va_D A ((wM cI cB r (nI L) rdy (nI kn) mo mm2 (lN bn) alg (lN n) (nI rn) mkey pad st blk w sin rt dg mres) ++ (wD cI cB q L (nI L) (nI 1) (nI 0) alg (lN n) (nI 0) mac (nI 0) key st buf wds fil res)) := hD
        refine lv_aload_n (pc := 104) hx hb d_L_law_104 rfl (lv_at hl 2 rfl) ?_
        refine kvG (pc := 105) (As := []) (rest := []) (wr := (wD cI cB q L (nI L) (nI 1) (nI 0) alg (lN n) (nI 0) mac (nI 0) key st buf wds fil res)) (ci := 1) ⟨hx, hb, hml, hown, hts⟩ (c_M_init l dC dI cI cB r H.size (nI L) rdy (nI kn) mo mm2 alg (nI rn) (lN bn) (lN n) mkey pad st blk w sin rt dg mres) (cwV 0 hts g_L_24 rfl rfl rfl hd_M_init ⟨by decide, by decide⟩) hK hP hD hS hA hST [0, 1, 2, 3, 4, 5, 6, 7, 8, 9] [10, 11, 12, 13, 14, 15, 16] rfl rfl (by decide) (by decide) (by decide) rfl rfl rfl hl.1 rfl (Nat.le_of_ble_eq_true rfl) d_L_law_105 ⟨by decide, by decide⟩ (fun uM H locs hwM hP hD hS => ?_)
        have hP : va_P (dC, dI) classes ((wD cI cB q L (nI L) (nI 1) (nI 0) alg (lN n) (nI 0) mac (nI 0) key st buf wds fil res) ++ (wM cI cB r (nI L) (nI 1) (nI 0) (-1) mm2 (lN bn) alg (lN n) (nI 0) mkey pad st blk w sin rt dg mres)) H := hP
        have hD : va_D A ((wD cI cB q L (nI L) (nI 1) (nI 0) alg (lN n) (nI 0) mac (nI 0) key st buf wds fil res) ++ (wM cI cB r (nI L) (nI 1) (nI 0) (-1) mm2 (lN bn) alg (lN n) (nI 0) mkey pad st blk w sin rt dg mres)) := hD
        refine lv_goto (pc := 108) (tgt := 342) hx hb d_L_law_108 (by decide) ?_
        exact Jn (nI 1, alg, nI 0, mac, (-1), mm2, 0, n, 0, bn, key, st, buf, wds, fil, res, mkey, pad, blk, w, dg, mres) _ _ _ ⟨ls, rfl, lv_sub hl [0, 1, 2, 3] rfl, hP, hD, hS, (show 0 ≤ L from Nat.zero_le _), (show 0 ≤ 20 from Nat.zero_le _), (show n ≤ 20000 * (i + 6) from by omega), (show R8 key mkey from k8), (show sb_Fit key from fk), (show R8 buf blk from h8), (show R8 res dg from r8), (show sb_Fit res from fr), (show ∀ j, j < 0 → mres j = dg j from fun j h => absurd h (Nat.not_lt_zero _)), (show OCP (nI 0) (-1) alg mac mm2 n bn fil pad from Or.inl ⟨rfl, rfl⟩)⟩
      · refine lv_tableIn (pc := 43) (tgt := 111) (off := 68) hx hb d_L_law_43 (by decide) (by decide) rfl (by decide) ?_
        refine lv_aload_n (pc := 111) hx hb d_L_law_111 rfl (lv_at hl 1 rfl) ?_
        refine lv_aload_n (pc := 112) hx hb d_L_law_112 rfl (lv_at hl 0 rfl) ?_
        refine lv_iload_n (pc := 113) hx hb d_L_law_113 rfl (lv_at hl 3 rfl) ?_
        refine lv_iconst (pc := 114) (v := (nI 1)) hx hb d_L_law_114 (by decide) ?_
        refine xi_add (pc := 115) hx hb d_L_law_115 ?_
        refine xsld (pc := 116) hx hb hX hbl hbA hS (show i + 1 < NL by omega) (by omega) d_L_law_116 ?_
        refine kiG (pc := 117) (As := [.int (xs (i + 1))]) (rest := []) (wr := (wM cI cB r (nI L) rdy (nI kn) mo mm2 (lN bn) alg (lN n) (nI rn) mkey pad st blk w sin rt dg mres)) (ci := 0) ⟨hx, hb, hml, hown, hts⟩ (c_D_start l dC dI cI cB q H.size L (nI L) rdy (nI kn) alg opn mac (nI rn) (lN n) key st buf wds fil res (xs (i + 1))) (cwV 1 hts g_L_25 rfl rfl rfl hd_D_start ⟨by decide, by decide⟩) hK hP hD hS hA hST [0, 1, 2, 3, 4, 5, 6] [7, 8, 9, 10, 11, 12, 13, 14, 15, 16] rfl rfl (by decide) (by decide) (by decide) rfl rfl rfl hl.1 rfl (Nat.le_of_ble_eq_true rfl) d_L_law_117 ⟨by decide, by decide⟩ (fun rD uD H locs hwD hP hD hS => ?_)
        have hP : va_P (dC, dI) classes ((wM cI cB r (nI L) rdy (nI kn) mo mm2 (lN bn) alg (lN n) (nI rn) mkey pad st blk w sin rt dg mres) ++ (wD cI cB q L (nI L) rdy (nI kn) uD.1 uD.2.1 uD.2.2.2.1 uD.2.2.2.2.1 uD.2.2.2.2.2 key uD.2.2.1 buf wds fil res)) H := hP
        have hD : va_D A ((wM cI cB r (nI L) rdy (nI kn) mo mm2 (lN bn) alg (lN n) (nI rn) mkey pad st blk w sin rt dg mres) ++ (wD cI cB q L (nI L) rdy (nI kn) uD.1 uD.2.1 uD.2.2.2.1 uD.2.2.2.2.1 uD.2.2.2.2.2 key uD.2.2.1 buf wds fil res)) := hD
        refine lv_aload_n (pc := 120) hx hb d_L_law_120 rfl (lv_at hl 2 rfl) ?_
        refine lv_aload_n (pc := 121) hx hb d_L_law_121 rfl (lv_at hl 0 rfl) ?_
        refine lv_iload_n (pc := 122) hx hb d_L_law_122 rfl (lv_at hl 3 rfl) ?_
        refine lv_iconst (pc := 123) (v := (nI 1)) hx hb d_L_law_123 (by decide) ?_
        refine xi_add (pc := 124) hx hb d_L_law_124 ?_
        refine xsld (pc := 125) hx hb hX hbl hbA hS (show i + 1 < NL by omega) (by omega) d_L_law_125 ?_
        refine kiG (pc := 126) (As := [.int (xs (i + 1))]) (rest := [.int rD]) (wr := (wD cI cB q L (nI L) rdy (nI kn) uD.1 uD.2.1 uD.2.2.2.1 uD.2.2.2.2.1 uD.2.2.2.2.2 key uD.2.2.1 buf wds fil res)) (ci := 1) ⟨hx, hb, hml, hown, hts⟩ (c_M_start l dC dI cI cB r H.size (nI L) rdy (nI kn) mo mm2 alg (nI rn) (lN bn) (lN n) mkey pad st blk w sin rt dg mres (xs (i + 1))) (cwV 1 hts g_L_29 rfl rfl rfl hd_M_start ⟨by decide, by decide⟩) hK hP hD hS hA hST [0, 1, 2, 3, 4, 5, 6, 7, 8, 9] [10, 11, 12, 13, 14, 15, 16] rfl rfl (by decide) (by decide) (by decide) rfl rfl rfl hl.1 rfl (Nat.le_of_ble_eq_true rfl) d_L_law_126 ⟨by decide, by decide⟩ (fun rM uM H locs hwM hP hD hS => ?_)
        have hP : va_P (dC, dI) classes ((wD cI cB q L (nI L) rdy (nI kn) uD.1 uD.2.1 uD.2.2.2.1 uD.2.2.2.2.1 uD.2.2.2.2.2 key uD.2.2.1 buf wds fil res) ++ (wM cI cB r (nI L) rdy (nI kn) uM.1 uM.2.1 uM.2.2.1 uM.2.2.2.2.1 uM.2.2.2.2.2.2 uM.2.2.2.1 mkey pad uM.2.2.2.2.2.1 blk w sin rt dg mres)) H := hP
        have hD : va_D A ((wD cI cB q L (nI L) rdy (nI kn) uD.1 uD.2.1 uD.2.2.2.1 uD.2.2.2.2.1 uD.2.2.2.2.2 key uD.2.2.1 buf wds fil res) ++ (wM cI cB r (nI L) rdy (nI kn) uM.1 uM.2.1 uM.2.2.1 uM.2.2.2.2.1 uM.2.2.2.2.2.2 uM.2.2.2.1 mkey pad uM.2.2.2.2.2.1 blk w sin rt dg mres)) := hD
        rcases hwD with ⟨e1, d0, e2⟩ | ⟨e1, d0, e2⟩ <;> rcases hwM with ⟨f1, g0, f2⟩ | ⟨f1, g0, f2⟩
        · subst e2
          subst f2
          subst e1
          subst f1
          have hP : va_P (dC, dI) classes ((wD cI cB q L (nI L) rdy (nI kn) alg (lN n) opn mac (nI rn) key st buf wds fil res) ++ (wM cI cB r (nI L) rdy (nI kn) mo mm2 (lN bn) alg (lN n) (nI rn) mkey pad st blk w sin rt dg mres)) H := hP
          have hD : va_D A ((wD cI cB q L (nI L) rdy (nI kn) alg (lN n) opn mac (nI rn) key st buf wds fil res) ++ (wM cI cB r (nI L) rdy (nI kn) mo mm2 (lN bn) alg (lN n) (nI rn) mkey pad st blk w sin rt dg mres)) := hD
          refine lv_icmp_eq (pc := 129) (tgt := 342) hx hb d_L_law_129 (by decide) (fun c9 => ?_) (fun c9 => ?_)
          · exact Jn (rdy, alg, opn, mac, mo, mm2, kn, n, rn, bn, key, st, buf, wds, fil, res, mkey, pad, blk, w, dg, mres) _ _ _ ⟨ls, rfl, lv_sub hl [0, 1, 2, 3] rfl, hP, hD, hS, (show kn ≤ L from hkn), (show rn ≤ 20 from hrn), (show n ≤ 20000 * (i + 6) from by omega), (show R8 key mkey from k8), (show sb_Fit key from fk), (show R8 buf blk from h8), (show R8 res dg from r8), (show sb_Fit res from fr), (show ∀ j, j < rn → mres j = dg j from hres), (show OCP opn mo alg mac mm2 n bn fil pad from oc)⟩
          · exact absurd rfl c9
        · exact absurd d0 g0
        · exact absurd g0 d0
        · subst e2
          subst f2
          subst e1
          subst f1
          have hP : va_P (dC, dI) classes ((wD cI cB q L (nI L) rdy (nI kn) (xs (i + 1)) (lN 0) (nI 1) (nI 0) (nI 0) key (hini st) buf wds fil res) ++ (wM cI cB r (nI L) rdy (nI kn) (xs (i + 1)) (nI 0) (lN 0) (xs (i + 1)) (lN 0) (nI 0) mkey pad (hini st) blk w sin rt dg mres)) H := hP
          have hD : va_D A ((wD cI cB q L (nI L) rdy (nI kn) (xs (i + 1)) (lN 0) (nI 1) (nI 0) (nI 0) key (hini st) buf wds fil res) ++ (wM cI cB r (nI L) rdy (nI kn) (xs (i + 1)) (nI 0) (lN 0) (xs (i + 1)) (lN 0) (nI 0) mkey pad (hini st) blk w sin rt dg mres)) := hD
          refine lv_icmp_eq (pc := 129) (tgt := 342) hx hb d_L_law_129 (by decide) (fun c9 => ?_) (fun c9 => ?_)
          · exact Jn (rdy, xs (i + 1), nI 1, nI 0, xs (i + 1), nI 0, kn, 0, 0, 0, key, hini st, buf, wds, fil, res, mkey, pad, blk, w, dg, mres) _ _ _ ⟨ls, rfl, lv_sub hl [0, 1, 2, 3] rfl, hP, hD, hS, (show kn ≤ L from hkn), (show 0 ≤ 20 from Nat.zero_le _), (show 0 ≤ 20000 * (i + 6) from Nat.zero_le _), (show R8 key mkey from k8), (show sb_Fit key from fk), (show R8 buf blk from h8), (show R8 res dg from r8), (show sb_Fit res from fr), (show ∀ j, j < 0 → mres j = dg j from fun j h => absurd h (Nat.not_lt_zero _)), (show OCP (nI 1) (xs (i + 1)) (xs (i + 1)) (nI 0) (nI 0) 0 0 fil pad from Or.inr ⟨by decide, may_ne d0, rfl, rfl, Or.inl ⟨rfl, rfl⟩⟩)⟩
          · exact absurd rfl c9
      · refine lv_tableIn (pc := 43) (tgt := 134) (off := 91) hx hb d_L_law_43 (by decide) (by decide) rfl (by decide) ?_
        refine lv_aload_n (pc := 134) hx hb d_L_law_134 rfl (lv_at hl 1 rfl) ?_
        refine lv_aload_n (pc := 135) hx hb d_L_law_135 rfl (lv_at hl 0 rfl) ?_
        refine lv_iload_n (pc := 136) hx hb d_L_law_136 rfl (lv_at hl 3 rfl) ?_
        refine lv_iconst (pc := 137) (v := (nI 1)) hx hb d_L_law_137 (by decide) ?_
        refine xi_add (pc := 138) hx hb d_L_law_138 ?_
        refine xsld (pc := 139) hx hb hX hbl hbA hS (show i + 1 < NL by omega) (by omega) d_L_law_139 ?_
        refine kiG (pc := 140) (As := [.int (xs (i + 1))]) (rest := []) (wr := (wM cI cB r (nI L) rdy (nI kn) mo mm2 (lN bn) alg (lN n) (nI rn) mkey pad st blk w sin rt dg mres)) (ci := 0) ⟨hx, hb, hml, hown, hts⟩ (c_D_keyByte l dC dI cI cB q H.size L rdy alg opn mac (nI rn) (lN n) key st buf wds fil res kn (xs (i + 1)) hL3 hkn) (cwV 1 hts g_L_30 rfl rfl rfl hd_D_keyByte ⟨by decide, by decide⟩) hK hP hD hS hA hST [0, 1, 2, 3, 4, 5, 6] [7, 8, 9, 10, 11, 12, 13, 14, 15, 16] rfl rfl (by decide) (by decide) (by decide) rfl rfl rfl hl.1 rfl (Nat.le_of_ble_eq_true rfl) d_L_law_140 ⟨by decide, by decide⟩ (fun rD uD H locs hwD hP hD hS => ?_)
        have hP : va_P (dC, dI) classes ((wM cI cB r (nI L) rdy (nI kn) mo mm2 (lN bn) alg (lN n) (nI rn) mkey pad st blk w sin rt dg mres) ++ (wD cI cB q L (nI L) rdy (nI uD.1) alg (lN n) opn mac (nI rn) uD.2 st buf wds fil res)) H := hP
        have hD : va_D A ((wM cI cB r (nI L) rdy (nI kn) mo mm2 (lN bn) alg (lN n) (nI rn) mkey pad st blk w sin rt dg mres) ++ (wD cI cB q L (nI L) rdy (nI uD.1) alg (lN n) opn mac (nI rn) uD.2 st buf wds fil res)) := hD
        refine lv_aload_n (pc := 143) hx hb d_L_law_143 rfl (lv_at hl 2 rfl) ?_
        refine lv_aload_n (pc := 144) hx hb d_L_law_144 rfl (lv_at hl 0 rfl) ?_
        refine lv_iload_n (pc := 145) hx hb d_L_law_145 rfl (lv_at hl 3 rfl) ?_
        refine lv_iconst (pc := 146) (v := (nI 1)) hx hb d_L_law_146 (by decide) ?_
        refine xi_add (pc := 147) hx hb d_L_law_147 ?_
        refine xsld (pc := 148) hx hb hX hbl hbA hS (show i + 1 < NL by omega) (by omega) d_L_law_148 ?_
        refine kiG (pc := 149) (As := [.int (xs (i + 1))]) (rest := [.int rD]) (wr := (wD cI cB q L (nI L) rdy (nI uD.1) alg (lN n) opn mac (nI rn) uD.2 st buf wds fil res)) (ci := 1) ⟨hx, hb, hml, hown, hts⟩ (c_M_keyByte l dC dI cI cB r H.size rdy mo mm2 alg (nI rn) (lN bn) (lN n) mkey pad st blk w sin rt dg mres L kn (xs (i + 1)) hL3 hkn) (cwV 1 hts g_L_33 rfl rfl rfl hd_M_keyByte ⟨by decide, by decide⟩) hK hP hD hS hA hST [0, 1, 2, 3, 4, 5, 6, 7, 8, 9] [10, 11, 12, 13, 14, 15, 16] rfl rfl (by decide) (by decide) (by decide) rfl rfl rfl hl.1 rfl (Nat.le_of_ble_eq_true rfl) d_L_law_149 ⟨by decide, by decide⟩ (fun rM uM H locs hwM hP hD hS => ?_)
        have hP : va_P (dC, dI) classes ((wD cI cB q L (nI L) rdy (nI uD.1) alg (lN n) opn mac (nI rn) uD.2 st buf wds fil res) ++ (wM cI cB r (nI L) rdy (nI uM.1) mo mm2 (lN bn) alg (lN n) (nI rn) uM.2 pad st blk w sin rt dg mres)) H := hP
        have hD : va_D A ((wD cI cB q L (nI L) rdy (nI uD.1) alg (lN n) opn mac (nI rn) uD.2 st buf wds fil res) ++ (wM cI cB r (nI L) rdy (nI uM.1) mo mm2 (lN bn) alg (lN n) (nI rn) uM.2 pad st blk w sin rt dg mres)) := hD
        rcases hwD with ⟨e1, d0, e2⟩ | ⟨e1, d0, e2⟩ <;> rcases hwM with ⟨f1, g0, f2⟩ | ⟨f1, g0, f2⟩
        · subst e2
          subst f2
          subst e1
          subst f1
          have hP : va_P (dC, dI) classes ((wD cI cB q L (nI L) rdy (nI kn) alg (lN n) opn mac (nI rn) key st buf wds fil res) ++ (wM cI cB r (nI L) rdy (nI kn) mo mm2 (lN bn) alg (lN n) (nI rn) mkey pad st blk w sin rt dg mres)) H := hP
          have hD : va_D A ((wD cI cB q L (nI L) rdy (nI kn) alg (lN n) opn mac (nI rn) key st buf wds fil res) ++ (wM cI cB r (nI L) rdy (nI kn) mo mm2 (lN bn) alg (lN n) (nI rn) mkey pad st blk w sin rt dg mres)) := hD
          refine lv_icmp_eq (pc := 152) (tgt := 342) hx hb d_L_law_152 (by decide) (fun c9 => ?_) (fun c9 => ?_)
          · exact Jn (rdy, alg, opn, mac, mo, mm2, kn, n, rn, bn, key, st, buf, wds, fil, res, mkey, pad, blk, w, dg, mres) _ _ _ ⟨ls, rfl, lv_sub hl [0, 1, 2, 3] rfl, hP, hD, hS, (show kn ≤ L from hkn), (show rn ≤ 20 from hrn), (show n ≤ 20000 * (i + 6) from by omega), (show R8 key mkey from k8), (show sb_Fit key from fk), (show R8 buf blk from h8), (show R8 res dg from r8), (show sb_Fit res from fr), (show ∀ j, j < rn → mres j = dg j from hres), (show OCP opn mo alg mac mm2 n bn fil pad from oc)⟩
          · exact absurd rfl c9
        · exact absurd ((kb_iff (oc_iff oc)).mpr g0) d0
        · exact absurd ((kb_iff (oc_iff oc)).mp d0) g0
        · subst e2
          subst f2
          subst e1
          subst f1
          have hP : va_P (dC, dI) classes ((wD cI cB q L (nI L) rdy (nI (kn + 1)) alg (lN n) opn mac (nI rn) (upd key kn (xs (i + 1)).toInt8.toInt32) st buf wds fil res) ++ (wM cI cB r (nI L) rdy (nI (kn + 1)) mo mm2 (lN bn) alg (lN n) (nI rn) (upd mkey kn (xs (i + 1))) pad st blk w sin rt dg mres)) H := hP
          have hD : va_D A ((wD cI cB q L (nI L) rdy (nI (kn + 1)) alg (lN n) opn mac (nI rn) (upd key kn (xs (i + 1)).toInt8.toInt32) st buf wds fil res) ++ (wM cI cB r (nI L) rdy (nI (kn + 1)) mo mm2 (lN bn) alg (lN n) (nI rn) (upd mkey kn (xs (i + 1))) pad st blk w sin rt dg mres)) := hD
          refine lv_icmp_eq (pc := 152) (tgt := 342) hx hb d_L_law_152 (by decide) (fun c9 => ?_) (fun c9 => ?_)
          · exact Jn (rdy, alg, opn, mac, mo, mm2, kn + 1, n, rn, bn, (upd key kn (xs (i + 1)).toInt8.toInt32), st, buf, wds, fil, res, (upd mkey kn (xs (i + 1))), pad, blk, w, dg, mres) _ _ _ ⟨ls, rfl, lv_sub hl [0, 1, 2, 3] rfl, hP, hD, hS, (show (kn + 1) ≤ L from by have := d0.2.2.2.2; omega), (show rn ≤ 20 from hrn), (show n ≤ 20000 * (i + 6) from by omega), (show R8 (upd key kn (xs (i + 1)).toInt8.toInt32) (upd mkey kn (xs (i + 1))) from k8.set kn ((b8 _).trans (byte_in d0.2.2.1 d0.2.2.2.1))), (show sb_Fit (upd key kn (xs (i + 1)).toInt8.toInt32) from sb_fitU fk (pk_fb _)), (show R8 buf blk from h8), (show R8 res dg from r8), (show sb_Fit res from fr), (show ∀ j, j < rn → mres j = dg j from hres), (show OCP opn mo alg mac mm2 n bn fil pad from oc)⟩
          · exact absurd rfl c9
      · refine lv_tableIn (pc := 43) (tgt := 157) (off := 114) hx hb d_L_law_43 (by decide) (by decide) rfl (by decide) ?_
        refine lv_aload_n (pc := 157) hx hb d_L_law_157 rfl (lv_at hl 1 rfl) ?_
        refine lv_aload_n (pc := 158) hx hb d_L_law_158 rfl (lv_at hl 0 rfl) ?_
        refine lv_iload_n (pc := 159) hx hb d_L_law_159 rfl (lv_at hl 3 rfl) ?_
        refine lv_iconst (pc := 160) (v := (nI 1)) hx hb d_L_law_160 (by decide) ?_
        refine xi_add (pc := 161) hx hb d_L_law_161 ?_
        refine xsld (pc := 162) hx hb hX hbl hbA hS (show i + 1 < NL by omega) (by omega) d_L_law_162 ?_
        refine kiG (pc := 163) (As := [.int (xs (i + 1))]) (rest := []) (wr := (wM cI cB r (nI L) rdy (nI kn) mo mm2 (lN bn) alg (lN n) (nI rn) mkey pad st blk w sin rt dg mres)) (ci := 0) ⟨hx, hb, hml, hown, hts⟩ (c_D_startMac l dC dI cI cB q H.size L (nI L) rdy alg opn mac (nI rn) key st buf wds fil res blk dg mkey n kn (xs (i + 1)) hL3 hkn (by omega) h8 r8 k8 fk fr) (cwV 1 hts g_L_34 rfl rfl rfl hd_D_startMac ⟨by decide, by decide⟩) hK hP hD hS hA hST [0, 1, 2, 3, 4, 5, 6] [7, 8, 9, 10, 11, 12, 13, 14, 15, 16] rfl rfl (by decide) (by decide) (by decide) rfl rfl rfl hl.1 rfl (Nat.le_of_ble_eq_true rfl) d_L_law_163 ⟨by decide, by decide⟩ (fun rD uD H locs hwD hP hD hS => ?_)
        have hP : va_P (dC, dI) classes ((wM cI cB r (nI L) rdy (nI kn) mo mm2 (lN bn) alg (lN n) (nI rn) mkey pad st blk w sin rt dg mres) ++ (wD cI cB q L (nI L) rdy (nI kn) uD.1 (lN uD.2.1) uD.2.2.2.2.2.2.2.1 uD.2.2.2.2.2.2.2.2.1 uD.2.2.2.2.2.2.2.2.2 key uD.2.2.1 uD.2.2.2.1 uD.2.2.2.2.1 uD.2.2.2.2.2.1 uD.2.2.2.2.2.2.1)) H := hP
        have hD : va_D A ((wM cI cB r (nI L) rdy (nI kn) mo mm2 (lN bn) alg (lN n) (nI rn) mkey pad st blk w sin rt dg mres) ++ (wD cI cB q L (nI L) rdy (nI kn) uD.1 (lN uD.2.1) uD.2.2.2.2.2.2.2.1 uD.2.2.2.2.2.2.2.2.1 uD.2.2.2.2.2.2.2.2.2 key uD.2.2.1 uD.2.2.2.1 uD.2.2.2.2.1 uD.2.2.2.2.2.1 uD.2.2.2.2.2.2.1)) := hD
        refine lv_aload_n (pc := 166) hx hb d_L_law_166 rfl (lv_at hl 2 rfl) ?_
        refine lv_aload_n (pc := 167) hx hb d_L_law_167 rfl (lv_at hl 0 rfl) ?_
        refine lv_iload_n (pc := 168) hx hb d_L_law_168 rfl (lv_at hl 3 rfl) ?_
        refine lv_iconst (pc := 169) (v := (nI 1)) hx hb d_L_law_169 (by decide) ?_
        refine xi_add (pc := 170) hx hb d_L_law_170 ?_
        refine xsld (pc := 171) hx hb hX hbl hbA hS (show i + 1 < NL by omega) (by omega) d_L_law_171 ?_
        refine kiG (pc := 172) (As := [.int (xs (i + 1))]) (rest := [.int rD]) (wr := (wD cI cB q L (nI L) rdy (nI kn) uD.1 (lN uD.2.1) uD.2.2.2.2.2.2.2.1 uD.2.2.2.2.2.2.2.2.1 uD.2.2.2.2.2.2.2.2.2 key uD.2.2.1 uD.2.2.2.1 uD.2.2.2.2.1 uD.2.2.2.2.2.1 uD.2.2.2.2.2.2.1)) (ci := 1) ⟨hx, hb, hml, hown, hts⟩ (c_M_startMac l dC dI cI cB r H.size (nI L) rdy mo mm2 alg (nI rn) (lN bn) mkey pad st blk w sin rt dg mres kn n (xs (i + 1)) (by omega) hsin hrt) (cwV 1 hts g_L_37 rfl rfl rfl hd_M_startMac ⟨by decide, by decide⟩) hK hP hD hS hA hST [0, 1, 2, 3, 4, 5, 6, 7, 8, 9] [10, 11, 12, 13, 14, 15, 16] rfl rfl (by decide) (by decide) (by decide) rfl rfl rfl hl.1 rfl (Nat.le_of_ble_eq_true rfl) d_L_law_172 ⟨by decide, by decide⟩ (fun rM uM H locs hwM hP hD hS => ?_)
        have hP : va_P (dC, dI) classes ((wD cI cB q L (nI L) rdy (nI kn) uD.1 (lN uD.2.1) uD.2.2.2.2.2.2.2.1 uD.2.2.2.2.2.2.2.2.1 uD.2.2.2.2.2.2.2.2.2 key uD.2.2.1 uD.2.2.2.1 uD.2.2.2.2.1 uD.2.2.2.2.2.1 uD.2.2.2.2.2.2.1) ++ (wM cI cB r (nI L) rdy (nI kn) uM.1 uM.2.1 uM.2.2.1 uM.2.2.2.2.1 (lN uM.2.2.2.2.2.2.2.2.2.2) uM.2.2.2.1 mkey uM.2.2.2.2.2.2.2.2.1 uM.2.2.2.2.2.1 uM.2.2.2.2.2.2.1 uM.2.2.2.2.2.2.2.1 sin rt uM.2.2.2.2.2.2.2.2.2.1 mres)) H := hP
        have hD : va_D A ((wD cI cB q L (nI L) rdy (nI kn) uD.1 (lN uD.2.1) uD.2.2.2.2.2.2.2.1 uD.2.2.2.2.2.2.2.2.1 uD.2.2.2.2.2.2.2.2.2 key uD.2.2.1 uD.2.2.2.1 uD.2.2.2.2.1 uD.2.2.2.2.2.1 uD.2.2.2.2.2.2.1) ++ (wM cI cB r (nI L) rdy (nI kn) uM.1 uM.2.1 uM.2.2.1 uM.2.2.2.2.1 (lN uM.2.2.2.2.2.2.2.2.2.2) uM.2.2.2.1 mkey uM.2.2.2.2.2.2.2.2.1 uM.2.2.2.2.2.1 uM.2.2.2.2.2.2.1 uM.2.2.2.2.2.2.2.1 sin rt uM.2.2.2.2.2.2.2.2.2.1 mres)) := hD
        rcases hwD with ⟨e1, d0, e2⟩ | ⟨e1, d0, e2⟩ <;> rcases hwM with ⟨f1, g0, f2⟩ | ⟨f1, g0, f2⟩
        · subst e2
          subst f2
          subst e1
          subst f1
          have hP : va_P (dC, dI) classes ((wD cI cB q L (nI L) rdy (nI kn) alg (lN n) opn mac (nI rn) key st buf wds fil res) ++ (wM cI cB r (nI L) rdy (nI kn) mo mm2 (lN bn) alg (lN n) (nI rn) mkey pad st blk w sin rt dg mres)) H := hP
          have hD : va_D A ((wD cI cB q L (nI L) rdy (nI kn) alg (lN n) opn mac (nI rn) key st buf wds fil res) ++ (wM cI cB r (nI L) rdy (nI kn) mo mm2 (lN bn) alg (lN n) (nI rn) mkey pad st blk w sin rt dg mres)) := hD
          refine lv_icmp_eq (pc := 175) (tgt := 342) hx hb d_L_law_175 (by decide) (fun c9 => ?_) (fun c9 => ?_)
          · exact Jn (rdy, alg, opn, mac, mo, mm2, kn, n, rn, bn, key, st, buf, wds, fil, res, mkey, pad, blk, w, dg, mres) _ _ _ ⟨ls, rfl, lv_sub hl [0, 1, 2, 3] rfl, hP, hD, hS, (show kn ≤ L from hkn), (show rn ≤ 20 from hrn), (show n ≤ 20000 * (i + 6) from by omega), (show R8 key mkey from k8), (show sb_Fit key from fk), (show R8 buf blk from h8), (show R8 res dg from r8), (show sb_Fit res from fr), (show ∀ j, j < rn → mres j = dg j from hres), (show OCP opn mo alg mac mm2 n bn fil pad from oc)⟩
          · exact absurd rfl c9
        · exact absurd d0 g0
        · exact absurd g0 d0
        · obtain ⟨a1, a2, a3, a4, a5, a6, a7, a8, a9, a10⟩ := uD
          obtain ⟨m1, m2, m3, m4, m5, m6, m7, m8, m9, m10, m11⟩ := uM
          dsimp only at e2 f2
          obtain ⟨rfl, rfl, rfl, h8n, p8, r8n, frn, rfl, rfl, rfl⟩ := e2
          obtain ⟨rfl, rfl, rfl, rfl, rfl, rfl, rfl, pM, rfl, rfl⟩ := f2
          subst e1
          subst f1
          have hP : va_P (dC, dI) classes ((wD cI cB q L (nI L) rdy (nI kn) (xs (i + 1)) (lN ((macH (xs (i + 1)) (fillP (xs (i + 1)) kn mkey (st, blk, n) dg) (fillH (xs (i + 1)) kn mkey (st, blk, n))).2.2)) (nI 1) (nI 1) (nI 0) key ((macH (xs (i + 1)) (fillP (xs (i + 1)) kn mkey (st, blk, n) dg) (fillH (xs (i + 1)) kn mkey (st, blk, n))).1) a4 a5 a6 a7) ++ (wM cI cB r (nI L) rdy (nI kn) (xs (i + 1)) (nI 1) (lN 0) (xs (i + 1)) (lN ((macH (xs (i + 1)) (fillP (xs (i + 1)) kn mkey (st, blk, n) dg) (fillH (xs (i + 1)) kn mkey (st, blk, n))).2.2)) (nI 0) mkey m9 ((macH (xs (i + 1)) (fillP (xs (i + 1)) kn mkey (st, blk, n) dg) (fillH (xs (i + 1)) kn mkey (st, blk, n))).1) ((macH (xs (i + 1)) (fillP (xs (i + 1)) kn mkey (st, blk, n) dg) (fillH (xs (i + 1)) kn mkey (st, blk, n))).2.1) m8 sin rt (fillD (xs (i + 1)) kn mkey (st, blk, n) dg) mres)) H := hP
          have hD : va_D A ((wD cI cB q L (nI L) rdy (nI kn) (xs (i + 1)) (lN ((macH (xs (i + 1)) (fillP (xs (i + 1)) kn mkey (st, blk, n) dg) (fillH (xs (i + 1)) kn mkey (st, blk, n))).2.2)) (nI 1) (nI 1) (nI 0) key ((macH (xs (i + 1)) (fillP (xs (i + 1)) kn mkey (st, blk, n) dg) (fillH (xs (i + 1)) kn mkey (st, blk, n))).1) a4 a5 a6 a7) ++ (wM cI cB r (nI L) rdy (nI kn) (xs (i + 1)) (nI 1) (lN 0) (xs (i + 1)) (lN ((macH (xs (i + 1)) (fillP (xs (i + 1)) kn mkey (st, blk, n) dg) (fillH (xs (i + 1)) kn mkey (st, blk, n))).2.2)) (nI 0) mkey m9 ((macH (xs (i + 1)) (fillP (xs (i + 1)) kn mkey (st, blk, n) dg) (fillH (xs (i + 1)) kn mkey (st, blk, n))).1) ((macH (xs (i + 1)) (fillP (xs (i + 1)) kn mkey (st, blk, n) dg) (fillH (xs (i + 1)) kn mkey (st, blk, n))).2.1) m8 sin rt (fillD (xs (i + 1)) kn mkey (st, blk, n) dg) mres)) := hD
          refine lv_icmp_eq (pc := 175) (tgt := 342) hx hb d_L_law_175 (by decide) (fun c9 => ?_) (fun c9 => ?_)
          · exact Jn (rdy, xs (i + 1), nI 1, nI 1, xs (i + 1), nI 1, kn, (macH (xs (i + 1)) (fillP (xs (i + 1)) kn mkey (st, blk, n) dg) (fillH (xs (i + 1)) kn mkey (st, blk, n))).2.2, 0, 0, key, (macH (xs (i + 1)) (fillP (xs (i + 1)) kn mkey (st, blk, n) dg) (fillH (xs (i + 1)) kn mkey (st, blk, n))).1, a4, a5, a6, a7, mkey, m9, (macH (xs (i + 1)) (fillP (xs (i + 1)) kn mkey (st, blk, n) dg) (fillH (xs (i + 1)) kn mkey (st, blk, n))).2.1, m8, (fillD (xs (i + 1)) kn mkey (st, blk, n) dg), mres) _ _ _ ⟨ls, rfl, lv_sub hl [0, 1, 2, 3] rfl, hP, hD, hS, (show kn ≤ L from hkn), (show 0 ≤ 20 from Nat.zero_le _), (show ((macH (xs (i + 1)) (fillP (xs (i + 1)) kn mkey (st, blk, n) dg) (fillH (xs (i + 1)) kn mkey (st, blk, n))).2.2) ≤ 20000 * (i + 6) from by rw [macH_n]; omega), (show R8 key mkey from k8), (show sb_Fit key from fk), (show R8 a4 ((macH (xs (i + 1)) (fillP (xs (i + 1)) kn mkey (st, blk, n) dg) (fillH (xs (i + 1)) kn mkey (st, blk, n))).2.1) from h8n), (show R8 a7 (fillD (xs (i + 1)) kn mkey (st, blk, n) dg) from r8n), (show sb_Fit a7 from frn), (show ∀ j, j < 0 → mres j = (fillD (xs (i + 1)) kn mkey (st, blk, n) dg) j from fun j h => absurd h (Nat.not_lt_zero _)), (show OCP (nI 1) (xs (i + 1)) (xs (i + 1)) (nI 1) (nI 1) ((macH (xs (i + 1)) (fillP (xs (i + 1)) kn mkey (st, blk, n) dg) (fillH (xs (i + 1)) kn mkey (st, blk, n))).2.2) 0 a6 m9 from Or.inr ⟨by decide, may_ne d0, rfl, rfl, Or.inr ⟨by decide, by rw [macH_n], fun k hk => (p8 k hk).trans (pM k hk).symm⟩⟩)⟩
          · exact absurd rfl c9
      · refine lv_tableIn (pc := 43) (tgt := 180) (off := 137) hx hb d_L_law_43 (by decide) (by decide) rfl (by decide) ?_
        refine lv_aload_n (pc := 180) hx hb d_L_law_180 rfl (lv_at hl 1 rfl) ?_
        refine lv_aload_n (pc := 181) hx hb d_L_law_181 rfl (lv_at hl 0 rfl) ?_
        refine lv_iload_n (pc := 182) hx hb d_L_law_182 rfl (lv_at hl 3 rfl) ?_
        refine lv_iconst (pc := 183) (v := (nI 1)) hx hb d_L_law_183 (by decide) ?_
        refine xi_add (pc := 184) hx hb d_L_law_184 ?_
        refine xsld (pc := 185) hx hb hX hbl hbA hS (show i + 1 < NL by omega) (by omega) d_L_law_185 ?_
        refine kiG (pc := 186) (As := [.int (xs (i + 1))]) (rest := []) (wr := (wM cI cB r (nI L) rdy (nI kn) mo mm2 (lN bn) alg (lN n) (nI rn) mkey pad st blk w sin rt dg mres)) (ci := 0) ⟨hx, hb, hml, hown, hts⟩ (c_D_update l dC dI cI cB q H.size L (nI L) rdy (nI kn) alg opn mac (nI rn) key st buf wds fil res blk n (xs (i + 1)) (by omega) h8) (cwV 1 hts g_L_38 rfl rfl rfl hd_D_update ⟨by decide, by decide⟩) hK hP hD hS hA hST [0, 1, 2, 3, 4, 5, 6] [7, 8, 9, 10, 11, 12, 13, 14, 15, 16] rfl rfl (by decide) (by decide) (by decide) rfl rfl rfl hl.1 rfl (Nat.le_of_ble_eq_true rfl) d_L_law_186 ⟨by decide, by decide⟩ (fun rD uD H locs hwD hP hD hS => ?_)
        have hP : va_P (dC, dI) classes ((wM cI cB r (nI L) rdy (nI kn) mo mm2 (lN bn) alg (lN n) (nI rn) mkey pad st blk w sin rt dg mres) ++ (wD cI cB q L (nI L) rdy (nI kn) alg (lN uD.2.2.2) opn mac (nI rn) key uD.1 uD.2.1 uD.2.2.1 fil res)) H := hP
        have hD : va_D A ((wM cI cB r (nI L) rdy (nI kn) mo mm2 (lN bn) alg (lN n) (nI rn) mkey pad st blk w sin rt dg mres) ++ (wD cI cB q L (nI L) rdy (nI kn) alg (lN uD.2.2.2) opn mac (nI rn) key uD.1 uD.2.1 uD.2.2.1 fil res)) := hD
        refine lv_aload_n (pc := 189) hx hb d_L_law_189 rfl (lv_at hl 2 rfl) ?_
        refine lv_aload_n (pc := 190) hx hb d_L_law_190 rfl (lv_at hl 0 rfl) ?_
        refine lv_iload_n (pc := 191) hx hb d_L_law_191 rfl (lv_at hl 3 rfl) ?_
        refine lv_iconst (pc := 192) (v := (nI 1)) hx hb d_L_law_192 (by decide) ?_
        refine xi_add (pc := 193) hx hb d_L_law_193 ?_
        refine xsld (pc := 194) hx hb hX hbl hbA hS (show i + 1 < NL by omega) (by omega) d_L_law_194 ?_
        refine kiG (pc := 195) (As := [.int (xs (i + 1))]) (rest := [.int rD]) (wr := (wD cI cB q L (nI L) rdy (nI kn) alg (lN uD.2.2.2) opn mac (nI rn) key uD.1 uD.2.1 uD.2.2.1 fil res)) (ci := 1) ⟨hx, hb, hml, hown, hts⟩ (c_M_update l dC dI cI cB r H.size (nI L) rdy (nI kn) mo mm2 alg (nI rn) mkey pad st blk w sin rt dg mres n bn (xs (i + 1)) (by omega) hsin hrt) (cwV 1 hts g_L_41 rfl rfl rfl hd_M_update ⟨by decide, by decide⟩) hK hP hD hS hA hST [0, 1, 2, 3, 4, 5, 6, 7, 8, 9] [10, 11, 12, 13, 14, 15, 16] rfl rfl (by decide) (by decide) (by decide) rfl rfl rfl hl.1 rfl (Nat.le_of_ble_eq_true rfl) d_L_law_195 ⟨by decide, by decide⟩ (fun rM uM H locs hwM hP hD hS => ?_)
        have hP : va_P (dC, dI) classes ((wD cI cB q L (nI L) rdy (nI kn) alg (lN uD.2.2.2) opn mac (nI rn) key uD.1 uD.2.1 uD.2.2.1 fil res) ++ (wM cI cB r (nI L) rdy (nI kn) mo mm2 (lN uM.2.2.2.2) alg (lN uM.2.2.2.1) (nI rn) mkey pad uM.1 uM.2.1 uM.2.2.1 sin rt dg mres)) H := hP
        have hD : va_D A ((wD cI cB q L (nI L) rdy (nI kn) alg (lN uD.2.2.2) opn mac (nI rn) key uD.1 uD.2.1 uD.2.2.1 fil res) ++ (wM cI cB r (nI L) rdy (nI kn) mo mm2 (lN uM.2.2.2.2) alg (lN uM.2.2.2.1) (nI rn) mkey pad uM.1 uM.2.1 uM.2.2.1 sin rt dg mres)) := hD
        rcases hwD with ⟨e1, d0, e2⟩ | ⟨e1, d0, e2⟩ <;> rcases hwM with ⟨f1, g0, f2⟩ | ⟨f1, g0, f2⟩
        · subst e2
          subst f2
          subst e1
          subst f1
          have hP : va_P (dC, dI) classes ((wD cI cB q L (nI L) rdy (nI kn) alg (lN n) opn mac (nI rn) key st buf wds fil res) ++ (wM cI cB r (nI L) rdy (nI kn) mo mm2 (lN bn) alg (lN n) (nI rn) mkey pad st blk w sin rt dg mres)) H := hP
          have hD : va_D A ((wD cI cB q L (nI L) rdy (nI kn) alg (lN n) opn mac (nI rn) key st buf wds fil res) ++ (wM cI cB r (nI L) rdy (nI kn) mo mm2 (lN bn) alg (lN n) (nI rn) mkey pad st blk w sin rt dg mres)) := hD
          refine lv_icmp_eq (pc := 198) (tgt := 342) hx hb d_L_law_198 (by decide) (fun c9 => ?_) (fun c9 => ?_)
          · exact Jn (rdy, alg, opn, mac, mo, mm2, kn, n, rn, bn, key, st, buf, wds, fil, res, mkey, pad, blk, w, dg, mres) _ _ _ ⟨ls, rfl, lv_sub hl [0, 1, 2, 3] rfl, hP, hD, hS, (show kn ≤ L from hkn), (show rn ≤ 20 from hrn), (show n ≤ 20000 * (i + 6) from by omega), (show R8 key mkey from k8), (show sb_Fit key from fk), (show R8 buf blk from h8), (show R8 res dg from r8), (show sb_Fit res from fr), (show ∀ j, j < rn → mres j = dg j from hres), (show OCP opn mo alg mac mm2 n bn fil pad from oc)⟩
          · exact absurd rfl c9
        · exact absurd ((up_iff (oc_iff oc)).mpr g0) d0
        · exact absurd ((up_iff (oc_iff oc)).mp d0) g0
        · obtain ⟨a1, a2, a3, a4⟩ := uD
          obtain ⟨m1, m2, m3, m4, m5⟩ := uM
          dsimp only at e2 f2
          obtain ⟨rfl, h8n, rfl⟩ := e2
          obtain ⟨rfl, rfl, f3⟩ := f2
          cases f3
          subst e1
          subst f1
          have hP : va_P (dC, dI) classes ((wD cI cB q L (nI L) rdy (nI kn) alg (lN (n + 1)) opn mac (nI rn) key ((hput alg (xs (i + 1)) (st, blk, n)).1) a2 a3 fil res) ++ (wM cI cB r (nI L) rdy (nI kn) mo mm2 (lN (bn + 1)) alg (lN (n + 1)) (nI rn) mkey pad ((hput alg (xs (i + 1)) (st, blk, n)).1) ((hput alg (xs (i + 1)) (st, blk, n)).2.1) m3 sin rt dg mres)) H := hP
          have hD : va_D A ((wD cI cB q L (nI L) rdy (nI kn) alg (lN (n + 1)) opn mac (nI rn) key ((hput alg (xs (i + 1)) (st, blk, n)).1) a2 a3 fil res) ++ (wM cI cB r (nI L) rdy (nI kn) mo mm2 (lN (bn + 1)) alg (lN (n + 1)) (nI rn) mkey pad ((hput alg (xs (i + 1)) (st, blk, n)).1) ((hput alg (xs (i + 1)) (st, blk, n)).2.1) m3 sin rt dg mres)) := hD
          refine lv_icmp_eq (pc := 198) (tgt := 342) hx hb d_L_law_198 (by decide) (fun c9 => ?_) (fun c9 => ?_)
          · exact Jn (rdy, alg, opn, mac, mo, mm2, kn, n + 1, rn, bn + 1, key, (hput alg (xs (i + 1)) (st, blk, n)).1, a2, a3, fil, res, mkey, pad, (hput alg (xs (i + 1)) (st, blk, n)).2.1, m3, dg, mres) _ _ _ ⟨ls, rfl, lv_sub hl [0, 1, 2, 3] rfl, hP, hD, hS, (show kn ≤ L from hkn), (show rn ≤ 20 from hrn), (show (n + 1) ≤ 20000 * (i + 6) from by omega), (show R8 key mkey from k8), (show sb_Fit key from fk), (show R8 a2 ((hput alg (xs (i + 1)) (st, blk, n)).2.1) from h8n), (show R8 res dg from r8), (show sb_Fit res from fr), (show ∀ j, j < rn → mres j = dg j from hres), (show OCP opn mo alg mac mm2 (n + 1) (bn + 1) fil pad from oc_add oc 1)⟩
          · exact absurd rfl c9
      · refine lv_tableIn (pc := 43) (tgt := 203) (off := 160) hx hb d_L_law_43 (by decide) (by decide) rfl (by decide) ?_
        refine lv_aload_n (pc := 203) hx hb d_L_law_203 rfl (lv_at hl 1 rfl) ?_
        refine lv_aload_n (pc := 204) hx hb d_L_law_204 rfl (lv_at hl 0 rfl) ?_
        refine lv_iload_n (pc := 205) hx hb d_L_law_205 rfl (lv_at hl 3 rfl) ?_
        refine lv_iconst (pc := 206) (v := (nI 1)) hx hb d_L_law_206 (by decide) ?_
        refine xi_add (pc := 207) hx hb d_L_law_207 ?_
        refine xsld (pc := 208) hx hb hX hbl hbA hS (show i + 1 < NL by omega) (by omega) d_L_law_208 ?_
        refine lv_aload_n (pc := 209) hx hb d_L_law_209 rfl (lv_at hl 0 rfl) ?_
        refine lv_iload_n (pc := 210) hx hb d_L_law_210 rfl (lv_at hl 3 rfl) ?_
        refine lv_iconst (pc := 211) (v := (nI 2)) hx hb d_L_law_211 (by decide) ?_
        refine xi_add (pc := 212) hx hb d_L_law_212 ?_
        refine xsld (pc := 213) hx hb hX hbl hbA hS (show i + 2 < NL by omega) (by omega) d_L_law_213 ?_
        refine lv_aload_n (pc := 214) hx hb d_L_law_214 rfl (lv_at hl 0 rfl) ?_
        refine lv_iload_n (pc := 215) hx hb d_L_law_215 rfl (lv_at hl 3 rfl) ?_
        refine lv_iconst (pc := 216) (v := (nI 3)) hx hb d_L_law_216 (by decide) ?_
        refine xi_add (pc := 217) hx hb d_L_law_217 ?_
        refine xsld (pc := 218) hx hb hX hbl hbA hS (show i + 3 < NL by omega) (by omega) d_L_law_218 ?_
        refine lv_aload_n (pc := 219) hx hb d_L_law_219 rfl (lv_at hl 0 rfl) ?_
        refine lv_iload_n (pc := 220) hx hb d_L_law_220 rfl (lv_at hl 3 rfl) ?_
        refine lv_iconst (pc := 221) (v := (nI 4)) hx hb d_L_law_221 (by decide) ?_
        refine xi_add (pc := 222) hx hb d_L_law_222 ?_
        refine xsld (pc := 223) hx hb hX hbl hbA hS (show i + 4 < NL by omega) (by omega) d_L_law_223 ?_
        refine lv_aload_n (pc := 224) hx hb d_L_law_224 rfl (lv_at hl 0 rfl) ?_
        refine lv_iload_n (pc := 225) hx hb d_L_law_225 rfl (lv_at hl 3 rfl) ?_
        refine lv_iconst (pc := 226) (v := (nI 5)) hx hb d_L_law_226 (by decide) ?_
        refine xi_add (pc := 227) hx hb d_L_law_227 ?_
        refine xsld (pc := 228) hx hb hX hbl hbA hS (show i + 5 < NL by omega) (by omega) d_L_law_228 ?_
        refine kiG (pc := 229) (As := [.int (xs (i + 1)), .int (xs (i + 2)), .int (xs (i + 3)), .int (xs (i + 4)), .int (xs (i + 5))]) (rest := []) (wr := (wM cI cB r (nI L) rdy (nI kn) mo mm2 (lN bn) alg (lN n) (nI rn) mkey pad st blk w sin rt dg mres)) (ci := 0) ⟨hx, hb, hml, hown, hts⟩ (c_D_pour l dC dI cI cB q H.size L (nI L) rdy (nI kn) alg opn mac (nI rn) key st buf wds fil res blk n (xs (i + 1)) (xs (i + 2)) (xs (i + 3)) (xs (i + 4)) (xs (i + 5)) (by omega) h8) (cwV 5 hts g_L_42 rfl rfl rfl hd_D_pour ⟨by decide, by decide⟩) hK hP hD hS hA hST [0, 1, 2, 3, 4, 5, 6] [7, 8, 9, 10, 11, 12, 13, 14, 15, 16] rfl rfl (by decide) (by decide) (by decide) rfl rfl rfl hl.1 rfl (Nat.le_of_ble_eq_true rfl) d_L_law_229 ⟨by decide, by decide⟩ (fun rD uD H locs hwD hP hD hS => ?_)
        have hP : va_P (dC, dI) classes ((wM cI cB r (nI L) rdy (nI kn) mo mm2 (lN bn) alg (lN n) (nI rn) mkey pad st blk w sin rt dg mres) ++ (wD cI cB q L (nI L) rdy (nI kn) alg (lN uD.2.2.2) opn mac (nI rn) key uD.1 uD.2.1 uD.2.2.1 fil res)) H := hP
        have hD : va_D A ((wM cI cB r (nI L) rdy (nI kn) mo mm2 (lN bn) alg (lN n) (nI rn) mkey pad st blk w sin rt dg mres) ++ (wD cI cB q L (nI L) rdy (nI kn) alg (lN uD.2.2.2) opn mac (nI rn) key uD.1 uD.2.1 uD.2.2.1 fil res)) := hD
        refine lv_aload_n (pc := 232) hx hb d_L_law_232 rfl (lv_at hl 2 rfl) ?_
        refine lv_aload_n (pc := 233) hx hb d_L_law_233 rfl (lv_at hl 0 rfl) ?_
        refine lv_iload_n (pc := 234) hx hb d_L_law_234 rfl (lv_at hl 3 rfl) ?_
        refine lv_iconst (pc := 235) (v := (nI 1)) hx hb d_L_law_235 (by decide) ?_
        refine xi_add (pc := 236) hx hb d_L_law_236 ?_
        refine xsld (pc := 237) hx hb hX hbl hbA hS (show i + 1 < NL by omega) (by omega) d_L_law_237 ?_
        refine lv_aload_n (pc := 238) hx hb d_L_law_238 rfl (lv_at hl 0 rfl) ?_
        refine lv_iload_n (pc := 239) hx hb d_L_law_239 rfl (lv_at hl 3 rfl) ?_
        refine lv_iconst (pc := 240) (v := (nI 2)) hx hb d_L_law_240 (by decide) ?_
        refine xi_add (pc := 241) hx hb d_L_law_241 ?_
        refine xsld (pc := 242) hx hb hX hbl hbA hS (show i + 2 < NL by omega) (by omega) d_L_law_242 ?_
        refine lv_aload_n (pc := 243) hx hb d_L_law_243 rfl (lv_at hl 0 rfl) ?_
        refine lv_iload_n (pc := 244) hx hb d_L_law_244 rfl (lv_at hl 3 rfl) ?_
        refine lv_iconst (pc := 245) (v := (nI 3)) hx hb d_L_law_245 (by decide) ?_
        refine xi_add (pc := 246) hx hb d_L_law_246 ?_
        refine xsld (pc := 247) hx hb hX hbl hbA hS (show i + 3 < NL by omega) (by omega) d_L_law_247 ?_
        refine lv_aload_n (pc := 248) hx hb d_L_law_248 rfl (lv_at hl 0 rfl) ?_
        refine lv_iload_n (pc := 249) hx hb d_L_law_249 rfl (lv_at hl 3 rfl) ?_
        refine lv_iconst (pc := 250) (v := (nI 4)) hx hb d_L_law_250 (by decide) ?_
        refine xi_add (pc := 251) hx hb d_L_law_251 ?_
        refine xsld (pc := 252) hx hb hX hbl hbA hS (show i + 4 < NL by omega) (by omega) d_L_law_252 ?_
        refine lv_aload_n (pc := 253) hx hb d_L_law_253 rfl (lv_at hl 0 rfl) ?_
        refine lv_iload_n (pc := 254) hx hb d_L_law_254 rfl (lv_at hl 3 rfl) ?_
        refine lv_iconst (pc := 255) (v := (nI 5)) hx hb d_L_law_255 (by decide) ?_
        refine xi_add (pc := 256) hx hb d_L_law_256 ?_
        refine xsld (pc := 257) hx hb hX hbl hbA hS (show i + 5 < NL by omega) (by omega) d_L_law_257 ?_
        refine kiG (pc := 258) (As := [.int (xs (i + 1)), .int (xs (i + 2)), .int (xs (i + 3)), .int (xs (i + 4)), .int (xs (i + 5))]) (rest := [.int rD]) (wr := (wD cI cB q L (nI L) rdy (nI kn) alg (lN uD.2.2.2) opn mac (nI rn) key uD.1 uD.2.1 uD.2.2.1 fil res)) (ci := 1) ⟨hx, hb, hml, hown, hts⟩ (c_M_pour l dC dI cI cB r H.size (nI L) rdy (nI kn) mo mm2 alg (nI rn) mkey pad st blk w sin rt dg mres n bn (xs (i + 1)) (xs (i + 2)) (xs (i + 3)) (xs (i + 4)) (xs (i + 5)) (by omega) hsin hrt) (cwV 5 hts g_L_46 rfl rfl rfl hd_M_pour ⟨by decide, by decide⟩) hK hP hD hS hA hST [0, 1, 2, 3, 4, 5, 6, 7, 8, 9] [10, 11, 12, 13, 14, 15, 16] rfl rfl (by decide) (by decide) (by decide) rfl rfl rfl hl.1 rfl (Nat.le_of_ble_eq_true rfl) d_L_law_258 ⟨by decide, by decide⟩ (fun rM uM H locs hwM hP hD hS => ?_)
        have hP : va_P (dC, dI) classes ((wD cI cB q L (nI L) rdy (nI kn) alg (lN uD.2.2.2) opn mac (nI rn) key uD.1 uD.2.1 uD.2.2.1 fil res) ++ (wM cI cB r (nI L) rdy (nI kn) mo mm2 (lN uM.2.2.2.2) alg (lN uM.2.2.2.1) (nI rn) mkey pad uM.1 uM.2.1 uM.2.2.1 sin rt dg mres)) H := hP
        have hD : va_D A ((wD cI cB q L (nI L) rdy (nI kn) alg (lN uD.2.2.2) opn mac (nI rn) key uD.1 uD.2.1 uD.2.2.1 fil res) ++ (wM cI cB r (nI L) rdy (nI kn) mo mm2 (lN uM.2.2.2.2) alg (lN uM.2.2.2.1) (nI rn) mkey pad uM.1 uM.2.1 uM.2.2.1 sin rt dg mres)) := hD
        rcases hwD with ⟨e1, d0, e2⟩ | ⟨e1, d0, e2⟩ <;> rcases hwM with ⟨f1, g0, f2⟩ | ⟨f1, g0, f2⟩
        · subst e2
          subst f2
          subst e1
          subst f1
          have hP : va_P (dC, dI) classes ((wD cI cB q L (nI L) rdy (nI kn) alg (lN n) opn mac (nI rn) key st buf wds fil res) ++ (wM cI cB r (nI L) rdy (nI kn) mo mm2 (lN bn) alg (lN n) (nI rn) mkey pad st blk w sin rt dg mres)) H := hP
          have hD : va_D A ((wD cI cB q L (nI L) rdy (nI kn) alg (lN n) opn mac (nI rn) key st buf wds fil res) ++ (wM cI cB r (nI L) rdy (nI kn) mo mm2 (lN bn) alg (lN n) (nI rn) mkey pad st blk w sin rt dg mres)) := hD
          refine lv_icmp_eq (pc := 261) (tgt := 342) hx hb d_L_law_261 (by decide) (fun c9 => ?_) (fun c9 => ?_)
          · exact Jn (rdy, alg, opn, mac, mo, mm2, kn, n, rn, bn, key, st, buf, wds, fil, res, mkey, pad, blk, w, dg, mres) _ _ _ ⟨ls, rfl, lv_sub hl [0, 1, 2, 3] rfl, hP, hD, hS, (show kn ≤ L from hkn), (show rn ≤ 20 from hrn), (show n ≤ 20000 * (i + 6) from by omega), (show R8 key mkey from k8), (show sb_Fit key from fk), (show R8 buf blk from h8), (show R8 res dg from r8), (show sb_Fit res from fr), (show ∀ j, j < rn → mres j = dg j from hres), (show OCP opn mo alg mac mm2 n bn fil pad from oc)⟩
          · exact absurd rfl c9
        · exact absurd ((po_iff (oc_iff oc)).mpr g0) d0
        · exact absurd ((po_iff (oc_iff oc)).mp d0) g0
        · obtain ⟨a1, a2, a3, a4⟩ := uD
          obtain ⟨m1, m2, m3, m4, m5⟩ := uM
          dsimp only at e2 f2
          obtain ⟨rfl, h8n, rfl⟩ := e2
          obtain ⟨rfl, rfl, f3⟩ := f2
          cases f3
          have hpl := po_le d0
          have hpn : (pourH alg (pourB (xs (i + 1)) (xs (i + 2)) (xs (i + 3))) (xs (i + 4)).toNatClampNeg (st, blk, n) (xs (i + 5)).toNatClampNeg).2.2 = n + ((xs (i + 4)).toNatClampNeg * (xs (i + 5)).toNatClampNeg) := pourH_n _ _ _ _ _
          subst e1
          subst f1
          have hP : va_P (dC, dI) classes ((wD cI cB q L (nI L) rdy (nI kn) alg (lN ((pourH alg (pourB (xs (i + 1)) (xs (i + 2)) (xs (i + 3))) (xs (i + 4)).toNatClampNeg (st, blk, n) (xs (i + 5)).toNatClampNeg).2.2)) opn mac (nI rn) key ((pourH alg (pourB (xs (i + 1)) (xs (i + 2)) (xs (i + 3))) (xs (i + 4)).toNatClampNeg (st, blk, n) (xs (i + 5)).toNatClampNeg).1) a2 a3 fil res) ++ (wM cI cB r (nI L) rdy (nI kn) mo mm2 (lN (bn + ((xs (i + 4)).toNatClampNeg * (xs (i + 5)).toNatClampNeg))) alg (lN ((pourH alg (pourB (xs (i + 1)) (xs (i + 2)) (xs (i + 3))) (xs (i + 4)).toNatClampNeg (st, blk, n) (xs (i + 5)).toNatClampNeg).2.2)) (nI rn) mkey pad ((pourH alg (pourB (xs (i + 1)) (xs (i + 2)) (xs (i + 3))) (xs (i + 4)).toNatClampNeg (st, blk, n) (xs (i + 5)).toNatClampNeg).1) ((pourH alg (pourB (xs (i + 1)) (xs (i + 2)) (xs (i + 3))) (xs (i + 4)).toNatClampNeg (st, blk, n) (xs (i + 5)).toNatClampNeg).2.1) m3 sin rt dg mres)) H := hP
          have hD : va_D A ((wD cI cB q L (nI L) rdy (nI kn) alg (lN ((pourH alg (pourB (xs (i + 1)) (xs (i + 2)) (xs (i + 3))) (xs (i + 4)).toNatClampNeg (st, blk, n) (xs (i + 5)).toNatClampNeg).2.2)) opn mac (nI rn) key ((pourH alg (pourB (xs (i + 1)) (xs (i + 2)) (xs (i + 3))) (xs (i + 4)).toNatClampNeg (st, blk, n) (xs (i + 5)).toNatClampNeg).1) a2 a3 fil res) ++ (wM cI cB r (nI L) rdy (nI kn) mo mm2 (lN (bn + ((xs (i + 4)).toNatClampNeg * (xs (i + 5)).toNatClampNeg))) alg (lN ((pourH alg (pourB (xs (i + 1)) (xs (i + 2)) (xs (i + 3))) (xs (i + 4)).toNatClampNeg (st, blk, n) (xs (i + 5)).toNatClampNeg).2.2)) (nI rn) mkey pad ((pourH alg (pourB (xs (i + 1)) (xs (i + 2)) (xs (i + 3))) (xs (i + 4)).toNatClampNeg (st, blk, n) (xs (i + 5)).toNatClampNeg).1) ((pourH alg (pourB (xs (i + 1)) (xs (i + 2)) (xs (i + 3))) (xs (i + 4)).toNatClampNeg (st, blk, n) (xs (i + 5)).toNatClampNeg).2.1) m3 sin rt dg mres)) := hD
          refine lv_icmp_eq (pc := 261) (tgt := 342) hx hb d_L_law_261 (by decide) (fun c9 => ?_) (fun c9 => ?_)
          · exact Jn (rdy, alg, opn, mac, mo, mm2, kn, (pourH alg (pourB (xs (i + 1)) (xs (i + 2)) (xs (i + 3))) (xs (i + 4)).toNatClampNeg (st, blk, n) (xs (i + 5)).toNatClampNeg).2.2, rn, bn + ((xs (i + 4)).toNatClampNeg * (xs (i + 5)).toNatClampNeg), key, (pourH alg (pourB (xs (i + 1)) (xs (i + 2)) (xs (i + 3))) (xs (i + 4)).toNatClampNeg (st, blk, n) (xs (i + 5)).toNatClampNeg).1, a2, a3, fil, res, mkey, pad, (pourH alg (pourB (xs (i + 1)) (xs (i + 2)) (xs (i + 3))) (xs (i + 4)).toNatClampNeg (st, blk, n) (xs (i + 5)).toNatClampNeg).2.1, m3, dg, mres) _ _ _ ⟨ls, rfl, lv_sub hl [0, 1, 2, 3] rfl, hP, hD, hS, (show kn ≤ L from hkn), (show rn ≤ 20 from hrn), (show ((pourH alg (pourB (xs (i + 1)) (xs (i + 2)) (xs (i + 3))) (xs (i + 4)).toNatClampNeg (st, blk, n) (xs (i + 5)).toNatClampNeg).2.2) ≤ 20000 * (i + 6) from by rw [hpn]; omega), (show R8 key mkey from k8), (show sb_Fit key from fk), (show R8 a2 ((pourH alg (pourB (xs (i + 1)) (xs (i + 2)) (xs (i + 3))) (xs (i + 4)).toNatClampNeg (st, blk, n) (xs (i + 5)).toNatClampNeg).2.1) from h8n), (show R8 res dg from r8), (show sb_Fit res from fr), (show ∀ j, j < rn → mres j = dg j from hres), (show OCP opn mo alg mac mm2 ((pourH alg (pourB (xs (i + 1)) (xs (i + 2)) (xs (i + 3))) (xs (i + 4)).toNatClampNeg (st, blk, n) (xs (i + 5)).toNatClampNeg).2.2) (bn + ((xs (i + 4)).toNatClampNeg * (xs (i + 5)).toNatClampNeg)) fil pad from by rw [hpn]; exact oc_add oc _)⟩
          · exact absurd rfl c9
      · refine lv_tableIn (pc := 43) (tgt := 266) (off := 223) hx hb d_L_law_43 (by decide) (by decide) rfl (by decide) ?_
        refine lv_aload_n (pc := 266) hx hb d_L_law_266 rfl (lv_at hl 1 rfl) ?_
        refine kiG (pc := 267) (As := []) (rest := []) (wr := (wM cI cB r (nI L) rdy (nI kn) mo mm2 (lN bn) alg (lN n) (nI rn) mkey pad st blk w sin rt dg mres)) (ci := 0) ⟨hx, hb, hml, hown, hts⟩ (c_D_finish l dC dI cI cB q H.size L (nI L) rdy (nI kn) alg opn mac (nI rn) key st buf wds fil res blk dg pad n (by omega) h8 r8 fr (fun c1 c2 => oc_pad oc c1 c2)) (cwV 0 hts g_L_47 rfl rfl rfl hd_D_finish ⟨by decide, by decide⟩) hK hP hD hS hA hST [0, 1, 2, 3, 4, 5, 6] [7, 8, 9, 10, 11, 12, 13, 14, 15, 16] rfl rfl (by decide) (by decide) (by decide) rfl rfl rfl hl.1 rfl (Nat.le_of_ble_eq_true rfl) d_L_law_267 ⟨by decide, by decide⟩ (fun rD uD H locs hwD hP hD hS => ?_)
        have hP : va_P (dC, dI) classes ((wM cI cB r (nI L) rdy (nI kn) mo mm2 (lN bn) alg (lN n) (nI rn) mkey pad st blk w sin rt dg mres) ++ (wD cI cB q L (nI L) rdy uD.1 alg (lN uD.2.1) uD.2.2.2.2.2.2.1 mac uD.2.2.2.2.2.2.2 key uD.2.2.1 uD.2.2.2.1 uD.2.2.2.2.1 fil uD.2.2.2.2.2.1)) H := hP
        have hD : va_D A ((wM cI cB r (nI L) rdy (nI kn) mo mm2 (lN bn) alg (lN n) (nI rn) mkey pad st blk w sin rt dg mres) ++ (wD cI cB q L (nI L) rdy uD.1 alg (lN uD.2.1) uD.2.2.2.2.2.2.1 mac uD.2.2.2.2.2.2.2 key uD.2.2.1 uD.2.2.2.1 uD.2.2.2.2.1 fil uD.2.2.2.2.2.1)) := hD
        refine lv_aload_n (pc := 270) hx hb d_L_law_270 rfl (lv_at hl 2 rfl) ?_
        refine kiG (pc := 271) (As := []) (rest := [.int rD]) (wr := (wD cI cB q L (nI L) rdy uD.1 alg (lN uD.2.1) uD.2.2.2.2.2.2.1 mac uD.2.2.2.2.2.2.2 key uD.2.2.1 uD.2.2.2.1 uD.2.2.2.2.1 fil uD.2.2.2.2.2.1)) (ci := 1) ⟨hx, hb, hml, hown, hts⟩ (c_M_finish l dC dI cI cB r H.size (nI L) rdy (nI kn) mo mm2 alg (nI rn) (lN bn) mkey pad st blk w sin rt dg mres n (by omega) (fun c1 => (oc_open oc (fun z => c1 ((oc_iff oc).mp z))).2.1) hsin hrt) (cwV 0 hts g_L_51 rfl rfl rfl hd_M_finish ⟨by decide, by decide⟩) hK hP hD hS hA hST [0, 1, 2, 3, 4, 5, 6, 7, 8, 9] [10, 11, 12, 13, 14, 15, 16] rfl rfl (by decide) (by decide) (by decide) rfl rfl rfl hl.1 rfl (Nat.le_of_ble_eq_true rfl) d_L_law_271 ⟨by decide, by decide⟩ (fun rM uM H locs hwM hP hD hS => ?_)
        have hP : va_P (dC, dI) classes ((wD cI cB q L (nI L) rdy uD.1 alg (lN uD.2.1) uD.2.2.2.2.2.2.1 mac uD.2.2.2.2.2.2.2 key uD.2.2.1 uD.2.2.2.1 uD.2.2.2.2.1 fil uD.2.2.2.2.2.1) ++ (wM cI cB r (nI L) rdy uM.1 uM.2.1 mm2 (lN bn) alg (lN uM.2.2.2.2.2.2.2.2) uM.2.2.1 mkey pad uM.2.2.2.1 uM.2.2.2.2.1 uM.2.2.2.2.2.1 sin rt uM.2.2.2.2.2.2.1 uM.2.2.2.2.2.2.2.1)) H := hP
        have hD : va_D A ((wD cI cB q L (nI L) rdy uD.1 alg (lN uD.2.1) uD.2.2.2.2.2.2.1 mac uD.2.2.2.2.2.2.2 key uD.2.2.1 uD.2.2.2.1 uD.2.2.2.2.1 fil uD.2.2.2.2.2.1) ++ (wM cI cB r (nI L) rdy uM.1 uM.2.1 mm2 (lN bn) alg (lN uM.2.2.2.2.2.2.2.2) uM.2.2.1 mkey pad uM.2.2.2.1 uM.2.2.2.2.1 uM.2.2.2.2.2.1 sin rt uM.2.2.2.2.2.2.1 uM.2.2.2.2.2.2.2.1)) := hD
        rcases hwD with ⟨e1, d0, e2⟩ | ⟨e1, d0, e2⟩ <;> rcases hwM with ⟨f1, g0, f2⟩ | ⟨f1, g0, f2⟩
        · subst e2
          subst f2
          subst e1
          subst f1
          have hP : va_P (dC, dI) classes ((wD cI cB q L (nI L) rdy (nI kn) alg (lN n) opn mac (nI rn) key st buf wds fil res) ++ (wM cI cB r (nI L) rdy (nI kn) mo mm2 (lN bn) alg (lN n) (nI rn) mkey pad st blk w sin rt dg mres)) H := hP
          have hD : va_D A ((wD cI cB q L (nI L) rdy (nI kn) alg (lN n) opn mac (nI rn) key st buf wds fil res) ++ (wM cI cB r (nI L) rdy (nI kn) mo mm2 (lN bn) alg (lN n) (nI rn) mkey pad st blk w sin rt dg mres)) := hD
          refine lv_icmp_eq (pc := 274) (tgt := 342) hx hb d_L_law_274 (by decide) (fun c9 => ?_) (fun c9 => ?_)
          · exact Jn (rdy, alg, opn, mac, mo, mm2, kn, n, rn, bn, key, st, buf, wds, fil, res, mkey, pad, blk, w, dg, mres) _ _ _ ⟨ls, rfl, lv_sub hl [0, 1, 2, 3] rfl, hP, hD, hS, (show kn ≤ L from hkn), (show rn ≤ 20 from hrn), (show n ≤ 20000 * (i + 6) from by omega), (show R8 key mkey from k8), (show sb_Fit key from fk), (show R8 buf blk from h8), (show R8 res dg from r8), (show sb_Fit res from fr), (show ∀ j, j < rn → mres j = dg j from hres), (show OCP opn mo alg mac mm2 n bn fil pad from oc)⟩
          · exact absurd rfl c9
        · exact absurd ((oc_iff oc).mp d0) g0
        · exact absurd ((oc_iff oc).mpr g0) d0
        · have hmm := (oc_open oc d0).2.2.1
          subst hmm
          obtain ⟨a1, a2, a3, a4, a5, a6, a7, a8⟩ := uD
          obtain ⟨m1, m2, m3, m4, m5, m6, m7, m8, m9⟩ := uM
          dsimp only at e2 f2
          obtain ⟨e3, rfl, rfl, h8n, r8n, frn, rfl, rfl⟩ := e2
          obtain ⟨f3, rfl, rfl, rfl, rfl, rfl, hresn, rfl⟩ := f2
          have hfn := finH_n alg mac pad (st, blk, n) dg
          have hle := hlen_le alg
          by_cases cm : mac = 0
          · rw [if_pos cm] at e3 f3
            subst e3
            subst f3
            subst e1
            subst f1
            have hP : va_P (dC, dI) classes ((wD cI cB q L (nI L) rdy (nI kn) alg (lN ((finH alg mac pad (st, blk, n) dg).2.2)) (nI 0) mac (nI (hlen alg)) key ((finH alg mac pad (st, blk, n) dg).1) a4 a5 fil a6) ++ (wM cI cB r (nI L) rdy (nI kn) (-1) mac (lN bn) alg (lN ((finH alg mac pad (st, blk, n) dg).2.2)) (nI (hlen alg)) mkey pad ((finH alg mac pad (st, blk, n) dg).1) ((finH alg mac pad (st, blk, n) dg).2.1) m6 sin rt (finD alg mac pad (st, blk, n) dg) m8)) H := hP
            have hD : va_D A ((wD cI cB q L (nI L) rdy (nI kn) alg (lN ((finH alg mac pad (st, blk, n) dg).2.2)) (nI 0) mac (nI (hlen alg)) key ((finH alg mac pad (st, blk, n) dg).1) a4 a5 fil a6) ++ (wM cI cB r (nI L) rdy (nI kn) (-1) mac (lN bn) alg (lN ((finH alg mac pad (st, blk, n) dg).2.2)) (nI (hlen alg)) mkey pad ((finH alg mac pad (st, blk, n) dg).1) ((finH alg mac pad (st, blk, n) dg).2.1) m6 sin rt (finD alg mac pad (st, blk, n) dg) m8)) := hD
            refine lv_icmp_eq (pc := 274) (tgt := 342) hx hb d_L_law_274 (by decide) (fun c9 => ?_) (fun c9 => ?_)
            · exact Jn (rdy, alg, nI 0, mac, (-1), mac, kn, (finH alg mac pad (st, blk, n) dg).2.2, hlen alg, bn, key, (finH alg mac pad (st, blk, n) dg).1, a4, a5, fil, a6, mkey, pad, (finH alg mac pad (st, blk, n) dg).2.1, m6, (finD alg mac pad (st, blk, n) dg), m8) _ _ _ ⟨ls, rfl, lv_sub hl [0, 1, 2, 3] rfl, hP, hD, hS, (show kn ≤ L from hkn), (show (hlen alg) ≤ 20 from hle), (show ((finH alg mac pad (st, blk, n) dg).2.2) ≤ 20000 * (i + 6) from Nat.le_trans hfn (by show n + 400 ≤ 20000 * (i + 6); omega)), (show R8 key mkey from k8), (show sb_Fit key from fk), (show R8 a4 ((finH alg mac pad (st, blk, n) dg).2.1) from h8n), (show R8 a6 (finD alg mac pad (st, blk, n) dg) from r8n), (show sb_Fit a6 from frn), (show ∀ j, j < (hlen alg) → m8 j = (finD alg mac pad (st, blk, n) dg) j from hresn), (show OCP (nI 0) (-1) alg mac mac ((finH alg mac pad (st, blk, n) dg).2.2) bn fil pad from Or.inl ⟨rfl, rfl⟩)⟩
            · exact absurd rfl c9
          · rw [if_neg cm] at e3 f3
            subst e3
            subst f3
            subst e1
            subst f1
            have hP : va_P (dC, dI) classes ((wD cI cB q L (nI L) rdy (nI 0) alg (lN ((finH alg mac pad (st, blk, n) dg).2.2)) (nI 0) mac (nI (hlen alg)) key ((finH alg mac pad (st, blk, n) dg).1) a4 a5 fil a6) ++ (wM cI cB r (nI L) rdy (nI 0) (-1) mac (lN bn) alg (lN ((finH alg mac pad (st, blk, n) dg).2.2)) (nI (hlen alg)) mkey pad ((finH alg mac pad (st, blk, n) dg).1) ((finH alg mac pad (st, blk, n) dg).2.1) m6 sin rt (finD alg mac pad (st, blk, n) dg) m8)) H := hP
            have hD : va_D A ((wD cI cB q L (nI L) rdy (nI 0) alg (lN ((finH alg mac pad (st, blk, n) dg).2.2)) (nI 0) mac (nI (hlen alg)) key ((finH alg mac pad (st, blk, n) dg).1) a4 a5 fil a6) ++ (wM cI cB r (nI L) rdy (nI 0) (-1) mac (lN bn) alg (lN ((finH alg mac pad (st, blk, n) dg).2.2)) (nI (hlen alg)) mkey pad ((finH alg mac pad (st, blk, n) dg).1) ((finH alg mac pad (st, blk, n) dg).2.1) m6 sin rt (finD alg mac pad (st, blk, n) dg) m8)) := hD
            refine lv_icmp_eq (pc := 274) (tgt := 342) hx hb d_L_law_274 (by decide) (fun c9 => ?_) (fun c9 => ?_)
            · exact Jn (rdy, alg, nI 0, mac, (-1), mac, 0, (finH alg mac pad (st, blk, n) dg).2.2, hlen alg, bn, key, (finH alg mac pad (st, blk, n) dg).1, a4, a5, fil, a6, mkey, pad, (finH alg mac pad (st, blk, n) dg).2.1, m6, (finD alg mac pad (st, blk, n) dg), m8) _ _ _ ⟨ls, rfl, lv_sub hl [0, 1, 2, 3] rfl, hP, hD, hS, (show 0 ≤ L from Nat.zero_le _), (show (hlen alg) ≤ 20 from hle), (show ((finH alg mac pad (st, blk, n) dg).2.2) ≤ 20000 * (i + 6) from Nat.le_trans hfn (by show n + 400 ≤ 20000 * (i + 6); omega)), (show R8 key mkey from k8), (show sb_Fit key from fk), (show R8 a4 ((finH alg mac pad (st, blk, n) dg).2.1) from h8n), (show R8 a6 (finD alg mac pad (st, blk, n) dg) from r8n), (show sb_Fit a6 from frn), (show ∀ j, j < (hlen alg) → m8 j = (finD alg mac pad (st, blk, n) dg) j from hresn), (show OCP (nI 0) (-1) alg mac mac ((finH alg mac pad (st, blk, n) dg).2.2) bn fil pad from Or.inl ⟨rfl, rfl⟩)⟩
            · exact absurd rfl c9
      · refine lv_tableIn (pc := 43) (tgt := 279) (off := 236) hx hb d_L_law_43 (by decide) (by decide) rfl (by decide) ?_
        refine lv_aload_n (pc := 279) hx hb d_L_law_279 rfl (lv_at hl 1 rfl) ?_
        refine lv_aload_n (pc := 280) hx hb d_L_law_280 rfl (lv_at hl 0 rfl) ?_
        refine lv_iload_n (pc := 281) hx hb d_L_law_281 rfl (lv_at hl 3 rfl) ?_
        refine lv_iconst (pc := 282) (v := (nI 1)) hx hb d_L_law_282 (by decide) ?_
        refine xi_add (pc := 283) hx hb d_L_law_283 ?_
        refine xsld (pc := 284) hx hb hX hbl hbA hS (show i + 1 < NL by omega) (by omega) d_L_law_284 ?_
        refine kiG (pc := 285) (As := [.int (xs (i + 1))]) (rest := []) (wr := (wM cI cB r (nI L) rdy (nI kn) mo mm2 (lN bn) alg (lN n) (nI rn) mkey pad st blk w sin rt dg mres)) (ci := 0) ⟨hx, hb, hml, hown, hts⟩ (c_D_out l dC dI cI cB q H.size L (nI L) rdy (nI kn) alg opn mac (lN n) key st buf wds fil res rn dg (xs (i + 1)) hrn r8) (cwV 1 hts g_L_52 rfl rfl rfl hd_D_out ⟨by decide, by decide⟩) hK hP hD hS hA hST [0, 1, 2, 3, 4, 5, 6] [7, 8, 9, 10, 11, 12, 13, 14, 15, 16] rfl rfl (by decide) (by decide) (by decide) rfl rfl rfl hl.1 rfl (Nat.le_of_ble_eq_true rfl) d_L_law_285 ⟨by decide, by decide⟩ (fun rD uD H locs hwD hP hD hS => ?_)
        have hP : va_P (dC, dI) classes ((wM cI cB r (nI L) rdy (nI kn) mo mm2 (lN bn) alg (lN n) (nI rn) mkey pad st blk w sin rt dg mres) ++ (wD cI cB q L (nI L) rdy (nI kn) alg (lN n) opn mac (nI rn) key st buf wds fil res)) H := hP
        have hD : va_D A ((wM cI cB r (nI L) rdy (nI kn) mo mm2 (lN bn) alg (lN n) (nI rn) mkey pad st blk w sin rt dg mres) ++ (wD cI cB q L (nI L) rdy (nI kn) alg (lN n) opn mac (nI rn) key st buf wds fil res)) := hD
        refine lv_aload_n (pc := 288) hx hb d_L_law_288 rfl (lv_at hl 2 rfl) ?_
        refine lv_aload_n (pc := 289) hx hb d_L_law_289 rfl (lv_at hl 0 rfl) ?_
        refine lv_iload_n (pc := 290) hx hb d_L_law_290 rfl (lv_at hl 3 rfl) ?_
        refine lv_iconst (pc := 291) (v := (nI 1)) hx hb d_L_law_291 (by decide) ?_
        refine xi_add (pc := 292) hx hb d_L_law_292 ?_
        refine xsld (pc := 293) hx hb hX hbl hbA hS (show i + 1 < NL by omega) (by omega) d_L_law_293 ?_
        refine kiG (pc := 294) (As := [.int (xs (i + 1))]) (rest := [.int rD]) (wr := (wD cI cB q L (nI L) rdy (nI kn) alg (lN n) opn mac (nI rn) key st buf wds fil res)) (ci := 1) ⟨hx, hb, hml, hown, hts⟩ (c_M_out l dC dI cI cB r H.size (nI L) rdy (nI kn) mo mm2 alg (lN bn) (lN n) mkey pad st blk w sin rt dg mres rn (xs (i + 1)) hrn hres) (cwV 1 hts g_L_56 rfl rfl rfl hd_M_out ⟨by decide, by decide⟩) hK hP hD hS hA hST [0, 1, 2, 3, 4, 5, 6, 7, 8, 9] [10, 11, 12, 13, 14, 15, 16] rfl rfl (by decide) (by decide) (by decide) rfl rfl rfl hl.1 rfl (Nat.le_of_ble_eq_true rfl) d_L_law_294 ⟨by decide, by decide⟩ (fun rM uM H locs hwM hP hD hS => ?_)
        have hP : va_P (dC, dI) classes ((wD cI cB q L (nI L) rdy (nI kn) alg (lN n) opn mac (nI rn) key st buf wds fil res) ++ (wM cI cB r (nI L) rdy (nI kn) mo mm2 (lN bn) alg (lN n) (nI rn) mkey pad st blk w sin rt dg mres)) H := hP
        have hD : va_D A ((wD cI cB q L (nI L) rdy (nI kn) alg (lN n) opn mac (nI rn) key st buf wds fil res) ++ (wM cI cB r (nI L) rdy (nI kn) mo mm2 (lN bn) alg (lN n) (nI rn) mkey pad st blk w sin rt dg mres)) := hD
        subst hwD
        subst hwM
        refine lv_icmp_eq (pc := 297) (tgt := 342) hx hb d_L_law_297 (by decide) (fun c9 => ?_) (fun c9 => ?_)
        · exact Jn (rdy, alg, opn, mac, mo, mm2, kn, n, rn, bn, key, st, buf, wds, fil, res, mkey, pad, blk, w, dg, mres) _ _ _ ⟨ls, rfl, lv_sub hl [0, 1, 2, 3] rfl, hP, hD, hS, (show kn ≤ L from hkn), (show rn ≤ 20 from hrn), (show n ≤ 20000 * (i + 6) from by omega), (show R8 key mkey from k8), (show sb_Fit key from fk), (show R8 buf blk from h8), (show R8 res dg from r8), (show sb_Fit res from fr), (show ∀ j, j < rn → mres j = dg j from hres), (show OCP opn mo alg mac mm2 n bn fil pad from oc)⟩
        · exact absurd rfl c9
      · refine lv_tableIn (pc := 43) (tgt := 302) (off := 259) hx hb d_L_law_43 (by decide) (by decide) rfl (by decide) ?_
        refine lv_aload_n (pc := 302) hx hb d_L_law_302 rfl (lv_at hl 1 rfl) ?_
        refine kiG (pc := 303) (As := []) (rest := []) (wr := (wM cI cB r (nI L) rdy (nI kn) mo mm2 (lN bn) alg (lN n) (nI rn) mkey pad st blk w sin rt dg mres)) (ci := 0) ⟨hx, hb, hml, hown, hts⟩ (c_D_outLen l dC dI cI cB q H.size L (nI L) rdy (nI kn) alg opn mac (nI rn) (lN n) key st buf wds fil res) (cwV 0 hts g_L_57 rfl rfl rfl hd_D_outLen ⟨by decide, by decide⟩) hK hP hD hS hA hST [0, 1, 2, 3, 4, 5, 6] [7, 8, 9, 10, 11, 12, 13, 14, 15, 16] rfl rfl (by decide) (by decide) (by decide) rfl rfl rfl hl.1 rfl (Nat.le_of_ble_eq_true rfl) d_L_law_303 ⟨by decide, by decide⟩ (fun rD uD H locs hwD hP hD hS => ?_)
        have hP : va_P (dC, dI) classes ((wM cI cB r (nI L) rdy (nI kn) mo mm2 (lN bn) alg (lN n) (nI rn) mkey pad st blk w sin rt dg mres) ++ (wD cI cB q L (nI L) rdy (nI kn) alg (lN n) opn mac (nI rn) key st buf wds fil res)) H := hP
        have hD : va_D A ((wM cI cB r (nI L) rdy (nI kn) mo mm2 (lN bn) alg (lN n) (nI rn) mkey pad st blk w sin rt dg mres) ++ (wD cI cB q L (nI L) rdy (nI kn) alg (lN n) opn mac (nI rn) key st buf wds fil res)) := hD
        refine lv_aload_n (pc := 306) hx hb d_L_law_306 rfl (lv_at hl 2 rfl) ?_
        refine kiG (pc := 307) (As := []) (rest := [.int rD]) (wr := (wD cI cB q L (nI L) rdy (nI kn) alg (lN n) opn mac (nI rn) key st buf wds fil res)) (ci := 1) ⟨hx, hb, hml, hown, hts⟩ (c_M_outLen l dC dI cI cB r H.size (nI L) rdy (nI kn) mo mm2 alg (nI rn) (lN bn) (lN n) mkey pad st blk w sin rt dg mres) (cwV 0 hts g_L_61 rfl rfl rfl hd_M_outLen ⟨by decide, by decide⟩) hK hP hD hS hA hST [0, 1, 2, 3, 4, 5, 6, 7, 8, 9] [10, 11, 12, 13, 14, 15, 16] rfl rfl (by decide) (by decide) (by decide) rfl rfl rfl hl.1 rfl (Nat.le_of_ble_eq_true rfl) d_L_law_307 ⟨by decide, by decide⟩ (fun rM uM H locs hwM hP hD hS => ?_)
        have hP : va_P (dC, dI) classes ((wD cI cB q L (nI L) rdy (nI kn) alg (lN n) opn mac (nI rn) key st buf wds fil res) ++ (wM cI cB r (nI L) rdy (nI kn) mo mm2 (lN bn) alg (lN n) (nI rn) mkey pad st blk w sin rt dg mres)) H := hP
        have hD : va_D A ((wD cI cB q L (nI L) rdy (nI kn) alg (lN n) opn mac (nI rn) key st buf wds fil res) ++ (wM cI cB r (nI L) rdy (nI kn) mo mm2 (lN bn) alg (lN n) (nI rn) mkey pad st blk w sin rt dg mres)) := hD
        subst hwD
        subst hwM
        refine lv_icmp_eq (pc := 310) (tgt := 342) hx hb d_L_law_310 (by decide) (fun c9 => ?_) (fun c9 => ?_)
        · exact Jn (rdy, alg, opn, mac, mo, mm2, kn, n, rn, bn, key, st, buf, wds, fil, res, mkey, pad, blk, w, dg, mres) _ _ _ ⟨ls, rfl, lv_sub hl [0, 1, 2, 3] rfl, hP, hD, hS, (show kn ≤ L from hkn), (show rn ≤ 20 from hrn), (show n ≤ 20000 * (i + 6) from by omega), (show R8 key mkey from k8), (show sb_Fit key from fk), (show R8 buf blk from h8), (show R8 res dg from r8), (show sb_Fit res from fr), (show ∀ j, j < rn → mres j = dg j from hres), (show OCP opn mo alg mac mm2 n bn fil pad from oc)⟩
        · exact absurd rfl c9
      · refine lv_tableIn (pc := 43) (tgt := 315) (off := 272) hx hb d_L_law_43 (by decide) (by decide) rfl (by decide) ?_
        refine lv_aload_n (pc := 315) hx hb d_L_law_315 rfl (lv_at hl 1 rfl) ?_
        refine kiG (pc := 316) (As := []) (rest := []) (wr := (wM cI cB r (nI L) rdy (nI kn) mo mm2 (lN bn) alg (lN n) (nI rn) mkey pad st blk w sin rt dg mres)) (ci := 0) ⟨hx, hb, hml, hown, hts⟩ (c_D_keyLen l dC dI cI cB q H.size L (nI L) rdy (nI kn) alg opn mac (nI rn) (lN n) key st buf wds fil res) (cwV 0 hts g_L_62 rfl rfl rfl hd_D_keyLen ⟨by decide, by decide⟩) hK hP hD hS hA hST [0, 1, 2, 3, 4, 5, 6] [7, 8, 9, 10, 11, 12, 13, 14, 15, 16] rfl rfl (by decide) (by decide) (by decide) rfl rfl rfl hl.1 rfl (Nat.le_of_ble_eq_true rfl) d_L_law_316 ⟨by decide, by decide⟩ (fun rD uD H locs hwD hP hD hS => ?_)
        have hP : va_P (dC, dI) classes ((wM cI cB r (nI L) rdy (nI kn) mo mm2 (lN bn) alg (lN n) (nI rn) mkey pad st blk w sin rt dg mres) ++ (wD cI cB q L (nI L) rdy (nI kn) alg (lN n) opn mac (nI rn) key st buf wds fil res)) H := hP
        have hD : va_D A ((wM cI cB r (nI L) rdy (nI kn) mo mm2 (lN bn) alg (lN n) (nI rn) mkey pad st blk w sin rt dg mres) ++ (wD cI cB q L (nI L) rdy (nI kn) alg (lN n) opn mac (nI rn) key st buf wds fil res)) := hD
        refine lv_aload_n (pc := 319) hx hb d_L_law_319 rfl (lv_at hl 2 rfl) ?_
        refine kiG (pc := 320) (As := []) (rest := [.int rD]) (wr := (wD cI cB q L (nI L) rdy (nI kn) alg (lN n) opn mac (nI rn) key st buf wds fil res)) (ci := 1) ⟨hx, hb, hml, hown, hts⟩ (c_M_keyLen l dC dI cI cB r H.size (nI L) rdy (nI kn) mo mm2 alg (nI rn) (lN bn) (lN n) mkey pad st blk w sin rt dg mres) (cwV 0 hts g_L_65 rfl rfl rfl hd_M_keyLen ⟨by decide, by decide⟩) hK hP hD hS hA hST [0, 1, 2, 3, 4, 5, 6, 7, 8, 9] [10, 11, 12, 13, 14, 15, 16] rfl rfl (by decide) (by decide) (by decide) rfl rfl rfl hl.1 rfl (Nat.le_of_ble_eq_true rfl) d_L_law_320 ⟨by decide, by decide⟩ (fun rM uM H locs hwM hP hD hS => ?_)
        have hP : va_P (dC, dI) classes ((wD cI cB q L (nI L) rdy (nI kn) alg (lN n) opn mac (nI rn) key st buf wds fil res) ++ (wM cI cB r (nI L) rdy (nI kn) mo mm2 (lN bn) alg (lN n) (nI rn) mkey pad st blk w sin rt dg mres)) H := hP
        have hD : va_D A ((wD cI cB q L (nI L) rdy (nI kn) alg (lN n) opn mac (nI rn) key st buf wds fil res) ++ (wM cI cB r (nI L) rdy (nI kn) mo mm2 (lN bn) alg (lN n) (nI rn) mkey pad st blk w sin rt dg mres)) := hD
        subst hwD
        subst hwM
        refine lv_icmp_eq (pc := 323) (tgt := 342) hx hb d_L_law_323 (by decide) (fun c9 => ?_) (fun c9 => ?_)
        · exact Jn (rdy, alg, opn, mac, mo, mm2, kn, n, rn, bn, key, st, buf, wds, fil, res, mkey, pad, blk, w, dg, mres) _ _ _ ⟨ls, rfl, lv_sub hl [0, 1, 2, 3] rfl, hP, hD, hS, (show kn ≤ L from hkn), (show rn ≤ 20 from hrn), (show n ≤ 20000 * (i + 6) from by omega), (show R8 key mkey from k8), (show sb_Fit key from fk), (show R8 buf blk from h8), (show R8 res dg from r8), (show sb_Fit res from fr), (show ∀ j, j < rn → mres j = dg j from hres), (show OCP opn mo alg mac mm2 n bn fil pad from oc)⟩
        · exact absurd rfl c9
      · refine lv_tableIn (pc := 43) (tgt := 328) (off := 285) hx hb d_L_law_43 (by decide) (by decide) rfl (by decide) ?_
        refine lv_aload_n (pc := 328) hx hb d_L_law_328 rfl (lv_at hl 1 rfl) ?_
        refine klG (pc := 329) (As := []) (rest := []) (wr := (wM cI cB r (nI L) rdy (nI kn) mo mm2 (lN bn) alg (lN n) (nI rn) mkey pad st blk w sin rt dg mres)) (ci := 0) ⟨hx, hb, hml, hown, hts⟩ (c_D_length l dC dI cI cB q H.size L (nI L) rdy (nI kn) alg opn mac (nI rn) key st buf wds fil res n (fun c1 c2 => oc_64 oc c1 c2)) (cwV 0 hts g_L_66 rfl rfl rfl hd_D_length ⟨by decide, by decide⟩) hK hP hD hS hA hST [0, 1, 2, 3, 4, 5, 6] [7, 8, 9, 10, 11, 12, 13, 14, 15, 16] rfl rfl (by decide) (by decide) (by decide) rfl rfl rfl hl.1 rfl (Nat.le_of_ble_eq_true rfl) d_L_law_329 ⟨by decide, by decide⟩ (fun rD uD H locs hwD hP hD hS => ?_)
        have hP : va_P (dC, dI) classes ((wM cI cB r (nI L) rdy (nI kn) mo mm2 (lN bn) alg (lN n) (nI rn) mkey pad st blk w sin rt dg mres) ++ (wD cI cB q L (nI L) rdy (nI kn) alg (lN n) opn mac (nI rn) key st buf wds fil res)) H := hP
        have hD : va_D A ((wM cI cB r (nI L) rdy (nI kn) mo mm2 (lN bn) alg (lN n) (nI rn) mkey pad st blk w sin rt dg mres) ++ (wD cI cB q L (nI L) rdy (nI kn) alg (lN n) opn mac (nI rn) key st buf wds fil res)) := hD
        refine lv_aload_n (pc := 332) hx hb d_L_law_332 rfl (lv_at hl 2 rfl) ?_
        refine klG (pc := 333) (As := []) (rest := [.long rD]) (wr := (wD cI cB q L (nI L) rdy (nI kn) alg (lN n) opn mac (nI rn) key st buf wds fil res)) (ci := 1) ⟨hx, hb, hml, hown, hts⟩ (c_M_length l dC dI cI cB r H.size (nI L) rdy (nI kn) mo mm2 alg (nI rn) (lN bn) (lN n) mkey pad st blk w sin rt dg mres) (cwV 0 hts g_L_70 rfl rfl rfl hd_M_length ⟨by decide, by decide⟩) hK hP hD hS hA hST [0, 1, 2, 3, 4, 5, 6, 7, 8, 9] [10, 11, 12, 13, 14, 15, 16] rfl rfl (by decide) (by decide) (by decide) rfl rfl rfl hl.1 rfl (Nat.le_of_ble_eq_true rfl) d_L_law_333 ⟨by decide, by decide⟩ (fun rM uM H locs hwM hP hD hS => ?_)
        have hP : va_P (dC, dI) classes ((wD cI cB q L (nI L) rdy (nI kn) alg (lN n) opn mac (nI rn) key st buf wds fil res) ++ (wM cI cB r (nI L) rdy (nI kn) mo mm2 (lN bn) alg (lN n) (nI rn) mkey pad st blk w sin rt dg mres)) H := hP
        have hD : va_D A ((wD cI cB q L (nI L) rdy (nI kn) alg (lN n) opn mac (nI rn) key st buf wds fil res) ++ (wM cI cB r (nI L) rdy (nI kn) mo mm2 (lN bn) alg (lN n) (nI rn) mkey pad st blk w sin rt dg mres)) := hD
        refine W.lcmp (pc := 336) hx hb d_L_law_336 ?_
        refine lv_if_eq (pc := 337) (tgt := 342) hx hb d_L_law_337 (by decide) (fun c9 => ?_) (fun c9 => ?_)
        · exact Jn (rdy, alg, opn, mac, mo, mm2, kn, n, rn, bn, key, st, buf, wds, fil, res, mkey, pad, blk, w, dg, mres) _ _ _ ⟨ls, rfl, lv_sub hl [0, 1, 2, 3] rfl, hP, hD, hS, (show kn ≤ L from hkn), (show rn ≤ 20 from hrn), (show n ≤ 20000 * (i + 6) from by omega), (show R8 key mkey from k8), (show sb_Fit key from fk), (show R8 buf blk from h8), (show R8 res dg from r8), (show sb_Fit res from fr), (show ∀ j, j < rn → mres j = dg j from hres), (show OCP opn mo alg mac mm2 n bn fil pad from oc)⟩
        · exact absurd ((lg_cmp_eq _ _).mpr (by rw [hwD, hwM]; exact oc_len oc)) c9
      · refine lv_tableOut (pc := 43) (tgt := 342) hx hb d_L_law_43 (Or.inr (by rw [nI_toInt (by omega)]; omega)) (by decide) ?_
        exact Jn (rdy, alg, opn, mac, mo, mm2, kn, n, rn, bn, key, st, buf, wds, fil, res, mkey, pad, blk, w, dg, mres) _ _ _ ⟨ls, rfl, lv_sub hl [0, 1, 2, 3] rfl, hP, hD, hS, (show kn ≤ L from hkn), (show rn ≤ 20 from hrn), (show n ≤ 20000 * (i + 6) from by omega), (show R8 key mkey from k8), (show sb_Fit key from fk), (show R8 buf blk from h8), (show R8 res dg from r8), (show sb_Fit res from fr), (show ∀ j, j < rn → mres j = dg j from hres), (show OCP opn mo alg mac mm2 n bn fil pad from oc)⟩
end
section
set_option maxHeartbeats 4000000 in
theorem lw_walk (l : Launch) (b : Addr) (xs : List Int32) : MetFree l x (headSpec (Jvm.Cond.code x code maxLocals ret :: tables_1) room_1) (lw_P b xs) (fun _ _ _ _ _ => True) lw_Q := by
  refine MetFree.of_bodyS (code := code) (maxLocals := maxLocals) (ret := ret) (by decide) ?_ ?_
  · intro args s m h hn
    obtain ⟨meth, c, h1, h2, h3, h4, h5, h6, -, -⟩ := Cond.code_spec hn (atoms_spec (ws := Jvm.Cond.code x code maxLocals ret :: tables_1) h _ List.mem_cons_self)
    exact ⟨meth, c, h1, h2, h3, h4, h5, h6⟩
  · intro p e s m args below meth c s₁ B hml0 hP _
    obtain ⟨rfl, hx, hbd, hgv⟩ := hP
    obtain ⟨scr, harrAt, hlist, hof, hsmall⟩ := hx
    obtain ⟨hcb, hkn, -, -⟩ := State.arrayAt?_spec harrAt
    have hown : s.vm.findClass R_law = some m.cls := findClass_of_methodNamed B.named
    have hts0 : ∀ c ∈ (Jvm.Cond.code x code maxLocals ret :: tables_1), c.before #[Value.ref b] s = true := atoms_spec (ws := Jvm.Cond.code x code maxLocals ret :: tables_1) B.pre
    have hts : ∀ w ∈ lw_tbl, w.before #[Value.ref b] s = true := k2_hts_sels lw_privs (fun w hw => hts0 w (List.mem_cons_of_mem _ hw)) lw_privs_ok
    have hml : c.maxLocals = 4 := B.maxLocals_eq (hts0 _ List.mem_cons_self)
    have X₀ : Stand p l e room_1 s m #[Value.ref b] below meth c s₁ [] 0 0 := Stand.of_body B
    have hh0 : s₁.heap = s.heap := by rw [B.state]; rfl
    have hsz : scr.slots.size = xs.length := by rw [← Array.length_toList, hlist, List.length_map]
    have hval : ∀ j : Nat, j < xs.length → scr.slots[j]? = some (.int (xs.getD j 0)) := fun j hj => by
      rw [← Array.getElem?_toList, hlist]
      simp [hj]
    have hbl : b < s.heap.size := (Array.getElem?_eq_some_iff.mp hcb).1
    have hX : va_X b xs.length (fun j => xs.getD j 0) s s.heap := ⟨scr, hcb, hof, hkn, hsz, hval⟩
    have K : W p l e room_1 s m #[Value.ref b] below meth c s₁.heap [] 0 0 (lw_Z below #[Value.ref b] s) (entryFrame m ([Value.ref b] : List Value).toArray 4) := by
      rw [hh0]
      exact whole_start l hbd ⟨B.exec, B.bytes, B.returns, hml, hown, hts, hX, hbl, B.notSynchronized, hgv⟩
    obtain ⟨t, a1, o, b1, b2, b3⟩ := K s₁ rfl X₀
    exact ⟨t, o, a1, b1, b2, b3⟩
theorem lw_pre_spec {args : Array Value} {s : State} (h : (Jvm.Cond.and given_1 narrow_1).before args s = true) (hr : rest_1_c.before args s = true) : ∃ (b : Addr) (xs : List Int32), lw_P b xs args s := by
  have hs := flat_of_before _ h
  have hq := flat_of_before _ hr
  have hc : (Cond.count 1).before args s = true := hs _ (by decide +kernel)
  have harr : (Cond.arrayOf (.arg 0) .int).before args s = true := hs _ (by decide +kernel)
  have hle : (Cond.le (.length (.arg 0)) (.int 3073)).before args s = true := hs _ (by decide +kernel)
  have hlen : (Cond.isInt (.length (.arg 0))).before args s = true := hq _ (by decide +kernel)
  have hall : (Cond.all (.arg 0) (.isInt (.elem (.arg 0) (.index 0)))).before args s = true := hq _ (by decide +kernel)
  obtain ⟨b, xs, hb, hx⟩ := State.ints_of_pre rfl harr hlen hall
  have hsm : xs.length < 2 ^ 31 := hx.choose_spec.2.2.2
  have hev : (Term.length (.arg 0)).eval args s none [] s = some (.int xs.length.toInt32) := hx.length_eval hb
  have hv := Cond.le_ints hev (show (Term.int 3073).eval args s none [] s = some (.int 3073) from rfl)
  have hd : xs.length.toInt32 ≤ 3073 := by
    simpa [Cond.before, Cond.holds, hv] using hle
  have hN : xs.length ≤ 3073 := (Int32.ofNat_le_ofNat hsm (by decide)).mp (show Int32.ofNat xs.length ≤ Int32.ofNat 3073 from hd)
  exact ⟨b, xs, Cond.one_arg hc (show args[0]? = some (.ref b) from hb), hx, hN, h⟩
theorem lw_comes (l : Launch) : Comes l x (Jvm.Cond.code x code maxLocals ret :: tables_1) room_1 (fun tb e args s => Calls_1 tb e args s ∧ rest_1 tb e args s ∧ Pre_1 tb e args s)
    (fun _ _ args s o t => lw_Q args s o t) := by
  intro p e ha hc hk s m args below hf hfit hheap happ hpre
  obtain ⟨b, xs, hP⟩ := lw_pre_spec hpre.2.2 hpre.2.1
  obtain ⟨k, o, h1, h2, h3, hQ⟩ := lw_walk l b xs p e ha hc hk s m args below hf ((Spec.applies_iff_loose hf).mp happ).1 hP trivial
  exact ⟨k, o, h1, h2, h3, hQ⟩
theorem lw_frame {s t : State} {o : Outcome} {args : Array Value} (h : Framed s o t [] 600000 7302250) :
    Framed s o t (fieldLocs frame_1_writes args s ++ arrayLocs frame_1_arrays args s ++ staticLocs frame_1_statics s) 600000 7302250 := h
theorem lw_limb (L : Cond) (hL : ∀ (args : Array Value) (s t : State), L.after args s (.returned (some (.int 1))) t = true) :
    ArmFor flags0 classFile x code maxLocals ret World_1 tables_1 room_1 Calls_1 rest_1 Pre_1
      (fun tb e a s o t => postC L tb e a s o t ∧ Framed s o t (fieldLocs frame_1_writes a s ++ arrayLocs frame_1_arrays a s ++ staticLocs frame_1_statics s) 600000 7302250) := by
  intro l _ _ _ p e ha hc hk s m args below hf hfit hheap happ hpre
  obtain ⟨k, o, h1, h2, h3, rfl, hF⟩ := lw_comes l p e ha hc hk s m args below hf hfit hheap happ hpre
  exact ⟨k, _, h1, h2, h3, hL args s _, lw_frame hF⟩
theorem i_vc : Claimed_1_1 ∧ Claimed_1_2 := ⟨lw_limb limb_1_1 (fun args s t => by simp [limb_1_1, Cond.after, Cond.holds, Cond.value]), lw_limb limb_1_2 (fun args s t => Cond.after_iff.mpr (by
  first | (rw [show limb_1_2 = Cond.eq .result (.int 1) from rfl, Cond.eq_ints (x := 1) (y := 1) rfl rfl]; simp; done) | (simp [limb_1_2, Cond.value, Term.eval]; done)))⟩
end
