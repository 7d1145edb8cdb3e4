section
-- PART A of the kit's skeleton (starting text): the tables' words
/-- what the tables say of a method that is asked for by its own name alone -/
def lw_okq (q : MethodName × Nat) : Prop := (q.1.cls ≠ "java/lang/invoke/MethodHandle" ∧ q.1.cls ≠ "java/lang/invoke/VarHandle") ∧ Cond.instantiable q.1.cls q.2 ∈ tables_1 ∧ Cond.privateMethod q.1 ∈ tables_1 ∧ Cond.instanceMethod q.1 ∈ tables_1
theorem lw_p0 : lw_okq (⟨"ControlFile$Controls", "mix", "(LControlFile$Control;II)V"⟩, 6) := ⟨⟨by decide +kernel, by decide +kernel⟩, List.mem_of_getElem? (i := 15) (by decide +kernel), List.mem_of_getElem? (i := 151) (by decide +kernel), List.mem_of_getElem? (i := 152) (by decide +kernel)⟩
theorem lw_p1 : lw_okq (⟨"ControlFileModel", "refusal", "(IZ)I"⟩, 6) := ⟨⟨by decide +kernel, by decide +kernel⟩, List.mem_of_getElem? (i := 192) (by decide +kernel), List.mem_of_getElem? (i := 253) (by decide +kernel), List.mem_of_getElem? (i := 254) (by decide +kernel)⟩
theorem lw_p2 : lw_okq (⟨"ControlFileModel", "has", "(II)Z"⟩, 6) := ⟨⟨by decide +kernel, by decide +kernel⟩, List.mem_of_getElem? (i := 192) (by decide +kernel), List.mem_of_getElem? (i := 257) (by decide +kernel), List.mem_of_getElem? (i := 258) (by decide +kernel)⟩
theorem lw_p3 : lw_okq (⟨"ControlFileModel", "tells", "(I)I"⟩, 6) := ⟨⟨by decide +kernel, by decide +kernel⟩, List.mem_of_getElem? (i := 192) (by decide +kernel), List.mem_of_getElem? (i := 261) (by decide +kernel), List.mem_of_getElem? (i := 262) (by decide +kernel)⟩
theorem lw_p4 : lw_okq (⟨"ControlFileModel", "write", "(II)V"⟩, 6) := ⟨⟨by decide +kernel, by decide +kernel⟩, List.mem_of_getElem? (i := 192) (by decide +kernel), List.mem_of_getElem? (i := 265) (by decide +kernel), List.mem_of_getElem? (i := 266) (by decide +kernel)⟩
theorem lw_p5 : lw_okq (⟨"ControlFileModel", "put", "(III)V"⟩, 6) := ⟨⟨by decide +kernel, by decide +kernel⟩, List.mem_of_getElem? (i := 192) (by decide +kernel), List.mem_of_getElem? (i := 269) (by decide +kernel), List.mem_of_getElem? (i := 270) (by decide +kernel)⟩
def lw_privs_1 : List (MethodName × Nat) := [(⟨"ControlFile$Controls", "mix", "(LControlFile$Control;II)V"⟩, 6), (⟨"ControlFileModel", "refusal", "(IZ)I"⟩, 6), (⟨"ControlFileModel", "has", "(II)Z"⟩, 6), (⟨"ControlFileModel", "tells", "(I)I"⟩, 6), (⟨"ControlFileModel", "write", "(II)V"⟩, 6), (⟨"ControlFileModel", "put", "(III)V"⟩, 6)]
theorem lw_r1 : ∀ q ∈ lw_privs_1, lw_okq q := List.forall_mem_cons.mpr ⟨lw_p0, List.forall_mem_cons.mpr ⟨lw_p1, List.forall_mem_cons.mpr ⟨lw_p2, List.forall_mem_cons.mpr ⟨lw_p3, List.forall_mem_cons.mpr ⟨lw_p4, List.forall_mem_cons.mpr ⟨lw_p5, fun _ h => absurd h List.not_mem_nil⟩⟩⟩⟩⟩⟩
def lw_privs : List (MethodName × Nat) := lw_privs_1
def lw_tbl : List Cond := k2_sels lw_privs ++ tables_1
theorem lw_privs_ok : ∀ q ∈ lw_privs, lw_okq q := lw_r1
-- the words that every method of this claim may use: the good ones of the tables
def lw_g : List Cond := lw_tbl.filter goodWord
def wd (y : MethodName) (b : ByteArray) (n : Nat) (r : Option FieldType) : List Cond := .code y b n r :: lw_g
theorem lw_in {w : Cond} (i : Nat) (h : lw_tbl[i]? = some w) (hg : goodWord w = true) : w ∈ lw_g := List.mem_filter.mpr ⟨List.mem_of_getElem? h, hg⟩
theorem lw_gd {w : Cond} (h : w ∈ lw_g) : w ∈ lw_g ∧ ((w.onTables && w.keeps) = true ∨ ∃ ty, w = .arrayClass ty) := ⟨h, good_of_word (List.mem_filter.mp h).2⟩
theorem gd_wd {y : MethodName} {b : ByteArray} {n : Nat} {r : Option FieldType} (h : Cond.code y b n r ∈ lw_g) : GoodIn lw_g (wd y b n r) := by
  intro w hw
  rcases List.mem_cons.mp hw with e | hw
  · rw [e]; exact lw_gd h
  · exact lw_gd hw
abbrev gdY (y : MethodName) (k : Nat) : Prop := y.cls ≠ "java/lang/invoke/MethodHandle" ∧ y.cls ≠ "java/lang/invoke/VarHandle" ∧ (parseMethodDescriptor y.desc).map (fun d => d.parameters.length) = some k
def gdV (own : String) (idx : Nat) (C : String) (y : MethodName) (b : ByteArray) (n : Nat) (r : Option FieldType) (k : Nat) : Prop := GoodIn lw_g (wsV own idx C y (wd y b n r)) ∧ y.cls = C ∧ gdY y k
def gdS (own : String) (idx : Nat) (y : MethodName) (b : ByteArray) (n : Nat) (r : Option FieldType) (k : Nat) : Prop := GoodIn lw_g (va_wsS own idx y (wd y b n r)) ∧ gdY y k
theorem gdV_of {own C : String} {idx : Nat} {y : MethodName} {b : ByteArray} {n : Nat} {r : Option FieldType} {k : Nat} (h1 : Cond.methodLink own idx y ∈ lw_g) (h2 : Cond.instanceMethod y ∈ lw_g) (h3 : Cond.selects C y y ∈ lw_g) (h4 : Cond.initialized C ∈ lw_g) (h5 : Cond.code y b n r ∈ lw_g) (h6 : y.cls = C) (h7 : gdY y k) : gdV own idx C y b n r k := by
  refine ⟨?_, h6, h7⟩
  intro w hw
  rcases List.mem_append.mp hw with hw | hw
  · simp only [List.mem_cons, List.not_mem_nil, or_false] at hw
    rcases hw with e | e | e | e <;> (rw [e]; apply lw_gd; assumption)
  · exact gd_wd h5 w hw
theorem gdS_of {own : String} {idx : Nat} {y : MethodName} {b : ByteArray} {n : Nat} {r : Option FieldType} {k : Nat} (h1 : Cond.methodLink own idx y ∈ lw_g) (h2 : Cond.static y ∈ lw_g) (h4 : Cond.initialized y.cls ∈ lw_g) (h5 : Cond.code y b n r ∈ lw_g) (h7 : gdY y k) : gdS own idx y b n r k := by
  refine ⟨?_, h7⟩
  intro w hw
  rcases List.mem_append.mp hw with hw | hw
  · simp only [List.mem_cons, List.not_mem_nil, or_false] at hw
    rcases hw with e | e | e <;> (rw [e]; apply lw_gd; assumption)
  · exact gd_wd h5 w hw

-- NAMES
abbrev cn_F : String := "ControlFile"
abbrev cn_M : String := "ControlFileModel"
abbrev cn_E : String := "ControlFile$Control"
abbrev cn_C : String := "ControlFile$Controls"
abbrev cn_N : String := "java/lang/Enum"
abbrev b_F_init : ByteArray := prog_1_method_1_code
abbrev y_F_init : MethodName := ⟨"ControlFile", "<init>", "()V"⟩
abbrev b_C_init : ByteArray := prog_3_method_1_code
abbrev y_C_init : MethodName := ⟨"ControlFile$Controls", "<init>", "()V"⟩
abbrev b_E_values : ByteArray := prog_2_method_1_code
abbrev y_E_values : MethodName := ⟨"ControlFile$Control", "values", "()[LControlFile$Control;"⟩
abbrev b_C_begin : ByteArray := prog_3_method_2_code
abbrev y_C_begin : MethodName := ⟨"ControlFile$Controls", "begin", "()V"⟩
abbrev b_F_begin : ByteArray := prog_1_method_2_code
abbrev y_F_begin : MethodName := ⟨"ControlFile", "begin", "()V"⟩
abbrev b_F_mode : ByteArray := prog_1_method_3_code
abbrev y_F_mode : MethodName := ⟨"ControlFile", "mode", "(I)I"⟩
abbrev b_F_time : ByteArray := prog_1_method_4_code
abbrev y_F_time : MethodName := ⟨"ControlFile", "time", "(J)J"⟩
abbrev b_F_alarm : ByteArray := prog_1_method_5_code
abbrev y_F_alarm : MethodName := ⟨"ControlFile", "alarm", "(J)J"⟩
abbrev b_F_line : ByteArray := prog_1_method_6_code
abbrev y_F_line : MethodName := ⟨"ControlFile", "line", "(Z)Z"⟩
abbrev b_F_access : ByteArray := prog_1_method_7_code
abbrev y_F_access : MethodName := ⟨"ControlFile", "access", "(III)I"⟩
abbrev b_C_refuses : ByteArray := prog_3_method_6_code
abbrev y_C_refuses : MethodName := ⟨"ControlFile$Controls", "refuses", "(IZ)I"⟩
abbrev b_C_of : ByteArray := prog_3_method_4_code
abbrev y_C_of : MethodName := ⟨"ControlFile$Controls", "of", "(I)LControlFile$Control;"⟩
abbrev b_E_isTime : ByteArray := prog_2_method_4_code
abbrev y_E_isTime : MethodName := ⟨"ControlFile$Control", "isTime", "()Z"⟩
abbrev b_C_has : ByteArray := prog_3_method_7_code
abbrev y_C_has : MethodName := ⟨"ControlFile$Controls", "has", "(LControlFile$Control;I)Z"⟩
abbrev b_N_ordinal : ByteArray := prog_7_method_2_code
abbrev y_N_ordinal : MethodName := ⟨"java/lang/Enum", "ordinal", "()I"⟩
abbrev b_E_isOfS : ByteArray := prog_2_method_5_code
abbrev y_E_isOfS : MethodName := ⟨"ControlFile$Control", "isOfS", "()Z"⟩
abbrev b_C_meant : ByteArray := prog_3_method_5_code
abbrev y_C_meant : MethodName := ⟨"ControlFile$Controls", "meant", "(I)LControlFile$Control;"⟩
abbrev b_C_get : ByteArray := prog_3_method_10_code
abbrev y_C_get : MethodName := ⟨"ControlFile$Controls", "get", "(LControlFile$Control;)I"⟩
abbrev b_C_raw : ByteArray := prog_3_method_8_code
abbrev y_C_raw : MethodName := ⟨"ControlFile$Controls", "raw", "(LControlFile$Control;)I"⟩
abbrev b_C_set : ByteArray := prog_3_method_12_code
abbrev y_C_set : MethodName := ⟨"ControlFile$Controls", "set", "(LControlFile$Control;I)V"⟩
abbrev b_C_mix : ByteArray := prog_3_method_11_code
abbrev y_C_mix : MethodName := ⟨"ControlFile$Controls", "mix", "(LControlFile$Control;II)V"⟩
abbrev b_C_put : ByteArray := prog_3_method_9_code
abbrev y_C_put : MethodName := ⟨"ControlFile$Controls", "put", "(LControlFile$Control;I)V"⟩
abbrev b_F_old : ByteArray := prog_1_method_8_code
abbrev y_F_old : MethodName := ⟨"ControlFile", "old", "()I"⟩
abbrev b_F_control : ByteArray := prog_1_method_9_code
abbrev y_F_control : MethodName := ⟨"ControlFile", "control", "(I)I"⟩
abbrev b_F_used : ByteArray := prog_1_method_10_code
abbrev y_F_used : MethodName := ⟨"ControlFile", "used", "()I"⟩
abbrev b_F_due : ByteArray := prog_1_method_11_code
abbrev y_F_due : MethodName := ⟨"ControlFile", "due", "()I"⟩
abbrev b_C_due : ByteArray := prog_3_method_14_code
abbrev y_C_due : MethodName := ⟨"ControlFile$Controls", "due", "()I"⟩
abbrev b_C_first : ByteArray := prog_3_method_13_code
abbrev y_C_first : MethodName := ⟨"ControlFile$Controls", "first", "(IIII)I"⟩
abbrev b_M_init : ByteArray := prog_5_method_1_code
abbrev y_M_init : MethodName := ⟨"ControlFileModel", "<init>", "()V"⟩
abbrev b_M_begin : ByteArray := prog_5_method_3_code
abbrev y_M_begin : MethodName := ⟨"ControlFileModel", "begin", "()V"⟩
abbrev b_M_mode : ByteArray := prog_5_method_4_code
abbrev y_M_mode : MethodName := ⟨"ControlFileModel", "mode", "(I)I"⟩
abbrev b_M_time : ByteArray := prog_5_method_5_code
abbrev y_M_time : MethodName := ⟨"ControlFileModel", "time", "(J)J"⟩
abbrev b_M_alarm : ByteArray := prog_5_method_6_code
abbrev y_M_alarm : MethodName := ⟨"ControlFileModel", "alarm", "(J)J"⟩
abbrev b_M_line : ByteArray := prog_5_method_7_code
abbrev y_M_line : MethodName := ⟨"ControlFileModel", "line", "(Z)Z"⟩
abbrev b_M_access : ByteArray := prog_5_method_17_code
abbrev y_M_access : MethodName := ⟨"ControlFileModel", "access", "(III)I"⟩
abbrev b_M_placeOf : ByteArray := prog_5_method_10_code
abbrev y_M_placeOf : MethodName := ⟨"ControlFileModel", "placeOf", "(I)I"⟩
abbrev b_M_hyperOf : ByteArray := prog_5_method_9_code
abbrev y_M_hyperOf : MethodName := ⟨"ControlFileModel", "hyperOf", "(I)I"⟩
abbrev b_M_kindOf : ByteArray := prog_5_method_8_code
abbrev y_M_kindOf : MethodName := ⟨"ControlFileModel", "kindOf", "(I)I"⟩
abbrev b_M_refusal : ByteArray := prog_5_method_16_code
abbrev y_M_refusal : MethodName := ⟨"ControlFileModel", "refusal", "(IZ)I"⟩
abbrev b_M_has : ByteArray := prog_5_method_11_code
abbrev y_M_has : MethodName := ⟨"ControlFileModel", "has", "(II)Z"⟩
abbrev b_M_tells : ByteArray := prog_5_method_12_code
abbrev y_M_tells : MethodName := ⟨"ControlFileModel", "tells", "(I)I"⟩
abbrev b_M_write : ByteArray := prog_5_method_15_code
abbrev y_M_write : MethodName := ⟨"ControlFileModel", "write", "(II)V"⟩
abbrev b_M_put : ByteArray := prog_5_method_13_code
abbrev y_M_put : MethodName := ⟨"ControlFileModel", "put", "(III)V"⟩
abbrev b_M_maskOf : ByteArray := prog_5_method_14_code
abbrev y_M_maskOf : MethodName := ⟨"ControlFileModel", "maskOf", "(I)I"⟩
abbrev b_M_old : ByteArray := prog_5_method_18_code
abbrev y_M_old : MethodName := ⟨"ControlFileModel", "old", "()I"⟩
abbrev b_M_control : ByteArray := prog_5_method_19_code
abbrev y_M_control : MethodName := ⟨"ControlFileModel", "control", "(I)I"⟩
abbrev b_M_used : ByteArray := prog_5_method_20_code
abbrev y_M_used : MethodName := ⟨"ControlFileModel", "used", "()I"⟩
abbrev b_M_due : ByteArray := prog_5_method_22_code
abbrev y_M_due : MethodName := ⟨"ControlFileModel", "due", "()I"⟩
abbrev b_M_firstOf : ByteArray := prog_5_method_21_code
abbrev y_M_firstOf : MethodName := ⟨"ControlFileModel", "firstOf", "(IIII)I"⟩
def fT_C : u_T := fun k => match k with
  | 0 => (cn_C, "all", "[LControlFile$Control;", true)
  | 1 => (cn_C, "values", "[I", true)
  | 2 => (cn_C, "mode", "I", false)
  | 3 => (cn_C, "time", "J", false)
  | 4 => (cn_C, "alarm", "J", false)
  | _ => (cn_C, "line", "Z", false)
def tT_C : Nat → FieldType := fun k => match k with
  | 0 => .array (.object "ControlFile$Control")
  | 1 => .array .int
  | 2 => .int
  | 3 => .long
  | 4 => .long
  | _ => .boolean
def fT_F : u_T := fun k => match k with
  | 0 => (cn_F, "controls", "LControlFile$Controls;", true)
  | _ => (cn_F, "old", "I", false)
def tT_F : Nat → FieldType := fun k => match k with
  | 0 => .object "ControlFile$Controls"
  | _ => .int
def fT_M : u_T := fun k => match k with
  | 0 => (cn_M, "kept", "[I", true)
  | 1 => (cn_M, "mode", "I", false)
  | 2 => (cn_M, "time", "J", false)
  | 3 => (cn_M, "alarm", "J", false)
  | 4 => (cn_M, "line", "Z", false)
  | _ => (cn_M, "old", "I", false)
def tT_M : Nat → FieldType := fun k => match k with
  | 0 => .array .int
  | 1 => .int
  | 2 => .long
  | 3 => .long
  | 4 => .boolean
  | _ => .int
abbrev cls_ : List vw_C := [(cn_C, fT_C, 6), (cn_F, fT_F, 2), (cn_M, fT_M, 6)]
theorem nn_C : ∀ a, a < 6 → ∀ b, b < 6 → a ≠ b → (fT_C a).2.1 ≠ (fT_C b).2.1 := by decide +kernel
theorem tt_C : ∀ k, k < 6 → parseFieldDescriptor (fT_C k).2.2.1 = some (tT_C k) := by decide +kernel
theorem in_C : ∀ w ∈ u_ws cn_C fT_C 6, w ∈ lw_g := by decide +kernel
theorem nn_F : ∀ a, a < 2 → ∀ b, b < 2 → a ≠ b → (fT_F a).2.1 ≠ (fT_F b).2.1 := by decide +kernel
theorem tt_F : ∀ k, k < 2 → parseFieldDescriptor (fT_F k).2.2.1 = some (tT_F k) := by decide +kernel
theorem in_F : ∀ w ∈ u_ws cn_F fT_F 2, w ∈ lw_g := by decide +kernel
theorem nn_M : ∀ a, a < 6 → ∀ b, b < 6 → a ≠ b → (fT_M a).2.1 ≠ (fT_M b).2.1 := by decide +kernel
theorem tt_M : ∀ k, k < 6 → parseFieldDescriptor (fT_M k).2.2.1 = some (tT_M k) := by decide +kernel
theorem in_M : ∀ w ∈ u_ws cn_M fT_M 6, w ∈ lw_g := by decide +kernel
theorem ki_L : Cond.initialized "ControlFileLaw" ∈ lw_g := lw_in 6 (by decide +kernel) rfl
theorem ki_F : Cond.initialized "ControlFile" ∈ lw_g := lw_in 7 (by decide +kernel) rfl
theorem ki_C : Cond.initialized "ControlFile$Controls" ∈ lw_g := lw_in 8 (by decide +kernel) rfl
theorem ki_N : Cond.initialized "java/lang/Enum" ∈ lw_g := lw_in 9 (by decide +kernel) rfl
theorem ki_E : Cond.initialized "ControlFile$Control" ∈ lw_g := lw_in 10 (by decide +kernel) rfl
theorem ki_M : Cond.initialized "ControlFileModel" ∈ lw_g := lw_in 11 (by decide +kernel) rfl
theorem kl_L_7 : Cond.classLink "ControlFileLaw" 7 "ControlFile" ∈ lw_g := lw_in 12 (by decide +kernel) rfl
theorem kn_F : Cond.instantiable "ControlFile" 2 ∈ lw_g := lw_in 13 (by decide +kernel) rfl
theorem km_L_9 : Cond.methodLink "ControlFileLaw" 9 ⟨"ControlFile", "<init>", "()V"⟩ ∈ lw_g := lw_in 14 (by decide +kernel) rfl
theorem ko_F_init : Cond.instanceMethod ⟨"ControlFile", "<init>", "()V"⟩ ∈ lw_g := lw_in 15 (by decide +kernel) rfl
theorem kc_F_init : Cond.code y_F_init b_F_init 1 none ∈ lw_g := lw_in 16 rfl rfl
theorem km_F_1 : Cond.methodLink "ControlFile" 1 ⟨"java/lang/Object", "<init>", "()V"⟩ ∈ lw_g := lw_in 17 (by decide +kernel) rfl
theorem ko_O_init : Cond.instanceMethod ⟨"java/lang/Object", "<init>", "()V"⟩ ∈ lw_g := lw_in 18 (by decide +kernel) rfl
theorem kc_O_init : Cond.code Lib.objectInit ⟨#[0xb1]⟩ 1 none ∈ lw_g := lw_in 19 rfl rfl
theorem kl_F_7 : Cond.classLink "ControlFile" 7 "ControlFile$Controls" ∈ lw_g := lw_in 20 (by decide +kernel) rfl
theorem kn_C : Cond.instantiable "ControlFile$Controls" 6 ∈ lw_g := lw_in 21 (by decide +kernel) rfl
theorem km_F_9 : Cond.methodLink "ControlFile" 9 ⟨"ControlFile$Controls", "<init>", "()V"⟩ ∈ lw_g := lw_in 22 (by decide +kernel) rfl
theorem ko_C_init : Cond.instanceMethod ⟨"ControlFile$Controls", "<init>", "()V"⟩ ∈ lw_g := lw_in 23 (by decide +kernel) rfl
theorem kc_C_init : Cond.code y_C_init b_C_init 1 none ∈ lw_g := lw_in 24 rfl rfl
theorem km_C_1 : Cond.methodLink "ControlFile$Controls" 1 ⟨"java/lang/Object", "<init>", "()V"⟩ ∈ lw_g := lw_in 25 (by decide +kernel) rfl
theorem km_C_7 : Cond.methodLink "ControlFile$Controls" 7 ⟨"ControlFile$Control", "values", "()[LControlFile$Control;"⟩ ∈ lw_g := lw_in 26 (by decide +kernel) rfl
theorem kt_E_values : Cond.static ⟨"ControlFile$Control", "values", "()[LControlFile$Control;"⟩ ∈ lw_g := lw_in 27 (by decide +kernel) rfl
theorem kc_E_values : Cond.code y_E_values b_E_values 0 (some (.array (.object "ControlFile$Control"))) ∈ lw_g := lw_in 28 rfl rfl
theorem kf_E_91 : Cond.fieldLink "ControlFile$Control" 91 "ControlFile$Control" "$VALUES" "[LControlFile$Control;" ∈ lw_g := lw_in 29 (by decide +kernel) rfl
theorem km_E_95 : Cond.methodLink "ControlFile$Control" 95 ⟨"[LControlFile$Control;", "clone", "()Ljava/lang/Object;"⟩ ∈ lw_g := lw_in 31 (by decide +kernel) rfl
theorem kw_Z_clone : Cond.sameMethod "[LControlFile$Control;" "java/lang/Object" "clone" "()Ljava/lang/Object;" ∈ lw_g := lw_in 32 (by decide +kernel) rfl
theorem kx_native : Cond.native ⟨"java/lang/Object", "clone", "()Ljava/lang/Object;"⟩ ∈ lw_g := lw_in 33 (by decide +kernel) rfl
theorem ko_O_clone : Cond.instanceMethod ⟨"java/lang/Object", "clone", "()Ljava/lang/Object;"⟩ ∈ lw_g := lw_in 34 (by decide +kernel) rfl
theorem ks_O_clone : Cond.selects "[LControlFile$Control;" ⟨"[LControlFile$Control;", "clone", "()Ljava/lang/Object;"⟩ ⟨"java/lang/Object", "clone", "()Ljava/lang/Object;"⟩ ∈ lw_g := lw_in 35 (by decide +kernel) rfl
theorem kl_E_96 : Cond.classLink "ControlFile$Control" 96 "[LControlFile$Control;" ∈ lw_g := lw_in 38 (by decide +kernel) rfl
theorem km_C_22 : Cond.methodLink "ControlFile$Controls" 22 ⟨"ControlFile$Controls", "begin", "()V"⟩ ∈ lw_g := lw_in 39 (by decide +kernel) rfl
theorem ko_C_begin : Cond.instanceMethod ⟨"ControlFile$Controls", "begin", "()V"⟩ ∈ lw_g := lw_in 40 (by decide +kernel) rfl
theorem ks_C_begin : Cond.selects "ControlFile$Controls" ⟨"ControlFile$Controls", "begin", "()V"⟩ ⟨"ControlFile$Controls", "begin", "()V"⟩ ∈ lw_g := lw_in 41 (by decide +kernel) rfl
theorem kc_C_begin : Cond.code y_C_begin b_C_begin 2 none ∈ lw_g := lw_in 42 rfl rfl
theorem kk_C_35 : Cond.constantLong "ControlFile$Controls" 35 9223372036854775807 ∈ lw_g := lw_in 43 (by decide +kernel) rfl
theorem kf_C_13 : Cond.fieldLink "ControlFile$Controls" 13 "ControlFile$Controls" "all" "[LControlFile$Control;" ∈ lw_g := lw_in 44 (by decide +kernel) rfl
theorem kf_C_19 : Cond.fieldLink "ControlFile$Controls" 19 "ControlFile$Controls" "values" "[I" ∈ lw_g := lw_in 46 (by decide +kernel) rfl
theorem kf_C_25 : Cond.fieldLink "ControlFile$Controls" 25 "ControlFile$Controls" "mode" "I" ∈ lw_g := lw_in 47 (by decide +kernel) rfl
theorem kf_C_29 : Cond.fieldLink "ControlFile$Controls" 29 "ControlFile$Controls" "time" "J" ∈ lw_g := lw_in 49 (by decide +kernel) rfl
theorem kf_C_37 : Cond.fieldLink "ControlFile$Controls" 37 "ControlFile$Controls" "alarm" "J" ∈ lw_g := lw_in 51 (by decide +kernel) rfl
theorem kf_C_40 : Cond.fieldLink "ControlFile$Controls" 40 "ControlFile$Controls" "line" "Z" ∈ lw_g := lw_in 53 (by decide +kernel) rfl
theorem kz_int : Cond.arrayClass .int ∈ lw_g := lw_in 68 (by decide +kernel) rfl
theorem kf_F_10 : Cond.fieldLink "ControlFile" 10 "ControlFile" "controls" "LControlFile$Controls;" ∈ lw_g := lw_in 69 (by decide +kernel) rfl
theorem kf_F_19 : Cond.fieldLink "ControlFile" 19 "ControlFile" "old" "I" ∈ lw_g := lw_in 70 (by decide +kernel) rfl
theorem km_L_13 : Cond.methodLink "ControlFileLaw" 13 ⟨"ControlFile", "begin", "()V"⟩ ∈ lw_g := lw_in 76 (by decide +kernel) rfl
theorem ko_F_begin : Cond.instanceMethod ⟨"ControlFile", "begin", "()V"⟩ ∈ lw_g := lw_in 77 (by decide +kernel) rfl
theorem ks_F_begin : Cond.selects "ControlFile" ⟨"ControlFile", "begin", "()V"⟩ ⟨"ControlFile", "begin", "()V"⟩ ∈ lw_g := lw_in 78 (by decide +kernel) rfl
theorem kc_F_begin : Cond.code y_F_begin b_F_begin 1 none ∈ lw_g := lw_in 79 rfl rfl
theorem km_F_16 : Cond.methodLink "ControlFile" 16 ⟨"ControlFile$Controls", "begin", "()V"⟩ ∈ lw_g := lw_in 80 (by decide +kernel) rfl
theorem km_L_17 : Cond.methodLink "ControlFileLaw" 17 ⟨"ControlFile", "mode", "(I)I"⟩ ∈ lw_g := lw_in 81 (by decide +kernel) rfl
theorem ko_F_mode : Cond.instanceMethod ⟨"ControlFile", "mode", "(I)I"⟩ ∈ lw_g := lw_in 82 (by decide +kernel) rfl
theorem ks_F_mode : Cond.selects "ControlFile" ⟨"ControlFile", "mode", "(I)I"⟩ ⟨"ControlFile", "mode", "(I)I"⟩ ∈ lw_g := lw_in 83 (by decide +kernel) rfl
theorem kc_F_mode : Cond.code y_F_mode b_F_mode 3 (some .int) ∈ lw_g := lw_in 84 rfl rfl
theorem km_L_24 : Cond.methodLink "ControlFileLaw" 24 ⟨"ControlFile", "time", "(J)J"⟩ ∈ lw_g := lw_in 85 (by decide +kernel) rfl
theorem ko_F_time : Cond.instanceMethod ⟨"ControlFile", "time", "(J)J"⟩ ∈ lw_g := lw_in 86 (by decide +kernel) rfl
theorem ks_F_time : Cond.selects "ControlFile" ⟨"ControlFile", "time", "(J)J"⟩ ⟨"ControlFile", "time", "(J)J"⟩ ∈ lw_g := lw_in 87 (by decide +kernel) rfl
theorem kc_F_time : Cond.code y_F_time b_F_time 5 (some .long) ∈ lw_g := lw_in 88 rfl rfl
theorem kk_F_26 : Cond.constantLong "ControlFile" 26 (-1) ∈ lw_g := lw_in 89 (by decide +kernel) rfl
theorem km_L_29 : Cond.methodLink "ControlFileLaw" 29 ⟨"ControlFile", "alarm", "(J)J"⟩ ∈ lw_g := lw_in 90 (by decide +kernel) rfl
theorem ko_F_alarm : Cond.instanceMethod ⟨"ControlFile", "alarm", "(J)J"⟩ ∈ lw_g := lw_in 91 (by decide +kernel) rfl
theorem ks_F_alarm : Cond.selects "ControlFile" ⟨"ControlFile", "alarm", "(J)J"⟩ ⟨"ControlFile", "alarm", "(J)J"⟩ ∈ lw_g := lw_in 92 (by decide +kernel) rfl
theorem kc_F_alarm : Cond.code y_F_alarm b_F_alarm 5 (some .long) ∈ lw_g := lw_in 93 rfl rfl
theorem kk_F_37 : Cond.constantLong "ControlFile" 37 9223372036854775807 ∈ lw_g := lw_in 94 (by decide +kernel) rfl
theorem km_L_33 : Cond.methodLink "ControlFileLaw" 33 ⟨"ControlFile", "line", "(Z)Z"⟩ ∈ lw_g := lw_in 95 (by decide +kernel) rfl
theorem ko_F_line : Cond.instanceMethod ⟨"ControlFile", "line", "(Z)Z"⟩ ∈ lw_g := lw_in 96 (by decide +kernel) rfl
theorem ks_F_line : Cond.selects "ControlFile" ⟨"ControlFile", "line", "(Z)Z"⟩ ⟨"ControlFile", "line", "(Z)Z"⟩ ∈ lw_g := lw_in 97 (by decide +kernel) rfl
theorem kc_F_line : Cond.code y_F_line b_F_line 3 (some .boolean) ∈ lw_g := lw_in 98 rfl rfl
theorem km_L_38 : Cond.methodLink "ControlFileLaw" 38 ⟨"ControlFile", "access", "(III)I"⟩ ∈ lw_g := lw_in 99 (by decide +kernel) rfl
theorem ko_F_access : Cond.instanceMethod ⟨"ControlFile", "access", "(III)I"⟩ ∈ lw_g := lw_in 100 (by decide +kernel) rfl
theorem ks_F_access : Cond.selects "ControlFile" ⟨"ControlFile", "access", "(III)I"⟩ ⟨"ControlFile", "access", "(III)I"⟩ ∈ lw_g := lw_in 101 (by decide +kernel) rfl
theorem kc_F_access : Cond.code y_F_access b_F_access 6 (some .int) ∈ lw_g := lw_in 102 rfl rfl
theorem km_F_43 : Cond.methodLink "ControlFile" 43 ⟨"ControlFile$Controls", "refuses", "(IZ)I"⟩ ∈ lw_g := lw_in 103 (by decide +kernel) rfl
theorem ko_C_refuses : Cond.instanceMethod ⟨"ControlFile$Controls", "refuses", "(IZ)I"⟩ ∈ lw_g := lw_in 104 (by decide +kernel) rfl
theorem ks_C_refuses : Cond.selects "ControlFile$Controls" ⟨"ControlFile$Controls", "refuses", "(IZ)I"⟩ ⟨"ControlFile$Controls", "refuses", "(IZ)I"⟩ ∈ lw_g := lw_in 105 (by decide +kernel) rfl
theorem kc_C_refuses : Cond.code y_C_refuses b_C_refuses 5 (some .int) ∈ lw_g := lw_in 106 rfl rfl
theorem km_C_47 : Cond.methodLink "ControlFile$Controls" 47 ⟨"ControlFile$Controls", "of", "(I)LControlFile$Control;"⟩ ∈ lw_g := lw_in 107 (by decide +kernel) rfl
theorem ko_C_of : Cond.instanceMethod ⟨"ControlFile$Controls", "of", "(I)LControlFile$Control;"⟩ ∈ lw_g := lw_in 108 (by decide +kernel) rfl
theorem ks_C_of : Cond.selects "ControlFile$Controls" ⟨"ControlFile$Controls", "of", "(I)LControlFile$Control;"⟩ ⟨"ControlFile$Controls", "of", "(I)LControlFile$Control;"⟩ ∈ lw_g := lw_in 109 (by decide +kernel) rfl
theorem kc_C_of : Cond.code y_C_of b_C_of 4 (some (.object "ControlFile$Control")) ∈ lw_g := lw_in 110 rfl rfl
theorem km_C_55 : Cond.methodLink "ControlFile$Controls" 55 ⟨"ControlFile$Control", "isTime", "()Z"⟩ ∈ lw_g := lw_in 111 (by decide +kernel) rfl
theorem ko_E_isTime : Cond.instanceMethod ⟨"ControlFile$Control", "isTime", "()Z"⟩ ∈ lw_g := lw_in 112 (by decide +kernel) rfl
theorem ks_E_isTime : Cond.selects "ControlFile$Control" ⟨"ControlFile$Control", "isTime", "()Z"⟩ ⟨"ControlFile$Control", "isTime", "()Z"⟩ ∈ lw_g := lw_in 113 (by decide +kernel) rfl
theorem kc_E_isTime : Cond.code y_E_isTime b_E_isTime 1 (some .boolean) ∈ lw_g := lw_in 114 rfl rfl
theorem kf_C_58 : Cond.fieldLink "ControlFile$Controls" 58 "ControlFile$Control" "ATP" "LControlFile$Control;" ∈ lw_g := lw_in 115 (by decide +kernel) rfl
theorem kf_C_62 : Cond.fieldLink "ControlFile$Controls" 62 "ControlFile$Control" "HSTATUS" "LControlFile$Control;" ∈ lw_g := lw_in 117 (by decide +kernel) rfl
theorem kk_C_65 : Cond.constant "ControlFile$Controls" 65 1048576 ∈ lw_g := lw_in 119 (by decide +kernel) rfl
theorem km_C_66 : Cond.methodLink "ControlFile$Controls" 66 ⟨"ControlFile$Controls", "has", "(LControlFile$Control;I)Z"⟩ ∈ lw_g := lw_in 120 (by decide +kernel) rfl
theorem ko_C_has : Cond.instanceMethod ⟨"ControlFile$Controls", "has", "(LControlFile$Control;I)Z"⟩ ∈ lw_g := lw_in 121 (by decide +kernel) rfl
theorem ks_C_has : Cond.selects "ControlFile$Controls" ⟨"ControlFile$Controls", "has", "(LControlFile$Control;I)Z"⟩ ⟨"ControlFile$Controls", "has", "(LControlFile$Control;I)Z"⟩ ∈ lw_g := lw_in 122 (by decide +kernel) rfl
theorem kc_C_has : Cond.code y_C_has b_C_has 3 (some .boolean) ∈ lw_g := lw_in 123 rfl rfl
theorem km_C_70 : Cond.methodLink "ControlFile$Controls" 70 ⟨"ControlFile$Control", "ordinal", "()I"⟩ ∈ lw_g := lw_in 124 (by decide +kernel) rfl
theorem kw_E_ordinal : Cond.sameMethod "ControlFile$Control" "java/lang/Enum" "ordinal" "()I" ∈ lw_g := lw_in 125 (by decide +kernel) rfl
theorem ks_N_ordinal : Cond.selects "ControlFile$Control" ⟨"ControlFile$Control", "ordinal", "()I"⟩ ⟨"java/lang/Enum", "ordinal", "()I"⟩ ∈ lw_g := lw_in 127 (by decide +kernel) rfl
theorem ko_N_ordinal : Cond.instanceMethod ⟨"java/lang/Enum", "ordinal", "()I"⟩ ∈ lw_g := lw_in 128 (by decide +kernel) rfl
theorem kc_N_ordinal : Cond.code y_N_ordinal b_N_ordinal 1 (some .int) ∈ lw_g := lw_in 129 rfl rfl
theorem km_C_51 : Cond.methodLink "ControlFile$Controls" 51 ⟨"ControlFile$Control", "isOfS", "()Z"⟩ ∈ lw_g := lw_in 130 (by decide +kernel) rfl
theorem ko_E_isOfS : Cond.instanceMethod ⟨"ControlFile$Control", "isOfS", "()Z"⟩ ∈ lw_g := lw_in 131 (by decide +kernel) rfl
theorem ks_E_isOfS : Cond.selects "ControlFile$Control" ⟨"ControlFile$Control", "isOfS", "()Z"⟩ ⟨"ControlFile$Control", "isOfS", "()Z"⟩ ∈ lw_g := lw_in 132 (by decide +kernel) rfl
theorem kc_E_isOfS : Cond.code y_E_isOfS b_E_isOfS 1 (some .boolean) ∈ lw_g := lw_in 133 rfl rfl
theorem km_F_47 : Cond.methodLink "ControlFile" 47 ⟨"ControlFile$Controls", "meant", "(I)LControlFile$Control;"⟩ ∈ lw_g := lw_in 134 (by decide +kernel) rfl
theorem ko_C_meant : Cond.instanceMethod ⟨"ControlFile$Controls", "meant", "(I)LControlFile$Control;"⟩ ∈ lw_g := lw_in 135 (by decide +kernel) rfl
theorem ks_C_meant : Cond.selects "ControlFile$Controls" ⟨"ControlFile$Controls", "meant", "(I)LControlFile$Control;"⟩ ⟨"ControlFile$Controls", "meant", "(I)LControlFile$Control;"⟩ ∈ lw_g := lw_in 136 (by decide +kernel) rfl
theorem kc_C_meant : Cond.code y_C_meant b_C_meant 3 (some (.object "ControlFile$Control")) ∈ lw_g := lw_in 137 rfl rfl
theorem km_F_51 : Cond.methodLink "ControlFile" 51 ⟨"ControlFile$Controls", "get", "(LControlFile$Control;)I"⟩ ∈ lw_g := lw_in 138 (by decide +kernel) rfl
theorem ko_C_get : Cond.instanceMethod ⟨"ControlFile$Controls", "get", "(LControlFile$Control;)I"⟩ ∈ lw_g := lw_in 139 (by decide +kernel) rfl
theorem ks_C_get : Cond.selects "ControlFile$Controls" ⟨"ControlFile$Controls", "get", "(LControlFile$Control;)I"⟩ ⟨"ControlFile$Controls", "get", "(LControlFile$Control;)I"⟩ ∈ lw_g := lw_in 140 (by decide +kernel) rfl
theorem kc_C_get : Cond.code y_C_get b_C_get 2 (some .int) ∈ lw_g := lw_in 141 rfl rfl
theorem km_C_74 : Cond.methodLink "ControlFile$Controls" 74 ⟨"ControlFile$Controls", "raw", "(LControlFile$Control;)I"⟩ ∈ lw_g := lw_in 142 (by decide +kernel) rfl
theorem ko_C_raw : Cond.instanceMethod ⟨"ControlFile$Controls", "raw", "(LControlFile$Control;)I"⟩ ∈ lw_g := lw_in 143 (by decide +kernel) rfl
theorem ks_C_raw : Cond.selects "ControlFile$Controls" ⟨"ControlFile$Controls", "raw", "(LControlFile$Control;)I"⟩ ⟨"ControlFile$Controls", "raw", "(LControlFile$Control;)I"⟩ ∈ lw_g := lw_in 144 (by decide +kernel) rfl
theorem kc_C_raw : Cond.code y_C_raw b_C_raw 2 (some .int) ∈ lw_g := lw_in 145 rfl rfl
theorem kf_C_78 : Cond.fieldLink "ControlFile$Controls" 78 "ControlFile$Control" "HVIP" "LControlFile$Control;" ∈ lw_g := lw_in 146 (by decide +kernel) rfl
theorem kf_C_81 : Cond.fieldLink "ControlFile$Controls" 81 "ControlFile$Control" "HIDELEG" "LControlFile$Control;" ∈ lw_g := lw_in 148 (by decide +kernel) rfl
theorem kf_C_84 : Cond.fieldLink "ControlFile$Controls" 84 "ControlFile$Control" "HIE" "LControlFile$Control;" ∈ lw_g := lw_in 150 (by decide +kernel) rfl
theorem km_F_55 : Cond.methodLink "ControlFile" 55 ⟨"ControlFile$Controls", "set", "(LControlFile$Control;I)V"⟩ ∈ lw_g := lw_in 152 (by decide +kernel) rfl
theorem ko_C_set : Cond.instanceMethod ⟨"ControlFile$Controls", "set", "(LControlFile$Control;I)V"⟩ ∈ lw_g := lw_in 153 (by decide +kernel) rfl
theorem ks_C_set : Cond.selects "ControlFile$Controls" ⟨"ControlFile$Controls", "set", "(LControlFile$Control;I)V"⟩ ⟨"ControlFile$Controls", "set", "(LControlFile$Control;I)V"⟩ ∈ lw_g := lw_in 154 (by decide +kernel) rfl
theorem kc_C_set : Cond.code y_C_set b_C_set 3 none ∈ lw_g := lw_in 155 rfl rfl
theorem km_C_91 : Cond.methodLink "ControlFile$Controls" 91 ⟨"ControlFile$Controls", "mix", "(LControlFile$Control;II)V"⟩ ∈ lw_g := lw_in 156 (by decide +kernel) rfl
theorem ko_C_mix : Cond.instanceMethod ⟨"ControlFile$Controls", "mix", "(LControlFile$Control;II)V"⟩ ∈ lw_g := lw_in 158 (by decide +kernel) rfl
theorem kc_C_mix : Cond.code y_C_mix b_C_mix 4 none ∈ lw_g := lw_in 159 rfl rfl
theorem km_C_87 : Cond.methodLink "ControlFile$Controls" 87 ⟨"ControlFile$Controls", "put", "(LControlFile$Control;I)V"⟩ ∈ lw_g := lw_in 160 (by decide +kernel) rfl
theorem ko_C_put : Cond.instanceMethod ⟨"ControlFile$Controls", "put", "(LControlFile$Control;I)V"⟩ ∈ lw_g := lw_in 161 (by decide +kernel) rfl
theorem ks_C_put : Cond.selects "ControlFile$Controls" ⟨"ControlFile$Controls", "put", "(LControlFile$Control;I)V"⟩ ⟨"ControlFile$Controls", "put", "(LControlFile$Control;I)V"⟩ ∈ lw_g := lw_in 162 (by decide +kernel) rfl
theorem kc_C_put : Cond.code y_C_put b_C_put 3 none ∈ lw_g := lw_in 163 rfl rfl
theorem km_L_43 : Cond.methodLink "ControlFileLaw" 43 ⟨"ControlFile", "old", "()I"⟩ ∈ lw_g := lw_in 164 (by decide +kernel) rfl
theorem ko_F_old : Cond.instanceMethod ⟨"ControlFile", "old", "()I"⟩ ∈ lw_g := lw_in 165 (by decide +kernel) rfl
theorem ks_F_old : Cond.selects "ControlFile" ⟨"ControlFile", "old", "()I"⟩ ⟨"ControlFile", "old", "()I"⟩ ∈ lw_g := lw_in 166 (by decide +kernel) rfl
theorem kc_F_old : Cond.code y_F_old b_F_old 1 (some .int) ∈ lw_g := lw_in 167 rfl rfl
theorem km_L_48 : Cond.methodLink "ControlFileLaw" 48 ⟨"ControlFile", "control", "(I)I"⟩ ∈ lw_g := lw_in 168 (by decide +kernel) rfl
theorem ko_F_control : Cond.instanceMethod ⟨"ControlFile", "control", "(I)I"⟩ ∈ lw_g := lw_in 169 (by decide +kernel) rfl
theorem ks_F_control : Cond.selects "ControlFile" ⟨"ControlFile", "control", "(I)I"⟩ ⟨"ControlFile", "control", "(I)I"⟩ ∈ lw_g := lw_in 170 (by decide +kernel) rfl
theorem kc_F_control : Cond.code y_F_control b_F_control 3 (some .int) ∈ lw_g := lw_in 171 rfl rfl
theorem km_F_59 : Cond.methodLink "ControlFile" 59 ⟨"ControlFile$Controls", "of", "(I)LControlFile$Control;"⟩ ∈ lw_g := lw_in 172 (by decide +kernel) rfl
theorem km_L_52 : Cond.methodLink "ControlFileLaw" 52 ⟨"ControlFile", "used", "()I"⟩ ∈ lw_g := lw_in 173 (by decide +kernel) rfl
theorem ko_F_used : Cond.instanceMethod ⟨"ControlFile", "used", "()I"⟩ ∈ lw_g := lw_in 174 (by decide +kernel) rfl
theorem ks_F_used : Cond.selects "ControlFile" ⟨"ControlFile", "used", "()I"⟩ ⟨"ControlFile", "used", "()I"⟩ ∈ lw_g := lw_in 175 (by decide +kernel) rfl
theorem kc_F_used : Cond.code y_F_used b_F_used 3 (some .int) ∈ lw_g := lw_in 176 rfl rfl
theorem km_L_56 : Cond.methodLink "ControlFileLaw" 56 ⟨"ControlFile", "due", "()I"⟩ ∈ lw_g := lw_in 177 (by decide +kernel) rfl
theorem ko_F_due : Cond.instanceMethod ⟨"ControlFile", "due", "()I"⟩ ∈ lw_g := lw_in 178 (by decide +kernel) rfl
theorem ks_F_due : Cond.selects "ControlFile" ⟨"ControlFile", "due", "()I"⟩ ⟨"ControlFile", "due", "()I"⟩ ∈ lw_g := lw_in 179 (by decide +kernel) rfl
theorem kc_F_due : Cond.code y_F_due b_F_due 1 (some .int) ∈ lw_g := lw_in 180 rfl rfl
theorem km_F_66 : Cond.methodLink "ControlFile" 66 ⟨"ControlFile$Controls", "due", "()I"⟩ ∈ lw_g := lw_in 181 (by decide +kernel) rfl
theorem ko_C_due : Cond.instanceMethod ⟨"ControlFile$Controls", "due", "()I"⟩ ∈ lw_g := lw_in 182 (by decide +kernel) rfl
theorem ks_C_due : Cond.selects "ControlFile$Controls" ⟨"ControlFile$Controls", "due", "()I"⟩ ⟨"ControlFile$Controls", "due", "()I"⟩ ∈ lw_g := lw_in 183 (by decide +kernel) rfl
theorem kc_C_due : Cond.code y_C_due b_C_due 4 (some .int) ∈ lw_g := lw_in 184 rfl rfl
theorem kf_C_98 : Cond.fieldLink "ControlFile$Controls" 98 "ControlFile$Control" "STATUS" "LControlFile$Control;" ∈ lw_g := lw_in 185 (by decide +kernel) rfl
theorem kf_C_101 : Cond.fieldLink "ControlFile$Controls" 101 "ControlFile$Control" "IP" "LControlFile$Control;" ∈ lw_g := lw_in 187 (by decide +kernel) rfl
theorem km_C_104 : Cond.methodLink "ControlFile$Controls" 104 ⟨"ControlFile$Controls", "get", "(LControlFile$Control;)I"⟩ ∈ lw_g := lw_in 189 (by decide +kernel) rfl
theorem kf_C_107 : Cond.fieldLink "ControlFile$Controls" 107 "ControlFile$Control" "IE" "LControlFile$Control;" ∈ lw_g := lw_in 190 (by decide +kernel) rfl
theorem km_C_110 : Cond.methodLink "ControlFile$Controls" 110 ⟨"ControlFile$Controls", "first", "(IIII)I"⟩ ∈ lw_g := lw_in 192 (by decide +kernel) rfl
theorem kt_C_first : Cond.static ⟨"ControlFile$Controls", "first", "(IIII)I"⟩ ∈ lw_g := lw_in 193 (by decide +kernel) rfl
theorem kc_C_first : Cond.code y_C_first b_C_first 4 (some .int) ∈ lw_g := lw_in 194 rfl rfl
theorem kf_C_114 : Cond.fieldLink "ControlFile$Controls" 114 "ControlFile$Control" "VS_STATUS" "LControlFile$Control;" ∈ lw_g := lw_in 195 (by decide +kernel) rfl
theorem kl_L_10 : Cond.classLink "ControlFileLaw" 10 "ControlFileModel" ∈ lw_g := lw_in 197 (by decide +kernel) rfl
theorem kn_M : Cond.instantiable "ControlFileModel" 6 ∈ lw_g := lw_in 198 (by decide +kernel) rfl
theorem km_L_12 : Cond.methodLink "ControlFileLaw" 12 ⟨"ControlFileModel", "<init>", "()V"⟩ ∈ lw_g := lw_in 199 (by decide +kernel) rfl
theorem ko_M_init : Cond.instanceMethod ⟨"ControlFileModel", "<init>", "()V"⟩ ∈ lw_g := lw_in 200 (by decide +kernel) rfl
theorem kc_M_init : Cond.code y_M_init b_M_init 1 none ∈ lw_g := lw_in 201 rfl rfl
theorem km_M_1 : Cond.methodLink "ControlFileModel" 1 ⟨"java/lang/Object", "<init>", "()V"⟩ ∈ lw_g := lw_in 202 (by decide +kernel) rfl
theorem km_M_13 : Cond.methodLink "ControlFileModel" 13 ⟨"ControlFileModel", "begin", "()V"⟩ ∈ lw_g := lw_in 203 (by decide +kernel) rfl
theorem ko_M_begin : Cond.instanceMethod ⟨"ControlFileModel", "begin", "()V"⟩ ∈ lw_g := lw_in 204 (by decide +kernel) rfl
theorem ks_M_begin : Cond.selects "ControlFileModel" ⟨"ControlFileModel", "begin", "()V"⟩ ⟨"ControlFileModel", "begin", "()V"⟩ ∈ lw_g := lw_in 205 (by decide +kernel) rfl
theorem kc_M_begin : Cond.code y_M_begin b_M_begin 2 none ∈ lw_g := lw_in 206 rfl rfl
theorem kk_M_24 : Cond.constantLong "ControlFileModel" 24 9223372036854775807 ∈ lw_g := lw_in 207 (by decide +kernel) rfl
theorem kf_M_7 : Cond.fieldLink "ControlFileModel" 7 "ControlFileModel" "kept" "[I" ∈ lw_g := lw_in 208 (by decide +kernel) rfl
theorem kf_M_16 : Cond.fieldLink "ControlFileModel" 16 "ControlFileModel" "mode" "I" ∈ lw_g := lw_in 209 (by decide +kernel) rfl
theorem kf_M_20 : Cond.fieldLink "ControlFileModel" 20 "ControlFileModel" "time" "J" ∈ lw_g := lw_in 210 (by decide +kernel) rfl
theorem kf_M_26 : Cond.fieldLink "ControlFileModel" 26 "ControlFileModel" "alarm" "J" ∈ lw_g := lw_in 211 (by decide +kernel) rfl
theorem kf_M_29 : Cond.fieldLink "ControlFileModel" 29 "ControlFileModel" "line" "Z" ∈ lw_g := lw_in 212 (by decide +kernel) rfl
theorem kf_M_33 : Cond.fieldLink "ControlFileModel" 33 "ControlFileModel" "old" "I" ∈ lw_g := lw_in 213 (by decide +kernel) rfl
theorem km_L_16 : Cond.methodLink "ControlFileLaw" 16 ⟨"ControlFileModel", "begin", "()V"⟩ ∈ lw_g := lw_in 227 (by decide +kernel) rfl
theorem km_L_21 : Cond.methodLink "ControlFileLaw" 21 ⟨"ControlFileModel", "mode", "(I)I"⟩ ∈ lw_g := lw_in 228 (by decide +kernel) rfl
theorem ko_M_mode : Cond.instanceMethod ⟨"ControlFileModel", "mode", "(I)I"⟩ ∈ lw_g := lw_in 229 (by decide +kernel) rfl
theorem ks_M_mode : Cond.selects "ControlFileModel" ⟨"ControlFileModel", "mode", "(I)I"⟩ ⟨"ControlFileModel", "mode", "(I)I"⟩ ∈ lw_g := lw_in 230 (by decide +kernel) rfl
theorem kc_M_mode : Cond.code y_M_mode b_M_mode 3 (some .int) ∈ lw_g := lw_in 231 rfl rfl
theorem km_L_28 : Cond.methodLink "ControlFileLaw" 28 ⟨"ControlFileModel", "time", "(J)J"⟩ ∈ lw_g := lw_in 232 (by decide +kernel) rfl
theorem ko_M_time : Cond.instanceMethod ⟨"ControlFileModel", "time", "(J)J"⟩ ∈ lw_g := lw_in 233 (by decide +kernel) rfl
theorem ks_M_time : Cond.selects "ControlFileModel" ⟨"ControlFileModel", "time", "(J)J"⟩ ⟨"ControlFileModel", "time", "(J)J"⟩ ∈ lw_g := lw_in 234 (by decide +kernel) rfl
theorem kc_M_time : Cond.code y_M_time b_M_time 5 (some .long) ∈ lw_g := lw_in 235 rfl rfl
theorem kk_M_36 : Cond.constantLong "ControlFileModel" 36 (-1) ∈ lw_g := lw_in 236 (by decide +kernel) rfl
theorem km_L_32 : Cond.methodLink "ControlFileLaw" 32 ⟨"ControlFileModel", "alarm", "(J)J"⟩ ∈ lw_g := lw_in 237 (by decide +kernel) rfl
theorem ko_M_alarm : Cond.instanceMethod ⟨"ControlFileModel", "alarm", "(J)J"⟩ ∈ lw_g := lw_in 238 (by decide +kernel) rfl
theorem ks_M_alarm : Cond.selects "ControlFileModel" ⟨"ControlFileModel", "alarm", "(J)J"⟩ ⟨"ControlFileModel", "alarm", "(J)J"⟩ ∈ lw_g := lw_in 239 (by decide +kernel) rfl
theorem kc_M_alarm : Cond.code y_M_alarm b_M_alarm 5 (some .long) ∈ lw_g := lw_in 240 rfl rfl
theorem km_L_37 : Cond.methodLink "ControlFileLaw" 37 ⟨"ControlFileModel", "line", "(Z)Z"⟩ ∈ lw_g := lw_in 241 (by decide +kernel) rfl
theorem ko_M_line : Cond.instanceMethod ⟨"ControlFileModel", "line", "(Z)Z"⟩ ∈ lw_g := lw_in 242 (by decide +kernel) rfl
theorem ks_M_line : Cond.selects "ControlFileModel" ⟨"ControlFileModel", "line", "(Z)Z"⟩ ⟨"ControlFileModel", "line", "(Z)Z"⟩ ∈ lw_g := lw_in 243 (by decide +kernel) rfl
theorem kc_M_line : Cond.code y_M_line b_M_line 3 (some .boolean) ∈ lw_g := lw_in 244 rfl rfl
theorem km_L_42 : Cond.methodLink "ControlFileLaw" 42 ⟨"ControlFileModel", "access", "(III)I"⟩ ∈ lw_g := lw_in 245 (by decide +kernel) rfl
theorem ko_M_access : Cond.instanceMethod ⟨"ControlFileModel", "access", "(III)I"⟩ ∈ lw_g := lw_in 246 (by decide +kernel) rfl
theorem ks_M_access : Cond.selects "ControlFileModel" ⟨"ControlFileModel", "access", "(III)I"⟩ ⟨"ControlFileModel", "access", "(III)I"⟩ ∈ lw_g := lw_in 247 (by decide +kernel) rfl
theorem kc_M_access : Cond.code y_M_access b_M_access 7 (some .int) ∈ lw_g := lw_in 248 rfl rfl
theorem km_M_61 : Cond.methodLink "ControlFileModel" 61 ⟨"ControlFileModel", "placeOf", "(I)I"⟩ ∈ lw_g := lw_in 249 (by decide +kernel) rfl
theorem kt_M_placeOf : Cond.static ⟨"ControlFileModel", "placeOf", "(I)I"⟩ ∈ lw_g := lw_in 250 (by decide +kernel) rfl
theorem kc_M_placeOf : Cond.code y_M_placeOf b_M_placeOf 3 (some .int) ∈ lw_g := lw_in 251 rfl rfl
theorem km_M_38 : Cond.methodLink "ControlFileModel" 38 ⟨"ControlFileModel", "hyperOf", "(I)I"⟩ ∈ lw_g := lw_in 252 (by decide +kernel) rfl
theorem kt_M_hyperOf : Cond.static ⟨"ControlFileModel", "hyperOf", "(I)I"⟩ ∈ lw_g := lw_in 253 (by decide +kernel) rfl
theorem kc_M_hyperOf : Cond.code y_M_hyperOf b_M_hyperOf 1 (some .int) ∈ lw_g := lw_in 254 rfl rfl
theorem km_M_42 : Cond.methodLink "ControlFileModel" 42 ⟨"ControlFileModel", "kindOf", "(I)I"⟩ ∈ lw_g := lw_in 255 (by decide +kernel) rfl
theorem kt_M_kindOf : Cond.static ⟨"ControlFileModel", "kindOf", "(I)I"⟩ ∈ lw_g := lw_in 256 (by decide +kernel) rfl
theorem kc_M_kindOf : Cond.code y_M_kindOf b_M_kindOf 1 (some .int) ∈ lw_g := lw_in 257 rfl rfl
theorem km_M_64 : Cond.methodLink "ControlFileModel" 64 ⟨"ControlFileModel", "refusal", "(IZ)I"⟩ ∈ lw_g := lw_in 258 (by decide +kernel) rfl
theorem ko_M_refusal : Cond.instanceMethod ⟨"ControlFileModel", "refusal", "(IZ)I"⟩ ∈ lw_g := lw_in 260 (by decide +kernel) rfl
theorem kc_M_refusal : Cond.code y_M_refusal b_M_refusal 5 (some .int) ∈ lw_g := lw_in 261 rfl rfl
theorem km_M_57 : Cond.methodLink "ControlFileModel" 57 ⟨"ControlFileModel", "has", "(II)Z"⟩ ∈ lw_g := lw_in 262 (by decide +kernel) rfl
theorem ko_M_has : Cond.instanceMethod ⟨"ControlFileModel", "has", "(II)Z"⟩ ∈ lw_g := lw_in 264 (by decide +kernel) rfl
theorem kc_M_has : Cond.code y_M_has b_M_has 3 (some .boolean) ∈ lw_g := lw_in 265 rfl rfl
theorem km_M_68 : Cond.methodLink "ControlFileModel" 68 ⟨"ControlFileModel", "tells", "(I)I"⟩ ∈ lw_g := lw_in 266 (by decide +kernel) rfl
theorem ko_M_tells : Cond.instanceMethod ⟨"ControlFileModel", "tells", "(I)I"⟩ ∈ lw_g := lw_in 268 (by decide +kernel) rfl
theorem kc_M_tells : Cond.code y_M_tells b_M_tells 2 (some .int) ∈ lw_g := lw_in 269 rfl rfl
theorem km_M_71 : Cond.methodLink "ControlFileModel" 71 ⟨"ControlFileModel", "write", "(II)V"⟩ ∈ lw_g := lw_in 270 (by decide +kernel) rfl
theorem ko_M_write : Cond.instanceMethod ⟨"ControlFileModel", "write", "(II)V"⟩ ∈ lw_g := lw_in 272 (by decide +kernel) rfl
theorem kc_M_write : Cond.code y_M_write b_M_write 3 none ∈ lw_g := lw_in 273 rfl rfl
theorem km_M_50 : Cond.methodLink "ControlFileModel" 50 ⟨"ControlFileModel", "put", "(III)V"⟩ ∈ lw_g := lw_in 274 (by decide +kernel) rfl
theorem ko_M_put : Cond.instanceMethod ⟨"ControlFileModel", "put", "(III)V"⟩ ∈ lw_g := lw_in 276 (by decide +kernel) rfl
theorem kc_M_put : Cond.code y_M_put b_M_put 4 none ∈ lw_g := lw_in 277 rfl rfl
theorem km_M_54 : Cond.methodLink "ControlFileModel" 54 ⟨"ControlFileModel", "maskOf", "(I)I"⟩ ∈ lw_g := lw_in 278 (by decide +kernel) rfl
theorem kt_M_maskOf : Cond.static ⟨"ControlFileModel", "maskOf", "(I)I"⟩ ∈ lw_g := lw_in 279 (by decide +kernel) rfl
theorem kc_M_maskOf : Cond.code y_M_maskOf b_M_maskOf 1 (some .int) ∈ lw_g := lw_in 280 rfl rfl
theorem kk_M_45 : Cond.constant "ControlFileModel" 45 786722 ∈ lw_g := lw_in 281 (by decide +kernel) rfl
theorem kk_M_46 : Cond.constant "ControlFileModel" 46 (-2143289345) ∈ lw_g := lw_in 282 (by decide +kernel) rfl
theorem kk_M_47 : Cond.constant "ControlFileModel" 47 7340992 ∈ lw_g := lw_in 283 (by decide +kernel) rfl
theorem kk_M_48 : Cond.constant "ControlFileModel" 48 45567 ∈ lw_g := lw_in 284 (by decide +kernel) rfl
theorem kk_M_49 : Cond.constant "ControlFileModel" 49 (-2143289348) ∈ lw_g := lw_in 285 (by decide +kernel) rfl
theorem km_L_47 : Cond.methodLink "ControlFileLaw" 47 ⟨"ControlFileModel", "old", "()I"⟩ ∈ lw_g := lw_in 286 (by decide +kernel) rfl
theorem ko_M_old : Cond.instanceMethod ⟨"ControlFileModel", "old", "()I"⟩ ∈ lw_g := lw_in 287 (by decide +kernel) rfl
theorem ks_M_old : Cond.selects "ControlFileModel" ⟨"ControlFileModel", "old", "()I"⟩ ⟨"ControlFileModel", "old", "()I"⟩ ∈ lw_g := lw_in 288 (by decide +kernel) rfl
theorem kc_M_old : Cond.code y_M_old b_M_old 1 (some .int) ∈ lw_g := lw_in 289 rfl rfl
theorem km_L_51 : Cond.methodLink "ControlFileLaw" 51 ⟨"ControlFileModel", "control", "(I)I"⟩ ∈ lw_g := lw_in 290 (by decide +kernel) rfl
theorem ko_M_control : Cond.instanceMethod ⟨"ControlFileModel", "control", "(I)I"⟩ ∈ lw_g := lw_in 291 (by decide +kernel) rfl
theorem ks_M_control : Cond.selects "ControlFileModel" ⟨"ControlFileModel", "control", "(I)I"⟩ ⟨"ControlFileModel", "control", "(I)I"⟩ ∈ lw_g := lw_in 292 (by decide +kernel) rfl
theorem kc_M_control : Cond.code y_M_control b_M_control 3 (some .int) ∈ lw_g := lw_in 293 rfl rfl
theorem km_L_55 : Cond.methodLink "ControlFileLaw" 55 ⟨"ControlFileModel", "used", "()I"⟩ ∈ lw_g := lw_in 294 (by decide +kernel) rfl
theorem ko_M_used : Cond.instanceMethod ⟨"ControlFileModel", "used", "()I"⟩ ∈ lw_g := lw_in 295 (by decide +kernel) rfl
theorem ks_M_used : Cond.selects "ControlFileModel" ⟨"ControlFileModel", "used", "()I"⟩ ⟨"ControlFileModel", "used", "()I"⟩ ∈ lw_g := lw_in 296 (by decide +kernel) rfl
theorem kc_M_used : Cond.code y_M_used b_M_used 3 (some .int) ∈ lw_g := lw_in 297 rfl rfl
theorem km_L_59 : Cond.methodLink "ControlFileLaw" 59 ⟨"ControlFileModel", "due", "()I"⟩ ∈ lw_g := lw_in 298 (by decide +kernel) rfl
theorem ko_M_due : Cond.instanceMethod ⟨"ControlFileModel", "due", "()I"⟩ ∈ lw_g := lw_in 299 (by decide +kernel) rfl
theorem ks_M_due : Cond.selects "ControlFileModel" ⟨"ControlFileModel", "due", "()I"⟩ ⟨"ControlFileModel", "due", "()I"⟩ ∈ lw_g := lw_in 300 (by decide +kernel) rfl
theorem kc_M_due : Cond.code y_M_due b_M_due 6 (some .int) ∈ lw_g := lw_in 301 rfl rfl
theorem km_M_75 : Cond.methodLink "ControlFileModel" 75 ⟨"ControlFileModel", "firstOf", "(IIII)I"⟩ ∈ lw_g := lw_in 302 (by decide +kernel) rfl
theorem kt_M_firstOf : Cond.static ⟨"ControlFileModel", "firstOf", "(IIII)I"⟩ ∈ lw_g := lw_in 303 (by decide +kernel) rfl
theorem kc_M_firstOf : Cond.code y_M_firstOf b_M_firstOf 4 (some .int) ∈ lw_g := lw_in 304 rfl rfl
theorem kk_L_22 : Cond.constantLong "ControlFileLaw" 22 4294967295 ∈ lw_g := lw_in 305 (by decide +kernel) rfl
theorem kf_E_110 : Cond.fieldLink "ControlFile$Control" 110 "ControlFile$Control" "number" "I" ∈ lw_g := lw_in 307 (by decide +kernel) rfl
theorem kf_N_7 : Cond.fieldLink "java/lang/Enum" 7 "java/lang/Enum" "ordinal" "I" ∈ lw_g := lw_in 308 (by decide +kernel) rfl
theorem ks_C_mix : Cond.selects cn_C y_C_mix y_C_mix ∈ lw_g := lw_in 0 (by decide +kernel) rfl
theorem ks_M_refusal : Cond.selects cn_M y_M_refusal y_M_refusal ∈ lw_g := lw_in 1 (by decide +kernel) rfl
theorem ks_M_has : Cond.selects cn_M y_M_has y_M_has ∈ lw_g := lw_in 2 (by decide +kernel) rfl
theorem ks_M_tells : Cond.selects cn_M y_M_tells y_M_tells ∈ lw_g := lw_in 3 (by decide +kernel) rfl
theorem ks_M_write : Cond.selects cn_M y_M_write y_M_write ∈ lw_g := lw_in 4 (by decide +kernel) rfl
theorem ks_M_put : Cond.selects cn_M y_M_put y_M_put ∈ lw_g := lw_in 5 (by decide +kernel) rfl
theorem g_C_7 : gdS "ControlFile$Controls" 7 y_E_values b_E_values 0 (some (.array (.object "ControlFile$Control"))) 0 := gdS_of km_C_7 kt_E_values ki_E kc_E_values (by decide +kernel)
theorem g_C_22 : gdV "ControlFile$Controls" 22 cn_C y_C_begin b_C_begin 2 none 0 := gdV_of km_C_22 ko_C_begin ks_C_begin ki_C kc_C_begin rfl (by decide +kernel)
theorem g_L_13 : gdV "ControlFileLaw" 13 cn_F y_F_begin b_F_begin 1 none 0 := gdV_of km_L_13 ko_F_begin ks_F_begin ki_F kc_F_begin rfl (by decide +kernel)
theorem g_F_16 : gdV "ControlFile" 16 cn_C y_C_begin b_C_begin 2 none 0 := gdV_of km_F_16 ko_C_begin ks_C_begin ki_C kc_C_begin rfl (by decide +kernel)
theorem g_L_17 : gdV "ControlFileLaw" 17 cn_F y_F_mode b_F_mode 3 (some .int) 1 := gdV_of km_L_17 ko_F_mode ks_F_mode ki_F kc_F_mode rfl (by decide +kernel)
theorem g_L_24 : gdV "ControlFileLaw" 24 cn_F y_F_time b_F_time 5 (some .long) 1 := gdV_of km_L_24 ko_F_time ks_F_time ki_F kc_F_time rfl (by decide +kernel)
theorem g_L_29 : gdV "ControlFileLaw" 29 cn_F y_F_alarm b_F_alarm 5 (some .long) 1 := gdV_of km_L_29 ko_F_alarm ks_F_alarm ki_F kc_F_alarm rfl (by decide +kernel)
theorem g_L_33 : gdV "ControlFileLaw" 33 cn_F y_F_line b_F_line 3 (some .boolean) 1 := gdV_of km_L_33 ko_F_line ks_F_line ki_F kc_F_line rfl (by decide +kernel)
theorem g_L_38 : gdV "ControlFileLaw" 38 cn_F y_F_access b_F_access 6 (some .int) 3 := gdV_of km_L_38 ko_F_access ks_F_access ki_F kc_F_access rfl (by decide +kernel)
theorem g_F_43 : gdV "ControlFile" 43 cn_C y_C_refuses b_C_refuses 5 (some .int) 2 := gdV_of km_F_43 ko_C_refuses ks_C_refuses ki_C kc_C_refuses rfl (by decide +kernel)
theorem g_C_47 : gdV "ControlFile$Controls" 47 cn_C y_C_of b_C_of 4 (some (.object "ControlFile$Control")) 1 := gdV_of km_C_47 ko_C_of ks_C_of ki_C kc_C_of rfl (by decide +kernel)
theorem g_C_55 : gdV "ControlFile$Controls" 55 cn_E y_E_isTime b_E_isTime 1 (some .boolean) 0 := gdV_of km_C_55 ko_E_isTime ks_E_isTime ki_E kc_E_isTime rfl (by decide +kernel)
theorem g_C_66 : gdV "ControlFile$Controls" 66 cn_C y_C_has b_C_has 3 (some .boolean) 2 := gdV_of km_C_66 ko_C_has ks_C_has ki_C kc_C_has rfl (by decide +kernel)
theorem g_C_51 : gdV "ControlFile$Controls" 51 cn_E y_E_isOfS b_E_isOfS 1 (some .boolean) 0 := gdV_of km_C_51 ko_E_isOfS ks_E_isOfS ki_E kc_E_isOfS rfl (by decide +kernel)
theorem g_F_47 : gdV "ControlFile" 47 cn_C y_C_meant b_C_meant 3 (some (.object "ControlFile$Control")) 1 := gdV_of km_F_47 ko_C_meant ks_C_meant ki_C kc_C_meant rfl (by decide +kernel)
theorem g_F_51 : gdV "ControlFile" 51 cn_C y_C_get b_C_get 2 (some .int) 1 := gdV_of km_F_51 ko_C_get ks_C_get ki_C kc_C_get rfl (by decide +kernel)
theorem g_C_74 : gdV "ControlFile$Controls" 74 cn_C y_C_raw b_C_raw 2 (some .int) 1 := gdV_of km_C_74 ko_C_raw ks_C_raw ki_C kc_C_raw rfl (by decide +kernel)
theorem g_F_55 : gdV "ControlFile" 55 cn_C y_C_set b_C_set 3 none 2 := gdV_of km_F_55 ko_C_set ks_C_set ki_C kc_C_set rfl (by decide +kernel)
theorem g_C_91 : gdV "ControlFile$Controls" 91 cn_C y_C_mix b_C_mix 4 none 3 := gdV_of km_C_91 ko_C_mix ks_C_mix ki_C kc_C_mix rfl (by decide +kernel)
theorem g_C_87 : gdV "ControlFile$Controls" 87 cn_C y_C_put b_C_put 3 none 2 := gdV_of km_C_87 ko_C_put ks_C_put ki_C kc_C_put rfl (by decide +kernel)
theorem g_L_43 : gdV "ControlFileLaw" 43 cn_F y_F_old b_F_old 1 (some .int) 0 := gdV_of km_L_43 ko_F_old ks_F_old ki_F kc_F_old rfl (by decide +kernel)
theorem g_L_48 : gdV "ControlFileLaw" 48 cn_F y_F_control b_F_control 3 (some .int) 1 := gdV_of km_L_48 ko_F_control ks_F_control ki_F kc_F_control rfl (by decide +kernel)
theorem g_F_59 : gdV "ControlFile" 59 cn_C y_C_of b_C_of 4 (some (.object "ControlFile$Control")) 1 := gdV_of km_F_59 ko_C_of ks_C_of ki_C kc_C_of rfl (by decide +kernel)
theorem g_L_52 : gdV "ControlFileLaw" 52 cn_F y_F_used b_F_used 3 (some .int) 0 := gdV_of km_L_52 ko_F_used ks_F_used ki_F kc_F_used rfl (by decide +kernel)
theorem g_L_56 : gdV "ControlFileLaw" 56 cn_F y_F_due b_F_due 1 (some .int) 0 := gdV_of km_L_56 ko_F_due ks_F_due ki_F kc_F_due rfl (by decide +kernel)
theorem g_F_66 : gdV "ControlFile" 66 cn_C y_C_due b_C_due 4 (some .int) 0 := gdV_of km_F_66 ko_C_due ks_C_due ki_C kc_C_due rfl (by decide +kernel)
theorem g_C_104 : gdV "ControlFile$Controls" 104 cn_C y_C_get b_C_get 2 (some .int) 1 := gdV_of km_C_104 ko_C_get ks_C_get ki_C kc_C_get rfl (by decide +kernel)
theorem g_C_110 : gdS "ControlFile$Controls" 110 y_C_first b_C_first 4 (some .int) 4 := gdS_of km_C_110 kt_C_first ki_C kc_C_first (by decide +kernel)
theorem g_M_13 : gdV "ControlFileModel" 13 cn_M y_M_begin b_M_begin 2 none 0 := gdV_of km_M_13 ko_M_begin ks_M_begin ki_M kc_M_begin rfl (by decide +kernel)
theorem g_L_16 : gdV "ControlFileLaw" 16 cn_M y_M_begin b_M_begin 2 none 0 := gdV_of km_L_16 ko_M_begin ks_M_begin ki_M kc_M_begin rfl (by decide +kernel)
theorem g_L_21 : gdV "ControlFileLaw" 21 cn_M y_M_mode b_M_mode 3 (some .int) 1 := gdV_of km_L_21 ko_M_mode ks_M_mode ki_M kc_M_mode rfl (by decide +kernel)
theorem g_L_28 : gdV "ControlFileLaw" 28 cn_M y_M_time b_M_time 5 (some .long) 1 := gdV_of km_L_28 ko_M_time ks_M_time ki_M kc_M_time rfl (by decide +kernel)
theorem g_L_32 : gdV "ControlFileLaw" 32 cn_M y_M_alarm b_M_alarm 5 (some .long) 1 := gdV_of km_L_32 ko_M_alarm ks_M_alarm ki_M kc_M_alarm rfl (by decide +kernel)
theorem g_L_37 : gdV "ControlFileLaw" 37 cn_M y_M_line b_M_line 3 (some .boolean) 1 := gdV_of km_L_37 ko_M_line ks_M_line ki_M kc_M_line rfl (by decide +kernel)
theorem g_L_42 : gdV "ControlFileLaw" 42 cn_M y_M_access b_M_access 7 (some .int) 3 := gdV_of km_L_42 ko_M_access ks_M_access ki_M kc_M_access rfl (by decide +kernel)
theorem g_M_61 : gdS "ControlFileModel" 61 y_M_placeOf b_M_placeOf 3 (some .int) 1 := gdS_of km_M_61 kt_M_placeOf ki_M kc_M_placeOf (by decide +kernel)
theorem g_M_38 : gdS "ControlFileModel" 38 y_M_hyperOf b_M_hyperOf 1 (some .int) 1 := gdS_of km_M_38 kt_M_hyperOf ki_M kc_M_hyperOf (by decide +kernel)
theorem g_M_42 : gdS "ControlFileModel" 42 y_M_kindOf b_M_kindOf 1 (some .int) 1 := gdS_of km_M_42 kt_M_kindOf ki_M kc_M_kindOf (by decide +kernel)
theorem g_M_64 : gdV "ControlFileModel" 64 cn_M y_M_refusal b_M_refusal 5 (some .int) 2 := gdV_of km_M_64 ko_M_refusal ks_M_refusal ki_M kc_M_refusal rfl (by decide +kernel)
theorem g_M_57 : gdV "ControlFileModel" 57 cn_M y_M_has b_M_has 3 (some .boolean) 2 := gdV_of km_M_57 ko_M_has ks_M_has ki_M kc_M_has rfl (by decide +kernel)
theorem g_M_68 : gdV "ControlFileModel" 68 cn_M y_M_tells b_M_tells 2 (some .int) 1 := gdV_of km_M_68 ko_M_tells ks_M_tells ki_M kc_M_tells rfl (by decide +kernel)
theorem g_M_71 : gdV "ControlFileModel" 71 cn_M y_M_write b_M_write 3 none 2 := gdV_of km_M_71 ko_M_write ks_M_write ki_M kc_M_write rfl (by decide +kernel)
theorem g_M_50 : gdV "ControlFileModel" 50 cn_M y_M_put b_M_put 4 none 3 := gdV_of km_M_50 ko_M_put ks_M_put ki_M kc_M_put rfl (by decide +kernel)
theorem g_M_54 : gdS "ControlFileModel" 54 y_M_maskOf b_M_maskOf 1 (some .int) 1 := gdS_of km_M_54 kt_M_maskOf ki_M kc_M_maskOf (by decide +kernel)
theorem g_L_47 : gdV "ControlFileLaw" 47 cn_M y_M_old b_M_old 1 (some .int) 0 := gdV_of km_L_47 ko_M_old ks_M_old ki_M kc_M_old rfl (by decide +kernel)
theorem g_L_51 : gdV "ControlFileLaw" 51 cn_M y_M_control b_M_control 3 (some .int) 1 := gdV_of km_L_51 ko_M_control ks_M_control ki_M kc_M_control rfl (by decide +kernel)
theorem g_L_55 : gdV "ControlFileLaw" 55 cn_M y_M_used b_M_used 3 (some .int) 0 := gdV_of km_L_55 ko_M_used ks_M_used ki_M kc_M_used rfl (by decide +kernel)
theorem g_L_59 : gdV "ControlFileLaw" 59 cn_M y_M_due b_M_due 6 (some .int) 0 := gdV_of km_L_59 ko_M_due ks_M_due ki_M kc_M_due rfl (by decide +kernel)
theorem g_M_75 : gdS "ControlFileModel" 75 y_M_firstOf b_M_firstOf 4 (some .int) 4 := gdS_of km_M_75 kt_M_firstOf ki_M kc_M_firstOf (by decide +kernel)
end
section
-- what each instruction of the reference is
theorem d_M_init_0 : decode b_M_init 0 = .ok (.aload_n 0, 1) := by decide +kernel
theorem d_M_init_1 : decode b_M_init 1 = .ok (.invokespecial 1, 3) := by decide +kernel
theorem d_M_init_4 : decode b_M_init 4 = .ok (.aload_n 0, 1) := by decide +kernel
theorem d_M_init_5 : decode b_M_init 5 = .ok (.bipush 29, 2) := by decide +kernel
theorem d_M_init_7 : decode b_M_init 7 = .ok (.newarray .int, 2) := by decide +kernel
theorem d_M_init_9 : decode b_M_init 9 = .ok (.putfield 7, 3) := by decide +kernel
theorem d_M_init_12 : decode b_M_init 12 = .ok (.aload_n 0, 1) := by decide +kernel
theorem d_M_init_13 : decode b_M_init 13 = .ok (.invokevirtual 13, 3) := by decide +kernel
theorem d_M_init_16 : decode b_M_init 16 = .ok (.return_, 1) := by decide +kernel
theorem d_M_begin_0 : decode b_M_begin 0 = .ok (.iconst 0, 1) := by decide +kernel
theorem d_M_begin_1 : decode b_M_begin 1 = .ok (.istore_n 1, 1) := by decide +kernel
theorem d_M_begin_2 : decode b_M_begin 2 = .ok (.iload_n 1, 1) := by decide +kernel
theorem d_M_begin_3 : decode b_M_begin 3 = .ok (.bipush 29, 2) := by decide +kernel
theorem d_M_begin_5 : decode b_M_begin 5 = .ok (.if_icmp .ge 16, 3) := by decide +kernel
theorem d_M_begin_8 : decode b_M_begin 8 = .ok (.aload_n 0, 1) := by decide +kernel
theorem d_M_begin_9 : decode b_M_begin 9 = .ok (.getfield 7, 3) := by decide +kernel
theorem d_M_begin_12 : decode b_M_begin 12 = .ok (.iload_n 1, 1) := by decide +kernel
theorem d_M_begin_13 : decode b_M_begin 13 = .ok (.iconst 0, 1) := by decide +kernel
theorem d_M_begin_14 : decode b_M_begin 14 = .ok (.iastore, 1) := by decide +kernel
theorem d_M_begin_15 : decode b_M_begin 15 = .ok (.iinc 1 1, 3) := by decide +kernel
theorem d_M_begin_18 : decode b_M_begin 18 = .ok (.goto (-16), 3) := by decide +kernel
theorem d_M_begin_21 : decode b_M_begin 21 = .ok (.aload_n 0, 1) := by decide +kernel
theorem d_M_begin_22 : decode b_M_begin 22 = .ok (.iconst 1, 1) := by decide +kernel
theorem d_M_begin_23 : decode b_M_begin 23 = .ok (.putfield 16, 3) := by decide +kernel
theorem d_M_begin_26 : decode b_M_begin 26 = .ok (.aload_n 0, 1) := by decide +kernel
theorem d_M_begin_27 : decode b_M_begin 27 = .ok (.lconst 0, 1) := by decide +kernel
theorem d_M_begin_28 : decode b_M_begin 28 = .ok (.putfield 20, 3) := by decide +kernel
theorem d_M_begin_31 : decode b_M_begin 31 = .ok (.aload_n 0, 1) := by decide +kernel
theorem d_M_begin_32 : decode b_M_begin 32 = .ok (.ldc2_w 24, 3) := by decide +kernel
theorem d_M_begin_35 : decode b_M_begin 35 = .ok (.putfield 26, 3) := by decide +kernel
theorem d_M_begin_38 : decode b_M_begin 38 = .ok (.aload_n 0, 1) := by decide +kernel
theorem d_M_begin_39 : decode b_M_begin 39 = .ok (.iconst 0, 1) := by decide +kernel
theorem d_M_begin_40 : decode b_M_begin 40 = .ok (.putfield 29, 3) := by decide +kernel
theorem d_M_begin_43 : decode b_M_begin 43 = .ok (.aload_n 0, 1) := by decide +kernel
theorem d_M_begin_44 : decode b_M_begin 44 = .ok (.iconst 0, 1) := by decide +kernel
theorem d_M_begin_45 : decode b_M_begin 45 = .ok (.putfield 33, 3) := by decide +kernel
theorem d_M_begin_48 : decode b_M_begin 48 = .ok (.return_, 1) := by decide +kernel
theorem d_M_mode_0 : decode b_M_mode 0 = .ok (.iload_n 1, 1) := by decide +kernel
theorem d_M_mode_1 : decode b_M_mode 1 = .ok (.ifCond .lt 8, 3) := by decide +kernel
theorem d_M_mode_4 : decode b_M_mode 4 = .ok (.iload_n 1, 1) := by decide +kernel
theorem d_M_mode_5 : decode b_M_mode 5 = .ok (.iconst 3, 1) := by decide +kernel
theorem d_M_mode_6 : decode b_M_mode 6 = .ok (.if_icmp .le 5, 3) := by decide +kernel
theorem d_M_mode_9 : decode b_M_mode 9 = .ok (.iconst (-1), 1) := by decide +kernel
theorem d_M_mode_10 : decode b_M_mode 10 = .ok (.ireturn, 1) := by decide +kernel
theorem d_M_mode_11 : decode b_M_mode 11 = .ok (.aload_n 0, 1) := by decide +kernel
theorem d_M_mode_12 : decode b_M_mode 12 = .ok (.getfield 16, 3) := by decide +kernel
theorem d_M_mode_15 : decode b_M_mode 15 = .ok (.istore_n 2, 1) := by decide +kernel
theorem d_M_mode_16 : decode b_M_mode 16 = .ok (.aload_n 0, 1) := by decide +kernel
theorem d_M_mode_17 : decode b_M_mode 17 = .ok (.iload_n 1, 1) := by decide +kernel
theorem d_M_mode_18 : decode b_M_mode 18 = .ok (.putfield 16, 3) := by decide +kernel
theorem d_M_mode_21 : decode b_M_mode 21 = .ok (.iload_n 2, 1) := by decide +kernel
theorem d_M_mode_22 : decode b_M_mode 22 = .ok (.ireturn, 1) := by decide +kernel
theorem d_M_time_0 : decode b_M_time 0 = .ok (.lload_n 1, 1) := by decide +kernel
theorem d_M_time_1 : decode b_M_time 1 = .ok (.lconst 0, 1) := by decide +kernel
theorem d_M_time_2 : decode b_M_time 2 = .ok (.lcmp, 1) := by decide +kernel
theorem d_M_time_3 : decode b_M_time 3 = .ok (.ifCond .ge 7, 3) := by decide +kernel
theorem d_M_time_6 : decode b_M_time 6 = .ok (.ldc2_w 36, 3) := by decide +kernel
theorem d_M_time_9 : decode b_M_time 9 = .ok (.lreturn, 1) := by decide +kernel
theorem d_M_time_10 : decode b_M_time 10 = .ok (.aload_n 0, 1) := by decide +kernel
theorem d_M_time_11 : decode b_M_time 11 = .ok (.getfield 20, 3) := by decide +kernel
theorem d_M_time_14 : decode b_M_time 14 = .ok (.lstore_n 3, 1) := by decide +kernel
theorem d_M_time_15 : decode b_M_time 15 = .ok (.aload_n 0, 1) := by decide +kernel
theorem d_M_time_16 : decode b_M_time 16 = .ok (.lload_n 1, 1) := by decide +kernel
theorem d_M_time_17 : decode b_M_time 17 = .ok (.putfield 20, 3) := by decide +kernel
theorem d_M_time_20 : decode b_M_time 20 = .ok (.lload_n 3, 1) := by decide +kernel
theorem d_M_time_21 : decode b_M_time 21 = .ok (.lreturn, 1) := by decide +kernel
theorem d_M_alarm_0 : decode b_M_alarm 0 = .ok (.aload_n 0, 1) := by decide +kernel
theorem d_M_alarm_1 : decode b_M_alarm 1 = .ok (.getfield 26, 3) := by decide +kernel
theorem d_M_alarm_4 : decode b_M_alarm 4 = .ok (.lstore_n 3, 1) := by decide +kernel
theorem d_M_alarm_5 : decode b_M_alarm 5 = .ok (.aload_n 0, 1) := by decide +kernel
theorem d_M_alarm_6 : decode b_M_alarm 6 = .ok (.lload_n 1, 1) := by decide +kernel
theorem d_M_alarm_7 : decode b_M_alarm 7 = .ok (.lconst 0, 1) := by decide +kernel
theorem d_M_alarm_8 : decode b_M_alarm 8 = .ok (.lcmp, 1) := by decide +kernel
theorem d_M_alarm_9 : decode b_M_alarm 9 = .ok (.ifCond .ge 9, 3) := by decide +kernel
theorem d_M_alarm_12 : decode b_M_alarm 12 = .ok (.ldc2_w 24, 3) := by decide +kernel
theorem d_M_alarm_15 : decode b_M_alarm 15 = .ok (.goto 4, 3) := by decide +kernel
theorem d_M_alarm_18 : decode b_M_alarm 18 = .ok (.lload_n 1, 1) := by decide +kernel
theorem d_M_alarm_19 : decode b_M_alarm 19 = .ok (.putfield 26, 3) := by decide +kernel
theorem d_M_alarm_22 : decode b_M_alarm 22 = .ok (.lload_n 3, 1) := by decide +kernel
theorem d_M_alarm_23 : decode b_M_alarm 23 = .ok (.lreturn, 1) := by decide +kernel
theorem d_M_line_0 : decode b_M_line 0 = .ok (.aload_n 0, 1) := by decide +kernel
theorem d_M_line_1 : decode b_M_line 1 = .ok (.getfield 29, 3) := by decide +kernel
theorem d_M_line_4 : decode b_M_line 4 = .ok (.istore_n 2, 1) := by decide +kernel
theorem d_M_line_5 : decode b_M_line 5 = .ok (.aload_n 0, 1) := by decide +kernel
theorem d_M_line_6 : decode b_M_line 6 = .ok (.iload_n 1, 1) := by decide +kernel
theorem d_M_line_7 : decode b_M_line 7 = .ok (.putfield 29, 3) := by decide +kernel
theorem d_M_line_10 : decode b_M_line 10 = .ok (.iload_n 2, 1) := by decide +kernel
theorem d_M_line_11 : decode b_M_line 11 = .ok (.ireturn, 1) := by decide +kernel
theorem d_M_kindOf_0 : decode b_M_kindOf 0 = .ok (.iload_n 0, 1) := by decide +kernel
theorem d_M_kindOf_1 : decode b_M_kindOf 1 = .ok (.lookupswitch 99 #[(0, 83), (4, 85), (5, 87), (64, 89), (65, 89), (66, 89), (67, 89), (68, 89), (128, 96)], 83) := by decide +kernel
theorem d_M_kindOf_84 : decode b_M_kindOf 84 = .ok (.iconst 0, 1) := by decide +kernel
theorem d_M_kindOf_85 : decode b_M_kindOf 85 = .ok (.ireturn, 1) := by decide +kernel
theorem d_M_kindOf_86 : decode b_M_kindOf 86 = .ok (.iconst 1, 1) := by decide +kernel
theorem d_M_kindOf_87 : decode b_M_kindOf 87 = .ok (.ireturn, 1) := by decide +kernel
theorem d_M_kindOf_88 : decode b_M_kindOf 88 = .ok (.iconst 2, 1) := by decide +kernel
theorem d_M_kindOf_89 : decode b_M_kindOf 89 = .ok (.ireturn, 1) := by decide +kernel
theorem d_M_kindOf_90 : decode b_M_kindOf 90 = .ok (.iload_n 0, 1) := by decide +kernel
theorem d_M_kindOf_91 : decode b_M_kindOf 91 = .ok (.bipush 64, 2) := by decide +kernel
theorem d_M_kindOf_93 : decode b_M_kindOf 93 = .ok (.isub, 1) := by decide +kernel
theorem d_M_kindOf_94 : decode b_M_kindOf 94 = .ok (.iconst 3, 1) := by decide +kernel
theorem d_M_kindOf_95 : decode b_M_kindOf 95 = .ok (.iadd, 1) := by decide +kernel
theorem d_M_kindOf_96 : decode b_M_kindOf 96 = .ok (.ireturn, 1) := by decide +kernel
theorem d_M_kindOf_97 : decode b_M_kindOf 97 = .ok (.bipush 8, 2) := by decide +kernel
theorem d_M_kindOf_99 : decode b_M_kindOf 99 = .ok (.ireturn, 1) := by decide +kernel
theorem d_M_kindOf_100 : decode b_M_kindOf 100 = .ok (.iconst (-1), 1) := by decide +kernel
theorem d_M_kindOf_101 : decode b_M_kindOf 101 = .ok (.ireturn, 1) := by decide +kernel
theorem d_M_hyperOf_0 : decode b_M_hyperOf 0 = .ok (.iload_n 0, 1) := by decide +kernel
theorem d_M_hyperOf_1 : decode b_M_hyperOf 1 = .ok (.lookupswitch 132 #[(1536, 99), (1538, 102), (1539, 105), (1540, 108), (1603, 111), (1604, 114), (1605, 117), (1610, 120), (1664, 123), (3073, 126), (3201, 129)], 99) := by decide +kernel
theorem d_M_hyperOf_100 : decode b_M_hyperOf 100 = .ok (.bipush 18, 2) := by decide +kernel
theorem d_M_hyperOf_102 : decode b_M_hyperOf 102 = .ok (.ireturn, 1) := by decide +kernel
theorem d_M_hyperOf_103 : decode b_M_hyperOf 103 = .ok (.bipush 19, 2) := by decide +kernel
theorem d_M_hyperOf_105 : decode b_M_hyperOf 105 = .ok (.ireturn, 1) := by decide +kernel
theorem d_M_hyperOf_106 : decode b_M_hyperOf 106 = .ok (.bipush 20, 2) := by decide +kernel
theorem d_M_hyperOf_108 : decode b_M_hyperOf 108 = .ok (.ireturn, 1) := by decide +kernel
theorem d_M_hyperOf_109 : decode b_M_hyperOf 109 = .ok (.bipush 21, 2) := by decide +kernel
theorem d_M_hyperOf_111 : decode b_M_hyperOf 111 = .ok (.ireturn, 1) := by decide +kernel
theorem d_M_hyperOf_112 : decode b_M_hyperOf 112 = .ok (.bipush 22, 2) := by decide +kernel
theorem d_M_hyperOf_114 : decode b_M_hyperOf 114 = .ok (.ireturn, 1) := by decide +kernel
theorem d_M_hyperOf_115 : decode b_M_hyperOf 115 = .ok (.bipush 23, 2) := by decide +kernel
theorem d_M_hyperOf_117 : decode b_M_hyperOf 117 = .ok (.ireturn, 1) := by decide +kernel
theorem d_M_hyperOf_118 : decode b_M_hyperOf 118 = .ok (.bipush 24, 2) := by decide +kernel
theorem d_M_hyperOf_120 : decode b_M_hyperOf 120 = .ok (.ireturn, 1) := by decide +kernel
theorem d_M_hyperOf_121 : decode b_M_hyperOf 121 = .ok (.bipush 25, 2) := by decide +kernel
theorem d_M_hyperOf_123 : decode b_M_hyperOf 123 = .ok (.ireturn, 1) := by decide +kernel
theorem d_M_hyperOf_124 : decode b_M_hyperOf 124 = .ok (.bipush 26, 2) := by decide +kernel
theorem d_M_hyperOf_126 : decode b_M_hyperOf 126 = .ok (.ireturn, 1) := by decide +kernel
theorem d_M_hyperOf_127 : decode b_M_hyperOf 127 = .ok (.bipush 27, 2) := by decide +kernel
theorem d_M_hyperOf_129 : decode b_M_hyperOf 129 = .ok (.ireturn, 1) := by decide +kernel
theorem d_M_hyperOf_130 : decode b_M_hyperOf 130 = .ok (.bipush 28, 2) := by decide +kernel
theorem d_M_hyperOf_132 : decode b_M_hyperOf 132 = .ok (.ireturn, 1) := by decide +kernel
theorem d_M_hyperOf_133 : decode b_M_hyperOf 133 = .ok (.iconst (-1), 1) := by decide +kernel
theorem d_M_hyperOf_134 : decode b_M_hyperOf 134 = .ok (.ireturn, 1) := by decide +kernel
theorem d_M_placeOf_0 : decode b_M_placeOf 0 = .ok (.iload_n 0, 1) := by decide +kernel
theorem d_M_placeOf_1 : decode b_M_placeOf 1 = .ok (.bipush 8, 2) := by decide +kernel
theorem d_M_placeOf_3 : decode b_M_placeOf 3 = .ok (.ishr, 1) := by decide +kernel
theorem d_M_placeOf_4 : decode b_M_placeOf 4 = .ok (.istore_n 1, 1) := by decide +kernel
theorem d_M_placeOf_5 : decode b_M_placeOf 5 = .ok (.iload_n 1, 1) := by decide +kernel
theorem d_M_placeOf_6 : decode b_M_placeOf 6 = .ok (.iconst 1, 1) := by decide +kernel
theorem d_M_placeOf_7 : decode b_M_placeOf 7 = .ok (.if_icmp .eq 13, 3) := by decide +kernel
theorem d_M_placeOf_10 : decode b_M_placeOf 10 = .ok (.iload_n 1, 1) := by decide +kernel
theorem d_M_placeOf_11 : decode b_M_placeOf 11 = .ok (.iconst 2, 1) := by decide +kernel
theorem d_M_placeOf_12 : decode b_M_placeOf 12 = .ok (.if_icmp .eq 8, 3) := by decide +kernel
theorem d_M_placeOf_15 : decode b_M_placeOf 15 = .ok (.iload_n 0, 1) := by decide +kernel
theorem d_M_placeOf_16 : decode b_M_placeOf 16 = .ok (.invokestatic 38, 3) := by decide +kernel
theorem d_M_placeOf_19 : decode b_M_placeOf 19 = .ok (.ireturn, 1) := by decide +kernel
theorem d_M_placeOf_20 : decode b_M_placeOf 20 = .ok (.iload_n 0, 1) := by decide +kernel
theorem d_M_placeOf_21 : decode b_M_placeOf 21 = .ok (.sipush 255, 3) := by decide +kernel
theorem d_M_placeOf_24 : decode b_M_placeOf 24 = .ok (.iand, 1) := by decide +kernel
theorem d_M_placeOf_25 : decode b_M_placeOf 25 = .ok (.invokestatic 42, 3) := by decide +kernel
theorem d_M_placeOf_28 : decode b_M_placeOf 28 = .ok (.istore_n 2, 1) := by decide +kernel
theorem d_M_placeOf_29 : decode b_M_placeOf 29 = .ok (.iload_n 2, 1) := by decide +kernel
theorem d_M_placeOf_30 : decode b_M_placeOf 30 = .ok (.iconst (-1), 1) := by decide +kernel
theorem d_M_placeOf_31 : decode b_M_placeOf 31 = .ok (.if_icmp .ne 7, 3) := by decide +kernel
theorem d_M_placeOf_34 : decode b_M_placeOf 34 = .ok (.iconst (-1), 1) := by decide +kernel
theorem d_M_placeOf_35 : decode b_M_placeOf 35 = .ok (.goto 16, 3) := by decide +kernel
theorem d_M_placeOf_38 : decode b_M_placeOf 38 = .ok (.iload_n 1, 1) := by decide +kernel
theorem d_M_placeOf_39 : decode b_M_placeOf 39 = .ok (.iconst 1, 1) := by decide +kernel
theorem d_M_placeOf_40 : decode b_M_placeOf 40 = .ok (.if_icmp .ne 7, 3) := by decide +kernel
theorem d_M_placeOf_43 : decode b_M_placeOf 43 = .ok (.iload_n 2, 1) := by decide +kernel
theorem d_M_placeOf_44 : decode b_M_placeOf 44 = .ok (.goto 7, 3) := by decide +kernel
theorem d_M_placeOf_47 : decode b_M_placeOf 47 = .ok (.bipush 9, 2) := by decide +kernel
theorem d_M_placeOf_49 : decode b_M_placeOf 49 = .ok (.iload_n 2, 1) := by decide +kernel
theorem d_M_placeOf_50 : decode b_M_placeOf 50 = .ok (.iadd, 1) := by decide +kernel
theorem d_M_placeOf_51 : decode b_M_placeOf 51 = .ok (.ireturn, 1) := by decide +kernel
theorem d_M_has_0 : decode b_M_has 0 = .ok (.aload_n 0, 1) := by decide +kernel
theorem d_M_has_1 : decode b_M_has 1 = .ok (.getfield 7, 3) := by decide +kernel
theorem d_M_has_4 : decode b_M_has 4 = .ok (.iload_n 1, 1) := by decide +kernel
theorem d_M_has_5 : decode b_M_has 5 = .ok (.iaload, 1) := by decide +kernel
theorem d_M_has_6 : decode b_M_has 6 = .ok (.iload_n 2, 1) := by decide +kernel
theorem d_M_has_7 : decode b_M_has 7 = .ok (.ishr, 1) := by decide +kernel
theorem d_M_has_8 : decode b_M_has 8 = .ok (.iconst 1, 1) := by decide +kernel
theorem d_M_has_9 : decode b_M_has 9 = .ok (.iand, 1) := by decide +kernel
theorem d_M_has_10 : decode b_M_has 10 = .ok (.iconst 1, 1) := by decide +kernel
theorem d_M_has_11 : decode b_M_has 11 = .ok (.if_icmp .ne 7, 3) := by decide +kernel
theorem d_M_has_14 : decode b_M_has 14 = .ok (.iconst 1, 1) := by decide +kernel
theorem d_M_has_15 : decode b_M_has 15 = .ok (.goto 4, 3) := by decide +kernel
theorem d_M_has_18 : decode b_M_has 18 = .ok (.iconst 0, 1) := by decide +kernel
theorem d_M_has_19 : decode b_M_has 19 = .ok (.ireturn, 1) := by decide +kernel
theorem d_M_tells_0 : decode b_M_tells 0 = .ok (.iload_n 1, 1) := by decide +kernel
theorem d_M_tells_1 : decode b_M_tells 1 = .ok (.lookupswitch 160 #[(7, 59), (10, 101), (16, 119), (23, 137), (27, 145), (28, 151)], 59) := by decide +kernel
theorem d_M_tells_60 : decode b_M_tells 60 = .ok (.aload_n 0, 1) := by decide +kernel
theorem d_M_tells_61 : decode b_M_tells 61 = .ok (.getfield 7, 3) := by decide +kernel
theorem d_M_tells_64 : decode b_M_tells 64 = .ok (.bipush 7, 2) := by decide +kernel
theorem d_M_tells_66 : decode b_M_tells 66 = .ok (.iaload, 1) := by decide +kernel
theorem d_M_tells_67 : decode b_M_tells 67 = .ok (.aload_n 0, 1) := by decide +kernel
theorem d_M_tells_68 : decode b_M_tells 68 = .ok (.getfield 20, 3) := by decide +kernel
theorem d_M_tells_71 : decode b_M_tells 71 = .ok (.aload_n 0, 1) := by decide +kernel
theorem d_M_tells_72 : decode b_M_tells 72 = .ok (.getfield 26, 3) := by decide +kernel
theorem d_M_tells_75 : decode b_M_tells 75 = .ok (.lcmp, 1) := by decide +kernel
theorem d_M_tells_76 : decode b_M_tells 76 = .ok (.ifCond .lt 8, 3) := by decide +kernel
theorem d_M_tells_79 : decode b_M_tells 79 = .ok (.bipush 32, 2) := by decide +kernel
theorem d_M_tells_81 : decode b_M_tells 81 = .ok (.goto 4, 3) := by decide +kernel
theorem d_M_tells_84 : decode b_M_tells 84 = .ok (.iconst 0, 1) := by decide +kernel
theorem d_M_tells_85 : decode b_M_tells 85 = .ok (.ior, 1) := by decide +kernel
theorem d_M_tells_86 : decode b_M_tells 86 = .ok (.aload_n 0, 1) := by decide +kernel
theorem d_M_tells_87 : decode b_M_tells 87 = .ok (.getfield 29, 3) := by decide +kernel
theorem d_M_tells_90 : decode b_M_tells 90 = .ok (.ifCond .eq 9, 3) := by decide +kernel
theorem d_M_tells_93 : decode b_M_tells 93 = .ok (.sipush 512, 3) := by decide +kernel
theorem d_M_tells_96 : decode b_M_tells 96 = .ok (.goto 4, 3) := by decide +kernel
theorem d_M_tells_99 : decode b_M_tells 99 = .ok (.iconst 0, 1) := by decide +kernel
theorem d_M_tells_100 : decode b_M_tells 100 = .ok (.ior, 1) := by decide +kernel
theorem d_M_tells_101 : decode b_M_tells 101 = .ok (.ireturn, 1) := by decide +kernel
theorem d_M_tells_102 : decode b_M_tells 102 = .ok (.aload_n 0, 1) := by decide +kernel
theorem d_M_tells_103 : decode b_M_tells 103 = .ok (.getfield 7, 3) := by decide +kernel
theorem d_M_tells_106 : decode b_M_tells 106 = .ok (.bipush 21, 2) := by decide +kernel
theorem d_M_tells_108 : decode b_M_tells 108 = .ok (.iaload, 1) := by decide +kernel
theorem d_M_tells_109 : decode b_M_tells 109 = .ok (.aload_n 0, 1) := by decide +kernel
theorem d_M_tells_110 : decode b_M_tells 110 = .ok (.getfield 7, 3) := by decide +kernel
theorem d_M_tells_113 : decode b_M_tells 113 = .ok (.bipush 20, 2) := by decide +kernel
theorem d_M_tells_115 : decode b_M_tells 115 = .ok (.iaload, 1) := by decide +kernel
theorem d_M_tells_116 : decode b_M_tells 116 = .ok (.iand, 1) := by decide +kernel
theorem d_M_tells_117 : decode b_M_tells 117 = .ok (.iconst 1, 1) := by decide +kernel
theorem d_M_tells_118 : decode b_M_tells 118 = .ok (.ishr, 1) := by decide +kernel
theorem d_M_tells_119 : decode b_M_tells 119 = .ok (.ireturn, 1) := by decide +kernel
theorem d_M_tells_120 : decode b_M_tells 120 = .ok (.aload_n 0, 1) := by decide +kernel
theorem d_M_tells_121 : decode b_M_tells 121 = .ok (.getfield 7, 3) := by decide +kernel
theorem d_M_tells_124 : decode b_M_tells 124 = .ok (.bipush 24, 2) := by decide +kernel
theorem d_M_tells_126 : decode b_M_tells 126 = .ok (.iaload, 1) := by decide +kernel
theorem d_M_tells_127 : decode b_M_tells 127 = .ok (.aload_n 0, 1) := by decide +kernel
theorem d_M_tells_128 : decode b_M_tells 128 = .ok (.getfield 7, 3) := by decide +kernel
theorem d_M_tells_131 : decode b_M_tells 131 = .ok (.bipush 20, 2) := by decide +kernel
theorem d_M_tells_133 : decode b_M_tells 133 = .ok (.iaload, 1) := by decide +kernel
theorem d_M_tells_134 : decode b_M_tells 134 = .ok (.iand, 1) := by decide +kernel
theorem d_M_tells_135 : decode b_M_tells 135 = .ok (.iconst 1, 1) := by decide +kernel
theorem d_M_tells_136 : decode b_M_tells 136 = .ok (.ishr, 1) := by decide +kernel
theorem d_M_tells_137 : decode b_M_tells 137 = .ok (.ireturn, 1) := by decide +kernel
theorem d_M_tells_138 : decode b_M_tells 138 = .ok (.aload_n 0, 1) := by decide +kernel
theorem d_M_tells_139 : decode b_M_tells 139 = .ok (.getfield 7, 3) := by decide +kernel
theorem d_M_tells_142 : decode b_M_tells 142 = .ok (.bipush 24, 2) := by decide +kernel
theorem d_M_tells_144 : decode b_M_tells 144 = .ok (.iaload, 1) := by decide +kernel
theorem d_M_tells_145 : decode b_M_tells 145 = .ok (.ireturn, 1) := by decide +kernel
theorem d_M_tells_146 : decode b_M_tells 146 = .ok (.aload_n 0, 1) := by decide +kernel
theorem d_M_tells_147 : decode b_M_tells 147 = .ok (.getfield 20, 3) := by decide +kernel
theorem d_M_tells_150 : decode b_M_tells 150 = .ok (.l2i, 1) := by decide +kernel
theorem d_M_tells_151 : decode b_M_tells 151 = .ok (.ireturn, 1) := by decide +kernel
theorem d_M_tells_152 : decode b_M_tells 152 = .ok (.aload_n 0, 1) := by decide +kernel
theorem d_M_tells_153 : decode b_M_tells 153 = .ok (.getfield 20, 3) := by decide +kernel
theorem d_M_tells_156 : decode b_M_tells 156 = .ok (.bipush 32, 2) := by decide +kernel
theorem d_M_tells_158 : decode b_M_tells 158 = .ok (.lshr, 1) := by decide +kernel
theorem d_M_tells_159 : decode b_M_tells 159 = .ok (.l2i, 1) := by decide +kernel
theorem d_M_tells_160 : decode b_M_tells 160 = .ok (.ireturn, 1) := by decide +kernel
theorem d_M_tells_161 : decode b_M_tells 161 = .ok (.aload_n 0, 1) := by decide +kernel
theorem d_M_tells_162 : decode b_M_tells 162 = .ok (.getfield 7, 3) := by decide +kernel
theorem d_M_tells_165 : decode b_M_tells 165 = .ok (.iload_n 1, 1) := by decide +kernel
theorem d_M_tells_166 : decode b_M_tells 166 = .ok (.iaload, 1) := by decide +kernel
theorem d_M_tells_167 : decode b_M_tells 167 = .ok (.ireturn, 1) := by decide +kernel
theorem d_M_put_0 : decode b_M_put 0 = .ok (.aload_n 0, 1) := by decide +kernel
theorem d_M_put_1 : decode b_M_put 1 = .ok (.getfield 7, 3) := by decide +kernel
theorem d_M_put_4 : decode b_M_put 4 = .ok (.iload_n 1, 1) := by decide +kernel
theorem d_M_put_5 : decode b_M_put 5 = .ok (.aload_n 0, 1) := by decide +kernel
theorem d_M_put_6 : decode b_M_put 6 = .ok (.getfield 7, 3) := by decide +kernel
theorem d_M_put_9 : decode b_M_put 9 = .ok (.iload_n 1, 1) := by decide +kernel
theorem d_M_put_10 : decode b_M_put 10 = .ok (.iaload, 1) := by decide +kernel
theorem d_M_put_11 : decode b_M_put 11 = .ok (.iload_n 2, 1) := by decide +kernel
theorem d_M_put_12 : decode b_M_put 12 = .ok (.iconst (-1), 1) := by decide +kernel
theorem d_M_put_13 : decode b_M_put 13 = .ok (.ixor, 1) := by decide +kernel
theorem d_M_put_14 : decode b_M_put 14 = .ok (.iand, 1) := by decide +kernel
theorem d_M_put_15 : decode b_M_put 15 = .ok (.iload_n 3, 1) := by decide +kernel
theorem d_M_put_16 : decode b_M_put 16 = .ok (.iload_n 2, 1) := by decide +kernel
theorem d_M_put_17 : decode b_M_put 17 = .ok (.iand, 1) := by decide +kernel
theorem d_M_put_18 : decode b_M_put 18 = .ok (.ior, 1) := by decide +kernel
theorem d_M_put_19 : decode b_M_put 19 = .ok (.iastore, 1) := by decide +kernel
theorem d_M_put_20 : decode b_M_put 20 = .ok (.return_, 1) := by decide +kernel
theorem d_M_maskOf_0 : decode b_M_maskOf 0 = .ok (.iload_n 0, 1) := by decide +kernel
theorem d_M_maskOf_1 : decode b_M_maskOf 1 = .ok (.tableswitch 154 0 26 #[123, 126, 130, 154, 133, 154, 154, 139, 136, 123, 154, 130, 154, 133, 154, 154, 154, 136, 141, 144, 147, 147, 154, 154, 147, 154, 151], 123) := by decide +kernel
theorem d_M_maskOf_124 : decode b_M_maskOf 124 = .ok (.ldc 45, 2) := by decide +kernel
theorem d_M_maskOf_126 : decode b_M_maskOf 126 = .ok (.ireturn, 1) := by decide +kernel
theorem d_M_maskOf_127 : decode b_M_maskOf 127 = .ok (.sipush 546, 3) := by decide +kernel
theorem d_M_maskOf_130 : decode b_M_maskOf 130 = .ok (.ireturn, 1) := by decide +kernel
theorem d_M_maskOf_131 : decode b_M_maskOf 131 = .ok (.bipush (-3), 2) := by decide +kernel
theorem d_M_maskOf_133 : decode b_M_maskOf 133 = .ok (.ireturn, 1) := by decide +kernel
theorem d_M_maskOf_134 : decode b_M_maskOf 134 = .ok (.bipush (-4), 2) := by decide +kernel
theorem d_M_maskOf_136 : decode b_M_maskOf 136 = .ok (.ireturn, 1) := by decide +kernel
theorem d_M_maskOf_137 : decode b_M_maskOf 137 = .ok (.ldc 46, 2) := by decide +kernel
theorem d_M_maskOf_139 : decode b_M_maskOf 139 = .ok (.ireturn, 1) := by decide +kernel
theorem d_M_maskOf_140 : decode b_M_maskOf 140 = .ok (.iconst 2, 1) := by decide +kernel
theorem d_M_maskOf_141 : decode b_M_maskOf 141 = .ok (.ireturn, 1) := by decide +kernel
theorem d_M_maskOf_142 : decode b_M_maskOf 142 = .ok (.ldc 47, 2) := by decide +kernel
theorem d_M_maskOf_144 : decode b_M_maskOf 144 = .ok (.ireturn, 1) := by decide +kernel
theorem d_M_maskOf_145 : decode b_M_maskOf 145 = .ok (.ldc 48, 2) := by decide +kernel
theorem d_M_maskOf_147 : decode b_M_maskOf 147 = .ok (.ireturn, 1) := by decide +kernel
theorem d_M_maskOf_148 : decode b_M_maskOf 148 = .ok (.sipush 1092, 3) := by decide +kernel
theorem d_M_maskOf_151 : decode b_M_maskOf 151 = .ok (.ireturn, 1) := by decide +kernel
theorem d_M_maskOf_152 : decode b_M_maskOf 152 = .ok (.ldc 49, 2) := by decide +kernel
theorem d_M_maskOf_154 : decode b_M_maskOf 154 = .ok (.ireturn, 1) := by decide +kernel
theorem d_M_maskOf_155 : decode b_M_maskOf 155 = .ok (.iconst (-1), 1) := by decide +kernel
theorem d_M_maskOf_156 : decode b_M_maskOf 156 = .ok (.ireturn, 1) := by decide +kernel
theorem d_M_write_0 : decode b_M_write 0 = .ok (.iload_n 1, 1) := by decide +kernel
theorem d_M_write_1 : decode b_M_write 1 = .ok (.bipush 10, 2) := by decide +kernel
theorem d_M_write_3 : decode b_M_write 3 = .ok (.if_icmp .ne 26, 3) := by decide +kernel
theorem d_M_write_6 : decode b_M_write 6 = .ok (.aload_n 0, 1) := by decide +kernel
theorem d_M_write_7 : decode b_M_write 7 = .ok (.bipush 21, 2) := by decide +kernel
theorem d_M_write_9 : decode b_M_write 9 = .ok (.aload_n 0, 1) := by decide +kernel
theorem d_M_write_10 : decode b_M_write 10 = .ok (.getfield 7, 3) := by decide +kernel
theorem d_M_write_13 : decode b_M_write 13 = .ok (.bipush 20, 2) := by decide +kernel
theorem d_M_write_15 : decode b_M_write 15 = .ok (.iaload, 1) := by decide +kernel
theorem d_M_write_16 : decode b_M_write 16 = .ok (.sipush 1092, 3) := by decide +kernel
theorem d_M_write_19 : decode b_M_write 19 = .ok (.iand, 1) := by decide +kernel
theorem d_M_write_20 : decode b_M_write 20 = .ok (.iload_n 2, 1) := by decide +kernel
theorem d_M_write_21 : decode b_M_write 21 = .ok (.iconst 1, 1) := by decide +kernel
theorem d_M_write_22 : decode b_M_write 22 = .ok (.ishl, 1) := by decide +kernel
theorem d_M_write_23 : decode b_M_write 23 = .ok (.invokevirtual 50, 3) := by decide +kernel
theorem d_M_write_26 : decode b_M_write 26 = .ok (.goto 59, 3) := by decide +kernel
theorem d_M_write_29 : decode b_M_write 29 = .ok (.iload_n 1, 1) := by decide +kernel
theorem d_M_write_30 : decode b_M_write 30 = .ok (.bipush 16, 2) := by decide +kernel
theorem d_M_write_32 : decode b_M_write 32 = .ok (.if_icmp .ne 24, 3) := by decide +kernel
theorem d_M_write_35 : decode b_M_write 35 = .ok (.aload_n 0, 1) := by decide +kernel
theorem d_M_write_36 : decode b_M_write 36 = .ok (.bipush 24, 2) := by decide +kernel
theorem d_M_write_38 : decode b_M_write 38 = .ok (.aload_n 0, 1) := by decide +kernel
theorem d_M_write_39 : decode b_M_write 39 = .ok (.getfield 7, 3) := by decide +kernel
theorem d_M_write_42 : decode b_M_write 42 = .ok (.bipush 20, 2) := by decide +kernel
theorem d_M_write_44 : decode b_M_write 44 = .ok (.iaload, 1) := by decide +kernel
theorem d_M_write_45 : decode b_M_write 45 = .ok (.iconst 4, 1) := by decide +kernel
theorem d_M_write_46 : decode b_M_write 46 = .ok (.iand, 1) := by decide +kernel
theorem d_M_write_47 : decode b_M_write 47 = .ok (.iload_n 2, 1) := by decide +kernel
theorem d_M_write_48 : decode b_M_write 48 = .ok (.iconst 1, 1) := by decide +kernel
theorem d_M_write_49 : decode b_M_write 49 = .ok (.ishl, 1) := by decide +kernel
theorem d_M_write_50 : decode b_M_write 50 = .ok (.invokevirtual 50, 3) := by decide +kernel
theorem d_M_write_53 : decode b_M_write 53 = .ok (.goto 32, 3) := by decide +kernel
theorem d_M_write_56 : decode b_M_write 56 = .ok (.iload_n 1, 1) := by decide +kernel
theorem d_M_write_57 : decode b_M_write 57 = .ok (.bipush 23, 2) := by decide +kernel
theorem d_M_write_59 : decode b_M_write 59 = .ok (.if_icmp .ne 14, 3) := by decide +kernel
theorem d_M_write_62 : decode b_M_write 62 = .ok (.aload_n 0, 1) := by decide +kernel
theorem d_M_write_63 : decode b_M_write 63 = .ok (.bipush 24, 2) := by decide +kernel
theorem d_M_write_65 : decode b_M_write 65 = .ok (.iconst 4, 1) := by decide +kernel
theorem d_M_write_66 : decode b_M_write 66 = .ok (.iload_n 2, 1) := by decide +kernel
theorem d_M_write_67 : decode b_M_write 67 = .ok (.invokevirtual 50, 3) := by decide +kernel
theorem d_M_write_70 : decode b_M_write 70 = .ok (.goto 15, 3) := by decide +kernel
theorem d_M_write_73 : decode b_M_write 73 = .ok (.aload_n 0, 1) := by decide +kernel
theorem d_M_write_74 : decode b_M_write 74 = .ok (.iload_n 1, 1) := by decide +kernel
theorem d_M_write_75 : decode b_M_write 75 = .ok (.iconst (-1), 1) := by decide +kernel
theorem d_M_write_76 : decode b_M_write 76 = .ok (.iload_n 2, 1) := by decide +kernel
theorem d_M_write_77 : decode b_M_write 77 = .ok (.iload_n 1, 1) := by decide +kernel
theorem d_M_write_78 : decode b_M_write 78 = .ok (.invokestatic 54, 3) := by decide +kernel
theorem d_M_write_81 : decode b_M_write 81 = .ok (.iand, 1) := by decide +kernel
theorem d_M_write_82 : decode b_M_write 82 = .ok (.invokevirtual 50, 3) := by decide +kernel
theorem d_M_write_85 : decode b_M_write 85 = .ok (.return_, 1) := by decide +kernel
theorem d_M_refusal_0 : decode b_M_refusal 0 = .ok (.iload_n 1, 1) := by decide +kernel
theorem d_M_refusal_1 : decode b_M_refusal 1 = .ok (.bipush 27, 2) := by decide +kernel
theorem d_M_refusal_3 : decode b_M_refusal 3 = .ok (.if_icmp .eq 9, 3) := by decide +kernel
theorem d_M_refusal_6 : decode b_M_refusal 6 = .ok (.iload_n 1, 1) := by decide +kernel
theorem d_M_refusal_7 : decode b_M_refusal 7 = .ok (.bipush 28, 2) := by decide +kernel
theorem d_M_refusal_9 : decode b_M_refusal 9 = .ok (.if_icmp .ne 7, 3) := by decide +kernel
theorem d_M_refusal_12 : decode b_M_refusal 12 = .ok (.iconst 1, 1) := by decide +kernel
theorem d_M_refusal_13 : decode b_M_refusal 13 = .ok (.goto 4, 3) := by decide +kernel
theorem d_M_refusal_16 : decode b_M_refusal 16 = .ok (.iconst 0, 1) := by decide +kernel
theorem d_M_refusal_17 : decode b_M_refusal 17 = .ok (.istore_n 3, 1) := by decide +kernel
theorem d_M_refusal_18 : decode b_M_refusal 18 = .ok (.iload_n 1, 1) := by decide +kernel
theorem d_M_refusal_19 : decode b_M_refusal 19 = .ok (.iconst (-1), 1) := by decide +kernel
theorem d_M_refusal_20 : decode b_M_refusal 20 = .ok (.if_icmp .eq 11, 3) := by decide +kernel
theorem d_M_refusal_23 : decode b_M_refusal 23 = .ok (.iload_n 3, 1) := by decide +kernel
theorem d_M_refusal_24 : decode b_M_refusal 24 = .ok (.ifCond .eq 9, 3) := by decide +kernel
theorem d_M_refusal_27 : decode b_M_refusal 27 = .ok (.iload_n 2, 1) := by decide +kernel
theorem d_M_refusal_28 : decode b_M_refusal 28 = .ok (.ifCond .eq 5, 3) := by decide +kernel
theorem d_M_refusal_31 : decode b_M_refusal 31 = .ok (.iconst 2, 1) := by decide +kernel
theorem d_M_refusal_32 : decode b_M_refusal 32 = .ok (.ireturn, 1) := by decide +kernel
theorem d_M_refusal_33 : decode b_M_refusal 33 = .ok (.aload_n 0, 1) := by decide +kernel
theorem d_M_refusal_34 : decode b_M_refusal 34 = .ok (.getfield 16, 3) := by decide +kernel
theorem d_M_refusal_37 : decode b_M_refusal 37 = .ok (.iconst 1, 1) := by decide +kernel
theorem d_M_refusal_38 : decode b_M_refusal 38 = .ok (.if_icmp .eq 7, 3) := by decide +kernel
theorem d_M_refusal_41 : decode b_M_refusal 41 = .ok (.iload_n 3, 1) := by decide +kernel
theorem d_M_refusal_42 : decode b_M_refusal 42 = .ok (.ifCond .eq 5, 3) := by decide +kernel
theorem d_M_refusal_45 : decode b_M_refusal 45 = .ok (.iconst 0, 1) := by decide +kernel
theorem d_M_refusal_46 : decode b_M_refusal 46 = .ok (.ireturn, 1) := by decide +kernel
theorem d_M_refusal_47 : decode b_M_refusal 47 = .ok (.aload_n 0, 1) := by decide +kernel
theorem d_M_refusal_48 : decode b_M_refusal 48 = .ok (.getfield 16, 3) := by decide +kernel
theorem d_M_refusal_51 : decode b_M_refusal 51 = .ok (.ifCond .ne 5, 3) := by decide +kernel
theorem d_M_refusal_54 : decode b_M_refusal 54 = .ok (.iconst 2, 1) := by decide +kernel
theorem d_M_refusal_55 : decode b_M_refusal 55 = .ok (.ireturn, 1) := by decide +kernel
theorem d_M_refusal_56 : decode b_M_refusal 56 = .ok (.aload_n 0, 1) := by decide +kernel
theorem d_M_refusal_57 : decode b_M_refusal 57 = .ok (.getfield 16, 3) := by decide +kernel
theorem d_M_refusal_60 : decode b_M_refusal 60 = .ok (.iconst 3, 1) := by decide +kernel
theorem d_M_refusal_61 : decode b_M_refusal 61 = .ok (.if_icmp .ne 30, 3) := by decide +kernel
theorem d_M_refusal_64 : decode b_M_refusal 64 = .ok (.iload_n 1, 1) := by decide +kernel
theorem d_M_refusal_65 : decode b_M_refusal 65 = .ok (.bipush 8, 2) := by decide +kernel
theorem d_M_refusal_67 : decode b_M_refusal 67 = .ok (.if_icmp .gt 24, 3) := by decide +kernel
theorem d_M_refusal_70 : decode b_M_refusal 70 = .ok (.iload_n 1, 1) := by decide +kernel
theorem d_M_refusal_71 : decode b_M_refusal 71 = .ok (.bipush 8, 2) := by decide +kernel
theorem d_M_refusal_73 : decode b_M_refusal 73 = .ok (.if_icmp .ne 14, 3) := by decide +kernel
theorem d_M_refusal_76 : decode b_M_refusal 76 = .ok (.aload_n 0, 1) := by decide +kernel
theorem d_M_refusal_77 : decode b_M_refusal 77 = .ok (.bipush 18, 2) := by decide +kernel
theorem d_M_refusal_79 : decode b_M_refusal 79 = .ok (.bipush 20, 2) := by decide +kernel
theorem d_M_refusal_81 : decode b_M_refusal 81 = .ok (.invokevirtual 57, 3) := by decide +kernel
theorem d_M_refusal_84 : decode b_M_refusal 84 = .ok (.ifCond .ne 7, 3) := by decide +kernel
theorem d_M_refusal_87 : decode b_M_refusal 87 = .ok (.iconst 1, 1) := by decide +kernel
theorem d_M_refusal_88 : decode b_M_refusal 88 = .ok (.goto 4, 3) := by decide +kernel
theorem d_M_refusal_91 : decode b_M_refusal 91 = .ok (.iconst 0, 1) := by decide +kernel
theorem d_M_refusal_92 : decode b_M_refusal 92 = .ok (.istore 4, 2) := by decide +kernel
theorem d_M_refusal_94 : decode b_M_refusal 94 = .ok (.iload 4, 2) := by decide +kernel
theorem d_M_refusal_96 : decode b_M_refusal 96 = .ok (.ifCond .eq 7, 3) := by decide +kernel
theorem d_M_refusal_99 : decode b_M_refusal 99 = .ok (.iconst 0, 1) := by decide +kernel
theorem d_M_refusal_100 : decode b_M_refusal 100 = .ok (.goto 5, 3) := by decide +kernel
theorem d_M_refusal_103 : decode b_M_refusal 103 = .ok (.bipush 22, 2) := by decide +kernel
theorem d_M_refusal_105 : decode b_M_refusal 105 = .ok (.ireturn, 1) := by decide +kernel
theorem d_M_access_0 : decode b_M_access 0 = .ok (.iload_n 2, 1) := by decide +kernel
theorem d_M_access_1 : decode b_M_access 1 = .ok (.ifCond .lt 8, 3) := by decide +kernel
theorem d_M_access_4 : decode b_M_access 4 = .ok (.iload_n 2, 1) := by decide +kernel
theorem d_M_access_5 : decode b_M_access 5 = .ok (.iconst 3, 1) := by decide +kernel
theorem d_M_access_6 : decode b_M_access 6 = .ok (.if_icmp .le 5, 3) := by decide +kernel
theorem d_M_access_9 : decode b_M_access 9 = .ok (.iconst (-1), 1) := by decide +kernel
theorem d_M_access_10 : decode b_M_access 10 = .ok (.ireturn, 1) := by decide +kernel
theorem d_M_access_11 : decode b_M_access 11 = .ok (.iload_n 1, 1) := by decide +kernel
theorem d_M_access_12 : decode b_M_access 12 = .ok (.invokestatic 61, 3) := by decide +kernel
theorem d_M_access_15 : decode b_M_access 15 = .ok (.istore 4, 2) := by decide +kernel
theorem d_M_access_17 : decode b_M_access 17 = .ok (.aload_n 0, 1) := by decide +kernel
theorem d_M_access_18 : decode b_M_access 18 = .ok (.iload 4, 2) := by decide +kernel
theorem d_M_access_20 : decode b_M_access 20 = .ok (.iload_n 2, 1) := by decide +kernel
theorem d_M_access_21 : decode b_M_access 21 = .ok (.ifCond .le 7, 3) := by decide +kernel
theorem d_M_access_24 : decode b_M_access 24 = .ok (.iconst 1, 1) := by decide +kernel
theorem d_M_access_25 : decode b_M_access 25 = .ok (.goto 4, 3) := by decide +kernel
theorem d_M_access_28 : decode b_M_access 28 = .ok (.iconst 0, 1) := by decide +kernel
theorem d_M_access_29 : decode b_M_access 29 = .ok (.invokevirtual 64, 3) := by decide +kernel
theorem d_M_access_32 : decode b_M_access 32 = .ok (.istore 5, 2) := by decide +kernel
theorem d_M_access_34 : decode b_M_access 34 = .ok (.iload 5, 2) := by decide +kernel
theorem d_M_access_36 : decode b_M_access 36 = .ok (.ifCond .le 6, 3) := by decide +kernel
theorem d_M_access_39 : decode b_M_access 39 = .ok (.iload 5, 2) := by decide +kernel
theorem d_M_access_41 : decode b_M_access 41 = .ok (.ireturn, 1) := by decide +kernel
theorem d_M_access_42 : decode b_M_access 42 = .ok (.aload_n 0, 1) := by decide +kernel
theorem d_M_access_43 : decode b_M_access 43 = .ok (.getfield 16, 3) := by decide +kernel
theorem d_M_access_46 : decode b_M_access 46 = .ok (.iconst 3, 1) := by decide +kernel
theorem d_M_access_47 : decode b_M_access 47 = .ok (.if_icmp .ne 18, 3) := by decide +kernel
theorem d_M_access_50 : decode b_M_access 50 = .ok (.iload 4, 2) := by decide +kernel
theorem d_M_access_52 : decode b_M_access 52 = .ok (.bipush 8, 2) := by decide +kernel
theorem d_M_access_54 : decode b_M_access 54 = .ok (.if_icmp .gt 11, 3) := by decide +kernel
theorem d_M_access_57 : decode b_M_access 57 = .ok (.iload 4, 2) := by decide +kernel
theorem d_M_access_59 : decode b_M_access 59 = .ok (.bipush 9, 2) := by decide +kernel
theorem d_M_access_61 : decode b_M_access 61 = .ok (.iadd, 1) := by decide +kernel
theorem d_M_access_62 : decode b_M_access 62 = .ok (.goto 5, 3) := by decide +kernel
theorem d_M_access_65 : decode b_M_access 65 = .ok (.iload 4, 2) := by decide +kernel
theorem d_M_access_67 : decode b_M_access 67 = .ok (.istore 6, 2) := by decide +kernel
theorem d_M_access_69 : decode b_M_access 69 = .ok (.aload_n 0, 1) := by decide +kernel
theorem d_M_access_70 : decode b_M_access 70 = .ok (.aload_n 0, 1) := by decide +kernel
theorem d_M_access_71 : decode b_M_access 71 = .ok (.iload 6, 2) := by decide +kernel
theorem d_M_access_73 : decode b_M_access 73 = .ok (.invokevirtual 68, 3) := by decide +kernel
theorem d_M_access_76 : decode b_M_access 76 = .ok (.putfield 33, 3) := by decide +kernel
theorem d_M_access_79 : decode b_M_access 79 = .ok (.iload_n 2, 1) := by decide +kernel
theorem d_M_access_80 : decode b_M_access 80 = .ok (.ifCond .le 40, 3) := by decide +kernel
theorem d_M_access_83 : decode b_M_access 83 = .ok (.aload_n 0, 1) := by decide +kernel
theorem d_M_access_84 : decode b_M_access 84 = .ok (.iload 6, 2) := by decide +kernel
theorem d_M_access_86 : decode b_M_access 86 = .ok (.iload_n 2, 1) := by decide +kernel
theorem d_M_access_87 : decode b_M_access 87 = .ok (.iconst 1, 1) := by decide +kernel
theorem d_M_access_88 : decode b_M_access 88 = .ok (.if_icmp .ne 7, 3) := by decide +kernel
theorem d_M_access_91 : decode b_M_access 91 = .ok (.iload_n 3, 1) := by decide +kernel
theorem d_M_access_92 : decode b_M_access 92 = .ok (.goto 25, 3) := by decide +kernel
theorem d_M_access_95 : decode b_M_access 95 = .ok (.iload_n 2, 1) := by decide +kernel
theorem d_M_access_96 : decode b_M_access 96 = .ok (.iconst 2, 1) := by decide +kernel
theorem d_M_access_97 : decode b_M_access 97 = .ok (.if_icmp .ne 12, 3) := by decide +kernel
theorem d_M_access_100 : decode b_M_access 100 = .ok (.aload_n 0, 1) := by decide +kernel
theorem d_M_access_101 : decode b_M_access 101 = .ok (.getfield 33, 3) := by decide +kernel
theorem d_M_access_104 : decode b_M_access 104 = .ok (.iload_n 3, 1) := by decide +kernel
theorem d_M_access_105 : decode b_M_access 105 = .ok (.ior, 1) := by decide +kernel
theorem d_M_access_106 : decode b_M_access 106 = .ok (.goto 11, 3) := by decide +kernel
theorem d_M_access_109 : decode b_M_access 109 = .ok (.aload_n 0, 1) := by decide +kernel
theorem d_M_access_110 : decode b_M_access 110 = .ok (.getfield 33, 3) := by decide +kernel
theorem d_M_access_113 : decode b_M_access 113 = .ok (.iload_n 3, 1) := by decide +kernel
theorem d_M_access_114 : decode b_M_access 114 = .ok (.iconst (-1), 1) := by decide +kernel
theorem d_M_access_115 : decode b_M_access 115 = .ok (.ixor, 1) := by decide +kernel
theorem d_M_access_116 : decode b_M_access 116 = .ok (.iand, 1) := by decide +kernel
theorem d_M_access_117 : decode b_M_access 117 = .ok (.invokevirtual 71, 3) := by decide +kernel
theorem d_M_access_120 : decode b_M_access 120 = .ok (.iconst 0, 1) := by decide +kernel
theorem d_M_access_121 : decode b_M_access 121 = .ok (.ireturn, 1) := by decide +kernel
theorem d_M_old_0 : decode b_M_old 0 = .ok (.aload_n 0, 1) := by decide +kernel
theorem d_M_old_1 : decode b_M_old 1 = .ok (.getfield 33, 3) := by decide +kernel
theorem d_M_old_4 : decode b_M_old 4 = .ok (.ireturn, 1) := by decide +kernel
theorem d_M_control_0 : decode b_M_control 0 = .ok (.iload_n 1, 1) := by decide +kernel
theorem d_M_control_1 : decode b_M_control 1 = .ok (.invokestatic 61, 3) := by decide +kernel
theorem d_M_control_4 : decode b_M_control 4 = .ok (.istore_n 2, 1) := by decide +kernel
theorem d_M_control_5 : decode b_M_control 5 = .ok (.iload_n 2, 1) := by decide +kernel
theorem d_M_control_6 : decode b_M_control 6 = .ok (.iconst (-1), 1) := by decide +kernel
theorem d_M_control_7 : decode b_M_control 7 = .ok (.if_icmp .ne 7, 3) := by decide +kernel
theorem d_M_control_10 : decode b_M_control 10 = .ok (.iconst 0, 1) := by decide +kernel
theorem d_M_control_11 : decode b_M_control 11 = .ok (.goto 8, 3) := by decide +kernel
theorem d_M_control_14 : decode b_M_control 14 = .ok (.aload_n 0, 1) := by decide +kernel
theorem d_M_control_15 : decode b_M_control 15 = .ok (.iload_n 2, 1) := by decide +kernel
theorem d_M_control_16 : decode b_M_control 16 = .ok (.invokevirtual 68, 3) := by decide +kernel
theorem d_M_control_19 : decode b_M_control 19 = .ok (.ireturn, 1) := by decide +kernel
theorem d_M_used_0 : decode b_M_used 0 = .ok (.iconst 0, 1) := by decide +kernel
theorem d_M_used_1 : decode b_M_used 1 = .ok (.istore_n 1, 1) := by decide +kernel
theorem d_M_used_2 : decode b_M_used 2 = .ok (.iconst 0, 1) := by decide +kernel
theorem d_M_used_3 : decode b_M_used 3 = .ok (.istore_n 2, 1) := by decide +kernel
theorem d_M_used_4 : decode b_M_used 4 = .ok (.iload_n 2, 1) := by decide +kernel
theorem d_M_used_5 : decode b_M_used 5 = .ok (.bipush 29, 2) := by decide +kernel
theorem d_M_used_7 : decode b_M_used 7 = .ok (.if_icmp .ge 25, 3) := by decide +kernel
theorem d_M_used_10 : decode b_M_used 10 = .ok (.iload_n 1, 1) := by decide +kernel
theorem d_M_used_11 : decode b_M_used 11 = .ok (.aload_n 0, 1) := by decide +kernel
theorem d_M_used_12 : decode b_M_used 12 = .ok (.iload_n 2, 1) := by decide +kernel
theorem d_M_used_13 : decode b_M_used 13 = .ok (.invokevirtual 68, 3) := by decide +kernel
theorem d_M_used_16 : decode b_M_used 16 = .ok (.ifCond .eq 7, 3) := by decide +kernel
theorem d_M_used_19 : decode b_M_used 19 = .ok (.iconst 1, 1) := by decide +kernel
theorem d_M_used_20 : decode b_M_used 20 = .ok (.goto 4, 3) := by decide +kernel
theorem d_M_used_23 : decode b_M_used 23 = .ok (.iconst 0, 1) := by decide +kernel
theorem d_M_used_24 : decode b_M_used 24 = .ok (.iadd, 1) := by decide +kernel
theorem d_M_used_25 : decode b_M_used 25 = .ok (.istore_n 1, 1) := by decide +kernel
theorem d_M_used_26 : decode b_M_used 26 = .ok (.iinc 2 1, 3) := by decide +kernel
theorem d_M_used_29 : decode b_M_used 29 = .ok (.goto (-25), 3) := by decide +kernel
theorem d_M_used_32 : decode b_M_used 32 = .ok (.iload_n 1, 1) := by decide +kernel
theorem d_M_used_33 : decode b_M_used 33 = .ok (.ireturn, 1) := by decide +kernel
theorem d_M_firstOf_0 : decode b_M_firstOf 0 = .ok (.iload_n 0, 1) := by decide +kernel
theorem d_M_firstOf_1 : decode b_M_firstOf 1 = .ok (.iload_n 1, 1) := by decide +kernel
theorem d_M_firstOf_2 : decode b_M_firstOf 2 = .ok (.ishr, 1) := by decide +kernel
theorem d_M_firstOf_3 : decode b_M_firstOf 3 = .ok (.iconst 1, 1) := by decide +kernel
theorem d_M_firstOf_4 : decode b_M_firstOf 4 = .ok (.iand, 1) := by decide +kernel
theorem d_M_firstOf_5 : decode b_M_firstOf 5 = .ok (.iconst 1, 1) := by decide +kernel
theorem d_M_firstOf_6 : decode b_M_firstOf 6 = .ok (.if_icmp .ne 7, 3) := by decide +kernel
theorem d_M_firstOf_9 : decode b_M_firstOf 9 = .ok (.iload_n 1, 1) := by decide +kernel
theorem d_M_firstOf_10 : decode b_M_firstOf 10 = .ok (.goto 30, 3) := by decide +kernel
theorem d_M_firstOf_13 : decode b_M_firstOf 13 = .ok (.iload_n 0, 1) := by decide +kernel
theorem d_M_firstOf_14 : decode b_M_firstOf 14 = .ok (.iload_n 2, 1) := by decide +kernel
theorem d_M_firstOf_15 : decode b_M_firstOf 15 = .ok (.ishr, 1) := by decide +kernel
theorem d_M_firstOf_16 : decode b_M_firstOf 16 = .ok (.iconst 1, 1) := by decide +kernel
theorem d_M_firstOf_17 : decode b_M_firstOf 17 = .ok (.iand, 1) := by decide +kernel
theorem d_M_firstOf_18 : decode b_M_firstOf 18 = .ok (.iconst 1, 1) := by decide +kernel
theorem d_M_firstOf_19 : decode b_M_firstOf 19 = .ok (.if_icmp .ne 7, 3) := by decide +kernel
theorem d_M_firstOf_22 : decode b_M_firstOf 22 = .ok (.iload_n 2, 1) := by decide +kernel
theorem d_M_firstOf_23 : decode b_M_firstOf 23 = .ok (.goto 17, 3) := by decide +kernel
theorem d_M_firstOf_26 : decode b_M_firstOf 26 = .ok (.iload_n 0, 1) := by decide +kernel
theorem d_M_firstOf_27 : decode b_M_firstOf 27 = .ok (.iload_n 3, 1) := by decide +kernel
theorem d_M_firstOf_28 : decode b_M_firstOf 28 = .ok (.ishr, 1) := by decide +kernel
theorem d_M_firstOf_29 : decode b_M_firstOf 29 = .ok (.iconst 1, 1) := by decide +kernel
theorem d_M_firstOf_30 : decode b_M_firstOf 30 = .ok (.iand, 1) := by decide +kernel
theorem d_M_firstOf_31 : decode b_M_firstOf 31 = .ok (.iconst 1, 1) := by decide +kernel
theorem d_M_firstOf_32 : decode b_M_firstOf 32 = .ok (.if_icmp .ne 7, 3) := by decide +kernel
theorem d_M_firstOf_35 : decode b_M_firstOf 35 = .ok (.iload_n 3, 1) := by decide +kernel
theorem d_M_firstOf_36 : decode b_M_firstOf 36 = .ok (.goto 4, 3) := by decide +kernel
theorem d_M_firstOf_39 : decode b_M_firstOf 39 = .ok (.iconst (-1), 1) := by decide +kernel
theorem d_M_firstOf_40 : decode b_M_firstOf 40 = .ok (.ireturn, 1) := by decide +kernel
theorem d_M_due_0 : decode b_M_due 0 = .ok (.aload_n 0, 1) := by decide +kernel
theorem d_M_due_1 : decode b_M_due 1 = .ok (.bipush 7, 2) := by decide +kernel
theorem d_M_due_3 : decode b_M_due 3 = .ok (.invokevirtual 68, 3) := by decide +kernel
theorem d_M_due_6 : decode b_M_due 6 = .ok (.aload_n 0, 1) := by decide +kernel
theorem d_M_due_7 : decode b_M_due 7 = .ok (.getfield 7, 3) := by decide +kernel
theorem d_M_due_10 : decode b_M_due 10 = .ok (.iconst 1, 1) := by decide +kernel
theorem d_M_due_11 : decode b_M_due 11 = .ok (.iaload, 1) := by decide +kernel
theorem d_M_due_12 : decode b_M_due 12 = .ok (.iand, 1) := by decide +kernel
theorem d_M_due_13 : decode b_M_due 13 = .ok (.bipush 9, 2) := by decide +kernel
theorem d_M_due_15 : decode b_M_due 15 = .ok (.iconst 1, 1) := by decide +kernel
theorem d_M_due_16 : decode b_M_due 16 = .ok (.iconst 5, 1) := by decide +kernel
theorem d_M_due_17 : decode b_M_due 17 = .ok (.invokestatic 75, 3) := by decide +kernel
theorem d_M_due_20 : decode b_M_due 20 = .ok (.istore_n 1, 1) := by decide +kernel
theorem d_M_due_21 : decode b_M_due 21 = .ok (.aload_n 0, 1) := by decide +kernel
theorem d_M_due_22 : decode b_M_due 22 = .ok (.getfield 7, 3) := by decide +kernel
theorem d_M_due_25 : decode b_M_due 25 = .ok (.bipush 24, 2) := by decide +kernel
theorem d_M_due_27 : decode b_M_due 27 = .ok (.iaload, 1) := by decide +kernel
theorem d_M_due_28 : decode b_M_due 28 = .ok (.aload_n 0, 1) := by decide +kernel
theorem d_M_due_29 : decode b_M_due 29 = .ok (.getfield 7, 3) := by decide +kernel
theorem d_M_due_32 : decode b_M_due 32 = .ok (.bipush 21, 2) := by decide +kernel
theorem d_M_due_34 : decode b_M_due 34 = .ok (.iaload, 1) := by decide +kernel
theorem d_M_due_35 : decode b_M_due 35 = .ok (.iand, 1) := by decide +kernel
theorem d_M_due_36 : decode b_M_due 36 = .ok (.aload_n 0, 1) := by decide +kernel
theorem d_M_due_37 : decode b_M_due 37 = .ok (.getfield 7, 3) := by decide +kernel
theorem d_M_due_40 : decode b_M_due 40 = .ok (.bipush 20, 2) := by decide +kernel
theorem d_M_due_42 : decode b_M_due 42 = .ok (.iaload, 1) := by decide +kernel
theorem d_M_due_43 : decode b_M_due 43 = .ok (.iconst (-1), 1) := by decide +kernel
theorem d_M_due_44 : decode b_M_due 44 = .ok (.ixor, 1) := by decide +kernel
theorem d_M_due_45 : decode b_M_due 45 = .ok (.iand, 1) := by decide +kernel
theorem d_M_due_46 : decode b_M_due 46 = .ok (.bipush 10, 2) := by decide +kernel
theorem d_M_due_48 : decode b_M_due 48 = .ok (.iconst 2, 1) := by decide +kernel
theorem d_M_due_49 : decode b_M_due 49 = .ok (.bipush 6, 2) := by decide +kernel
theorem d_M_due_51 : decode b_M_due 51 = .ok (.invokestatic 75, 3) := by decide +kernel
theorem d_M_due_54 : decode b_M_due 54 = .ok (.istore_n 2, 1) := by decide +kernel
theorem d_M_due_55 : decode b_M_due 55 = .ok (.aload_n 0, 1) := by decide +kernel
theorem d_M_due_56 : decode b_M_due 56 = .ok (.getfield 16, 3) := by decide +kernel
theorem d_M_due_59 : decode b_M_due 59 = .ok (.iconst 1, 1) := by decide +kernel
theorem d_M_due_60 : decode b_M_due 60 = .ok (.if_icmp .ne 12, 3) := by decide +kernel
theorem d_M_due_63 : decode b_M_due 63 = .ok (.aload_n 0, 1) := by decide +kernel
theorem d_M_due_64 : decode b_M_due 64 = .ok (.iconst 0, 1) := by decide +kernel
theorem d_M_due_65 : decode b_M_due 65 = .ok (.iconst 1, 1) := by decide +kernel
theorem d_M_due_66 : decode b_M_due 66 = .ok (.invokevirtual 57, 3) := by decide +kernel
theorem d_M_due_69 : decode b_M_due 69 = .ok (.ifCond .eq 7, 3) := by decide +kernel
theorem d_M_due_72 : decode b_M_due 72 = .ok (.iconst 1, 1) := by decide +kernel
theorem d_M_due_73 : decode b_M_due 73 = .ok (.goto 4, 3) := by decide +kernel
theorem d_M_due_76 : decode b_M_due 76 = .ok (.iconst 0, 1) := by decide +kernel
theorem d_M_due_77 : decode b_M_due 77 = .ok (.istore_n 3, 1) := by decide +kernel
theorem d_M_due_78 : decode b_M_due 78 = .ok (.iload_n 3, 1) := by decide +kernel
theorem d_M_due_79 : decode b_M_due 79 = .ok (.ifCond .eq 24, 3) := by decide +kernel
theorem d_M_due_82 : decode b_M_due 82 = .ok (.iload_n 1, 1) := by decide +kernel
theorem d_M_due_83 : decode b_M_due 83 = .ok (.iconst (-1), 1) := by decide +kernel
theorem d_M_due_84 : decode b_M_due 84 = .ok (.if_icmp .ne 8, 3) := by decide +kernel
theorem d_M_due_87 : decode b_M_due 87 = .ok (.iload_n 2, 1) := by decide +kernel
theorem d_M_due_88 : decode b_M_due 88 = .ok (.iconst (-1), 1) := by decide +kernel
theorem d_M_due_89 : decode b_M_due 89 = .ok (.if_icmp .eq 14, 3) := by decide +kernel
theorem d_M_due_92 : decode b_M_due 92 = .ok (.iload_n 1, 1) := by decide +kernel
theorem d_M_due_93 : decode b_M_due 93 = .ok (.iconst (-1), 1) := by decide +kernel
theorem d_M_due_94 : decode b_M_due 94 = .ok (.if_icmp .eq 7, 3) := by decide +kernel
theorem d_M_due_97 : decode b_M_due 97 = .ok (.iload_n 1, 1) := by decide +kernel
theorem d_M_due_98 : decode b_M_due 98 = .ok (.goto 4, 3) := by decide +kernel
theorem d_M_due_101 : decode b_M_due 101 = .ok (.iload_n 2, 1) := by decide +kernel
theorem d_M_due_102 : decode b_M_due 102 = .ok (.ireturn, 1) := by decide +kernel
theorem d_M_due_103 : decode b_M_due 103 = .ok (.aload_n 0, 1) := by decide +kernel
theorem d_M_due_104 : decode b_M_due 104 = .ok (.getfield 7, 3) := by decide +kernel
theorem d_M_due_107 : decode b_M_due 107 = .ok (.bipush 24, 2) := by decide +kernel
theorem d_M_due_109 : decode b_M_due 109 = .ok (.iaload, 1) := by decide +kernel
theorem d_M_due_110 : decode b_M_due 110 = .ok (.aload_n 0, 1) := by decide +kernel
theorem d_M_due_111 : decode b_M_due 111 = .ok (.getfield 7, 3) := by decide +kernel
theorem d_M_due_114 : decode b_M_due 114 = .ok (.bipush 21, 2) := by decide +kernel
theorem d_M_due_116 : decode b_M_due 116 = .ok (.iaload, 1) := by decide +kernel
theorem d_M_due_117 : decode b_M_due 117 = .ok (.iand, 1) := by decide +kernel
theorem d_M_due_118 : decode b_M_due 118 = .ok (.aload_n 0, 1) := by decide +kernel
theorem d_M_due_119 : decode b_M_due 119 = .ok (.getfield 7, 3) := by decide +kernel
theorem d_M_due_122 : decode b_M_due 122 = .ok (.bipush 20, 2) := by decide +kernel
theorem d_M_due_124 : decode b_M_due 124 = .ok (.iaload, 1) := by decide +kernel
theorem d_M_due_125 : decode b_M_due 125 = .ok (.iand, 1) := by decide +kernel
theorem d_M_due_126 : decode b_M_due 126 = .ok (.bipush 10, 2) := by decide +kernel
theorem d_M_due_128 : decode b_M_due 128 = .ok (.iconst 2, 1) := by decide +kernel
theorem d_M_due_129 : decode b_M_due 129 = .ok (.bipush 6, 2) := by decide +kernel
theorem d_M_due_131 : decode b_M_due 131 = .ok (.invokestatic 75, 3) := by decide +kernel
theorem d_M_due_134 : decode b_M_due 134 = .ok (.istore 4, 2) := by decide +kernel
theorem d_M_due_136 : decode b_M_due 136 = .ok (.aload_n 0, 1) := by decide +kernel
theorem d_M_due_137 : decode b_M_due 137 = .ok (.getfield 16, 3) := by decide +kernel
theorem d_M_due_140 : decode b_M_due 140 = .ok (.iconst 2, 1) := by decide +kernel
theorem d_M_due_141 : decode b_M_due 141 = .ok (.if_icmp .eq 21, 3) := by decide +kernel
theorem d_M_due_144 : decode b_M_due 144 = .ok (.aload_n 0, 1) := by decide +kernel
theorem d_M_due_145 : decode b_M_due 145 = .ok (.getfield 16, 3) := by decide +kernel
theorem d_M_due_148 : decode b_M_due 148 = .ok (.iconst 3, 1) := by decide +kernel
theorem d_M_due_149 : decode b_M_due 149 = .ok (.if_icmp .ne 17, 3) := by decide +kernel
theorem d_M_due_152 : decode b_M_due 152 = .ok (.aload_n 0, 1) := by decide +kernel
theorem d_M_due_153 : decode b_M_due 153 = .ok (.bipush 9, 2) := by decide +kernel
theorem d_M_due_155 : decode b_M_due 155 = .ok (.iconst 1, 1) := by decide +kernel
theorem d_M_due_156 : decode b_M_due 156 = .ok (.invokevirtual 57, 3) := by decide +kernel
theorem d_M_due_159 : decode b_M_due 159 = .ok (.ifCond .eq 7, 3) := by decide +kernel
theorem d_M_due_162 : decode b_M_due 162 = .ok (.iconst 1, 1) := by decide +kernel
theorem d_M_due_163 : decode b_M_due 163 = .ok (.goto 4, 3) := by decide +kernel
theorem d_M_due_166 : decode b_M_due 166 = .ok (.iconst 0, 1) := by decide +kernel
theorem d_M_due_167 : decode b_M_due 167 = .ok (.istore 5, 2) := by decide +kernel
theorem d_M_due_169 : decode b_M_due 169 = .ok (.iload 5, 2) := by decide +kernel
theorem d_M_due_171 : decode b_M_due 171 = .ok (.ifCond .eq 19, 3) := by decide +kernel
theorem d_M_due_174 : decode b_M_due 174 = .ok (.iload 4, 2) := by decide +kernel
theorem d_M_due_176 : decode b_M_due 176 = .ok (.iconst (-1), 1) := by decide +kernel
theorem d_M_due_177 : decode b_M_due 177 = .ok (.if_icmp .eq 13, 3) := by decide +kernel
theorem d_M_due_180 : decode b_M_due 180 = .ok (.bipush 100, 2) := by decide +kernel
theorem d_M_due_182 : decode b_M_due 182 = .ok (.iload 4, 2) := by decide +kernel
theorem d_M_due_184 : decode b_M_due 184 = .ok (.iadd, 1) := by decide +kernel
theorem d_M_due_185 : decode b_M_due 185 = .ok (.iconst 1, 1) := by decide +kernel
theorem d_M_due_186 : decode b_M_due 186 = .ok (.isub, 1) := by decide +kernel
theorem d_M_due_187 : decode b_M_due 187 = .ok (.goto 4, 3) := by decide +kernel
theorem d_M_due_190 : decode b_M_due 190 = .ok (.iconst (-1), 1) := by decide +kernel
theorem d_M_due_191 : decode b_M_due 191 = .ok (.ireturn, 1) := by decide +kernel
end
section
-- what each instruction of the component is
theorem d_F_init_0 : decode b_F_init 0 = .ok (.aload_n 0, 1) := by decide +kernel
theorem d_F_init_1 : decode b_F_init 1 = .ok (.invokespecial 1, 3) := by decide +kernel
theorem d_F_init_4 : decode b_F_init 4 = .ok (.aload_n 0, 1) := by decide +kernel
theorem d_F_init_5 : decode b_F_init 5 = .ok (.new 7, 3) := by decide +kernel
theorem d_F_init_8 : decode b_F_init 8 = .ok (.dup, 1) := by decide +kernel
theorem d_F_init_9 : decode b_F_init 9 = .ok (.invokespecial 9, 3) := by decide +kernel
theorem d_F_init_12 : decode b_F_init 12 = .ok (.putfield 10, 3) := by decide +kernel
theorem d_F_init_15 : decode b_F_init 15 = .ok (.return_, 1) := by decide +kernel
theorem d_F_begin_0 : decode b_F_begin 0 = .ok (.aload_n 0, 1) := by decide +kernel
theorem d_F_begin_1 : decode b_F_begin 1 = .ok (.getfield 10, 3) := by decide +kernel
theorem d_F_begin_4 : decode b_F_begin 4 = .ok (.invokevirtual 16, 3) := by decide +kernel
theorem d_F_begin_7 : decode b_F_begin 7 = .ok (.aload_n 0, 1) := by decide +kernel
theorem d_F_begin_8 : decode b_F_begin 8 = .ok (.iconst 0, 1) := by decide +kernel
theorem d_F_begin_9 : decode b_F_begin 9 = .ok (.putfield 19, 3) := by decide +kernel
theorem d_F_begin_12 : decode b_F_begin 12 = .ok (.return_, 1) := by decide +kernel
theorem d_F_mode_0 : decode b_F_mode 0 = .ok (.iload_n 1, 1) := by decide +kernel
theorem d_F_mode_1 : decode b_F_mode 1 = .ok (.ifCond .lt 8, 3) := by decide +kernel
theorem d_F_mode_4 : decode b_F_mode 4 = .ok (.iload_n 1, 1) := by decide +kernel
theorem d_F_mode_5 : decode b_F_mode 5 = .ok (.iconst 3, 1) := by decide +kernel
theorem d_F_mode_6 : decode b_F_mode 6 = .ok (.if_icmp .le 5, 3) := by decide +kernel
theorem d_F_mode_9 : decode b_F_mode 9 = .ok (.iconst (-1), 1) := by decide +kernel
theorem d_F_mode_10 : decode b_F_mode 10 = .ok (.ireturn, 1) := by decide +kernel
theorem d_F_mode_11 : decode b_F_mode 11 = .ok (.aload_n 0, 1) := by decide +kernel
theorem d_F_mode_12 : decode b_F_mode 12 = .ok (.getfield 10, 3) := by decide +kernel
theorem d_F_mode_15 : decode b_F_mode 15 = .ok (.getfield 23, 3) := by decide +kernel
theorem d_F_mode_18 : decode b_F_mode 18 = .ok (.istore_n 2, 1) := by decide +kernel
theorem d_F_mode_19 : decode b_F_mode 19 = .ok (.aload_n 0, 1) := by decide +kernel
theorem d_F_mode_20 : decode b_F_mode 20 = .ok (.getfield 10, 3) := by decide +kernel
theorem d_F_mode_23 : decode b_F_mode 23 = .ok (.iload_n 1, 1) := by decide +kernel
theorem d_F_mode_24 : decode b_F_mode 24 = .ok (.putfield 23, 3) := by decide +kernel
theorem d_F_mode_27 : decode b_F_mode 27 = .ok (.iload_n 2, 1) := by decide +kernel
theorem d_F_mode_28 : decode b_F_mode 28 = .ok (.ireturn, 1) := by decide +kernel
theorem d_F_time_0 : decode b_F_time 0 = .ok (.lload_n 1, 1) := by decide +kernel
theorem d_F_time_1 : decode b_F_time 1 = .ok (.lconst 0, 1) := by decide +kernel
theorem d_F_time_2 : decode b_F_time 2 = .ok (.lcmp, 1) := by decide +kernel
theorem d_F_time_3 : decode b_F_time 3 = .ok (.ifCond .ge 7, 3) := by decide +kernel
theorem d_F_time_6 : decode b_F_time 6 = .ok (.ldc2_w 26, 3) := by decide +kernel
theorem d_F_time_9 : decode b_F_time 9 = .ok (.lreturn, 1) := by decide +kernel
theorem d_F_time_10 : decode b_F_time 10 = .ok (.aload_n 0, 1) := by decide +kernel
theorem d_F_time_11 : decode b_F_time 11 = .ok (.getfield 10, 3) := by decide +kernel
theorem d_F_time_14 : decode b_F_time 14 = .ok (.getfield 28, 3) := by decide +kernel
theorem d_F_time_17 : decode b_F_time 17 = .ok (.lstore_n 3, 1) := by decide +kernel
theorem d_F_time_18 : decode b_F_time 18 = .ok (.aload_n 0, 1) := by decide +kernel
theorem d_F_time_19 : decode b_F_time 19 = .ok (.getfield 10, 3) := by decide +kernel
theorem d_F_time_22 : decode b_F_time 22 = .ok (.lload_n 1, 1) := by decide +kernel
theorem d_F_time_23 : decode b_F_time 23 = .ok (.putfield 28, 3) := by decide +kernel
theorem d_F_time_26 : decode b_F_time 26 = .ok (.lload_n 3, 1) := by decide +kernel
theorem d_F_time_27 : decode b_F_time 27 = .ok (.lreturn, 1) := by decide +kernel
theorem d_F_alarm_0 : decode b_F_alarm 0 = .ok (.aload_n 0, 1) := by decide +kernel
theorem d_F_alarm_1 : decode b_F_alarm 1 = .ok (.getfield 10, 3) := by decide +kernel
theorem d_F_alarm_4 : decode b_F_alarm 4 = .ok (.getfield 32, 3) := by decide +kernel
theorem d_F_alarm_7 : decode b_F_alarm 7 = .ok (.lstore_n 3, 1) := by decide +kernel
theorem d_F_alarm_8 : decode b_F_alarm 8 = .ok (.aload_n 0, 1) := by decide +kernel
theorem d_F_alarm_9 : decode b_F_alarm 9 = .ok (.getfield 10, 3) := by decide +kernel
theorem d_F_alarm_12 : decode b_F_alarm 12 = .ok (.lload_n 1, 1) := by decide +kernel
theorem d_F_alarm_13 : decode b_F_alarm 13 = .ok (.lconst 0, 1) := by decide +kernel
theorem d_F_alarm_14 : decode b_F_alarm 14 = .ok (.lcmp, 1) := by decide +kernel
theorem d_F_alarm_15 : decode b_F_alarm 15 = .ok (.ifCond .ge 9, 3) := by decide +kernel
theorem d_F_alarm_18 : decode b_F_alarm 18 = .ok (.ldc2_w 37, 3) := by decide +kernel
theorem d_F_alarm_21 : decode b_F_alarm 21 = .ok (.goto 4, 3) := by decide +kernel
theorem d_F_alarm_24 : decode b_F_alarm 24 = .ok (.lload_n 1, 1) := by decide +kernel
theorem d_F_alarm_25 : decode b_F_alarm 25 = .ok (.putfield 32, 3) := by decide +kernel
theorem d_F_alarm_28 : decode b_F_alarm 28 = .ok (.lload_n 3, 1) := by decide +kernel
theorem d_F_alarm_29 : decode b_F_alarm 29 = .ok (.lreturn, 1) := by decide +kernel
theorem d_F_line_0 : decode b_F_line 0 = .ok (.aload_n 0, 1) := by decide +kernel
theorem d_F_line_1 : decode b_F_line 1 = .ok (.getfield 10, 3) := by decide +kernel
theorem d_F_line_4 : decode b_F_line 4 = .ok (.getfield 39, 3) := by decide +kernel
theorem d_F_line_7 : decode b_F_line 7 = .ok (.istore_n 2, 1) := by decide +kernel
theorem d_F_line_8 : decode b_F_line 8 = .ok (.aload_n 0, 1) := by decide +kernel
theorem d_F_line_9 : decode b_F_line 9 = .ok (.getfield 10, 3) := by decide +kernel
theorem d_F_line_12 : decode b_F_line 12 = .ok (.iload_n 1, 1) := by decide +kernel
theorem d_F_line_13 : decode b_F_line 13 = .ok (.putfield 39, 3) := by decide +kernel
theorem d_F_line_16 : decode b_F_line 16 = .ok (.iload_n 2, 1) := by decide +kernel
theorem d_F_line_17 : decode b_F_line 17 = .ok (.ireturn, 1) := by decide +kernel
theorem d_F_access_0 : decode b_F_access 0 = .ok (.iload_n 2, 1) := by decide +kernel
theorem d_F_access_1 : decode b_F_access 1 = .ok (.ifCond .lt 8, 3) := by decide +kernel
theorem d_F_access_4 : decode b_F_access 4 = .ok (.iload_n 2, 1) := by decide +kernel
theorem d_F_access_5 : decode b_F_access 5 = .ok (.iconst 3, 1) := by decide +kernel
theorem d_F_access_6 : decode b_F_access 6 = .ok (.if_icmp .le 5, 3) := by decide +kernel
theorem d_F_access_9 : decode b_F_access 9 = .ok (.iconst (-1), 1) := by decide +kernel
theorem d_F_access_10 : decode b_F_access 10 = .ok (.ireturn, 1) := by decide +kernel
theorem d_F_access_11 : decode b_F_access 11 = .ok (.aload_n 0, 1) := by decide +kernel
theorem d_F_access_12 : decode b_F_access 12 = .ok (.getfield 10, 3) := by decide +kernel
theorem d_F_access_15 : decode b_F_access 15 = .ok (.iload_n 1, 1) := by decide +kernel
theorem d_F_access_16 : decode b_F_access 16 = .ok (.iload_n 2, 1) := by decide +kernel
theorem d_F_access_17 : decode b_F_access 17 = .ok (.ifCond .eq 7, 3) := by decide +kernel
theorem d_F_access_20 : decode b_F_access 20 = .ok (.iconst 1, 1) := by decide +kernel
theorem d_F_access_21 : decode b_F_access 21 = .ok (.goto 4, 3) := by decide +kernel
theorem d_F_access_24 : decode b_F_access 24 = .ok (.iconst 0, 1) := by decide +kernel
theorem d_F_access_25 : decode b_F_access 25 = .ok (.invokevirtual 43, 3) := by decide +kernel
theorem d_F_access_28 : decode b_F_access 28 = .ok (.istore 4, 2) := by decide +kernel
theorem d_F_access_30 : decode b_F_access 30 = .ok (.iload 4, 2) := by decide +kernel
theorem d_F_access_32 : decode b_F_access 32 = .ok (.ifCond .eq 6, 3) := by decide +kernel
theorem d_F_access_35 : decode b_F_access 35 = .ok (.iload 4, 2) := by decide +kernel
theorem d_F_access_37 : decode b_F_access 37 = .ok (.ireturn, 1) := by decide +kernel
theorem d_F_access_38 : decode b_F_access 38 = .ok (.aload_n 0, 1) := by decide +kernel
theorem d_F_access_39 : decode b_F_access 39 = .ok (.getfield 10, 3) := by decide +kernel
theorem d_F_access_42 : decode b_F_access 42 = .ok (.iload_n 1, 1) := by decide +kernel
theorem d_F_access_43 : decode b_F_access 43 = .ok (.invokevirtual 47, 3) := by decide +kernel
theorem d_F_access_46 : decode b_F_access 46 = .ok (.astore 5, 2) := by decide +kernel
theorem d_F_access_48 : decode b_F_access 48 = .ok (.aload_n 0, 1) := by decide +kernel
theorem d_F_access_49 : decode b_F_access 49 = .ok (.aload_n 0, 1) := by decide +kernel
theorem d_F_access_50 : decode b_F_access 50 = .ok (.getfield 10, 3) := by decide +kernel
theorem d_F_access_53 : decode b_F_access 53 = .ok (.aload 5, 2) := by decide +kernel
theorem d_F_access_55 : decode b_F_access 55 = .ok (.invokevirtual 51, 3) := by decide +kernel
theorem d_F_access_58 : decode b_F_access 58 = .ok (.putfield 19, 3) := by decide +kernel
theorem d_F_access_61 : decode b_F_access 61 = .ok (.iload_n 2, 1) := by decide +kernel
theorem d_F_access_62 : decode b_F_access 62 = .ok (.ifCond .eq 43, 3) := by decide +kernel
theorem d_F_access_65 : decode b_F_access 65 = .ok (.aload_n 0, 1) := by decide +kernel
theorem d_F_access_66 : decode b_F_access 66 = .ok (.getfield 10, 3) := by decide +kernel
theorem d_F_access_69 : decode b_F_access 69 = .ok (.aload 5, 2) := by decide +kernel
theorem d_F_access_71 : decode b_F_access 71 = .ok (.iload_n 2, 1) := by decide +kernel
theorem d_F_access_72 : decode b_F_access 72 = .ok (.iconst 1, 1) := by decide +kernel
theorem d_F_access_73 : decode b_F_access 73 = .ok (.if_icmp .ne 7, 3) := by decide +kernel
theorem d_F_access_76 : decode b_F_access 76 = .ok (.iload_n 3, 1) := by decide +kernel
theorem d_F_access_77 : decode b_F_access 77 = .ok (.goto 25, 3) := by decide +kernel
theorem d_F_access_80 : decode b_F_access 80 = .ok (.iload_n 2, 1) := by decide +kernel
theorem d_F_access_81 : decode b_F_access 81 = .ok (.iconst 2, 1) := by decide +kernel
theorem d_F_access_82 : decode b_F_access 82 = .ok (.if_icmp .ne 12, 3) := by decide +kernel
theorem d_F_access_85 : decode b_F_access 85 = .ok (.aload_n 0, 1) := by decide +kernel
theorem d_F_access_86 : decode b_F_access 86 = .ok (.getfield 19, 3) := by decide +kernel
theorem d_F_access_89 : decode b_F_access 89 = .ok (.iload_n 3, 1) := by decide +kernel
theorem d_F_access_90 : decode b_F_access 90 = .ok (.ior, 1) := by decide +kernel
theorem d_F_access_91 : decode b_F_access 91 = .ok (.goto 11, 3) := by decide +kernel
theorem d_F_access_94 : decode b_F_access 94 = .ok (.aload_n 0, 1) := by decide +kernel
theorem d_F_access_95 : decode b_F_access 95 = .ok (.getfield 19, 3) := by decide +kernel
theorem d_F_access_98 : decode b_F_access 98 = .ok (.iload_n 3, 1) := by decide +kernel
theorem d_F_access_99 : decode b_F_access 99 = .ok (.iconst (-1), 1) := by decide +kernel
theorem d_F_access_100 : decode b_F_access 100 = .ok (.ixor, 1) := by decide +kernel
theorem d_F_access_101 : decode b_F_access 101 = .ok (.iand, 1) := by decide +kernel
theorem d_F_access_102 : decode b_F_access 102 = .ok (.invokevirtual 55, 3) := by decide +kernel
theorem d_F_access_105 : decode b_F_access 105 = .ok (.iconst 0, 1) := by decide +kernel
theorem d_F_access_106 : decode b_F_access 106 = .ok (.ireturn, 1) := by decide +kernel
theorem d_F_old_0 : decode b_F_old 0 = .ok (.aload_n 0, 1) := by decide +kernel
theorem d_F_old_1 : decode b_F_old 1 = .ok (.getfield 19, 3) := by decide +kernel
theorem d_F_old_4 : decode b_F_old 4 = .ok (.ireturn, 1) := by decide +kernel
theorem d_F_control_0 : decode b_F_control 0 = .ok (.aload_n 0, 1) := by decide +kernel
theorem d_F_control_1 : decode b_F_control 1 = .ok (.getfield 10, 3) := by decide +kernel
theorem d_F_control_4 : decode b_F_control 4 = .ok (.iload_n 1, 1) := by decide +kernel
theorem d_F_control_5 : decode b_F_control 5 = .ok (.invokevirtual 59, 3) := by decide +kernel
theorem d_F_control_8 : decode b_F_control 8 = .ok (.astore_n 2, 1) := by decide +kernel
theorem d_F_control_9 : decode b_F_control 9 = .ok (.aload_n 2, 1) := by decide +kernel
theorem d_F_control_10 : decode b_F_control 10 = .ok (.ifnonnull 7, 3) := by decide +kernel
theorem d_F_control_13 : decode b_F_control 13 = .ok (.iconst 0, 1) := by decide +kernel
theorem d_F_control_14 : decode b_F_control 14 = .ok (.goto 11, 3) := by decide +kernel
theorem d_F_control_17 : decode b_F_control 17 = .ok (.aload_n 0, 1) := by decide +kernel
theorem d_F_control_18 : decode b_F_control 18 = .ok (.getfield 10, 3) := by decide +kernel
theorem d_F_control_21 : decode b_F_control 21 = .ok (.aload_n 2, 1) := by decide +kernel
theorem d_F_control_22 : decode b_F_control 22 = .ok (.invokevirtual 51, 3) := by decide +kernel
theorem d_F_control_25 : decode b_F_control 25 = .ok (.ireturn, 1) := by decide +kernel
theorem d_F_used_0 : decode b_F_used 0 = .ok (.iconst 0, 1) := by decide +kernel
theorem d_F_used_1 : decode b_F_used 1 = .ok (.istore_n 1, 1) := by decide +kernel
theorem d_F_used_2 : decode b_F_used 2 = .ok (.iconst 0, 1) := by decide +kernel
theorem d_F_used_3 : decode b_F_used 3 = .ok (.istore_n 2, 1) := by decide +kernel
theorem d_F_used_4 : decode b_F_used 4 = .ok (.iload_n 2, 1) := by decide +kernel
theorem d_F_used_5 : decode b_F_used 5 = .ok (.aload_n 0, 1) := by decide +kernel
theorem d_F_used_6 : decode b_F_used 6 = .ok (.getfield 10, 3) := by decide +kernel
theorem d_F_used_9 : decode b_F_used 9 = .ok (.getfield 62, 3) := by decide +kernel
theorem d_F_used_12 : decode b_F_used 12 = .ok (.arraylength, 1) := by decide +kernel
theorem d_F_used_13 : decode b_F_used 13 = .ok (.if_icmp .ge 36, 3) := by decide +kernel
theorem d_F_used_16 : decode b_F_used 16 = .ok (.iload_n 1, 1) := by decide +kernel
theorem d_F_used_17 : decode b_F_used 17 = .ok (.aload_n 0, 1) := by decide +kernel
theorem d_F_used_18 : decode b_F_used 18 = .ok (.getfield 10, 3) := by decide +kernel
theorem d_F_used_21 : decode b_F_used 21 = .ok (.aload_n 0, 1) := by decide +kernel
theorem d_F_used_22 : decode b_F_used 22 = .ok (.getfield 10, 3) := by decide +kernel
theorem d_F_used_25 : decode b_F_used 25 = .ok (.getfield 62, 3) := by decide +kernel
theorem d_F_used_28 : decode b_F_used 28 = .ok (.iload_n 2, 1) := by decide +kernel
theorem d_F_used_29 : decode b_F_used 29 = .ok (.aaload, 1) := by decide +kernel
theorem d_F_used_30 : decode b_F_used 30 = .ok (.invokevirtual 51, 3) := by decide +kernel
theorem d_F_used_33 : decode b_F_used 33 = .ok (.ifCond .eq 7, 3) := by decide +kernel
theorem d_F_used_36 : decode b_F_used 36 = .ok (.iconst 1, 1) := by decide +kernel
theorem d_F_used_37 : decode b_F_used 37 = .ok (.goto 4, 3) := by decide +kernel
theorem d_F_used_40 : decode b_F_used 40 = .ok (.iconst 0, 1) := by decide +kernel
theorem d_F_used_41 : decode b_F_used 41 = .ok (.iadd, 1) := by decide +kernel
theorem d_F_used_42 : decode b_F_used 42 = .ok (.istore_n 1, 1) := by decide +kernel
theorem d_F_used_43 : decode b_F_used 43 = .ok (.iinc 2 1, 3) := by decide +kernel
theorem d_F_used_46 : decode b_F_used 46 = .ok (.goto (-42), 3) := by decide +kernel
theorem d_F_used_49 : decode b_F_used 49 = .ok (.iload_n 1, 1) := by decide +kernel
theorem d_F_used_50 : decode b_F_used 50 = .ok (.ireturn, 1) := by decide +kernel
theorem d_F_due_0 : decode b_F_due 0 = .ok (.aload_n 0, 1) := by decide +kernel
theorem d_F_due_1 : decode b_F_due 1 = .ok (.getfield 10, 3) := by decide +kernel
theorem d_F_due_4 : decode b_F_due 4 = .ok (.invokevirtual 66, 3) := by decide +kernel
theorem d_F_due_7 : decode b_F_due 7 = .ok (.ireturn, 1) := by decide +kernel
theorem d_E_values_0 : decode b_E_values 0 = .ok (.getstatic 91, 3) := by decide +kernel
theorem d_E_values_3 : decode b_E_values 3 = .ok (.invokevirtual 95, 3) := by decide +kernel
theorem d_E_values_6 : decode b_E_values 6 = .ok (.checkcast 96, 3) := by decide +kernel
theorem d_E_values_9 : decode b_E_values 9 = .ok (.areturn, 1) := by decide +kernel
theorem d_E_isTime_0 : decode b_E_isTime 0 = .ok (.aload_n 0, 1) := by decide +kernel
theorem d_E_isTime_1 : decode b_E_isTime 1 = .ok (.getfield 110, 3) := by decide +kernel
theorem d_E_isTime_4 : decode b_E_isTime 4 = .ok (.sipush 3072, 3) := by decide +kernel
theorem d_E_isTime_7 : decode b_E_isTime 7 = .ok (.iand, 1) := by decide +kernel
theorem d_E_isTime_8 : decode b_E_isTime 8 = .ok (.sipush 3072, 3) := by decide +kernel
theorem d_E_isTime_11 : decode b_E_isTime 11 = .ok (.if_icmp .ne 7, 3) := by decide +kernel
theorem d_E_isTime_14 : decode b_E_isTime 14 = .ok (.iconst 1, 1) := by decide +kernel
theorem d_E_isTime_15 : decode b_E_isTime 15 = .ok (.goto 4, 3) := by decide +kernel
theorem d_E_isTime_18 : decode b_E_isTime 18 = .ok (.iconst 0, 1) := by decide +kernel
theorem d_E_isTime_19 : decode b_E_isTime 19 = .ok (.ireturn, 1) := by decide +kernel
theorem d_E_isOfS_0 : decode b_E_isOfS 0 = .ok (.aload_n 0, 1) := by decide +kernel
theorem d_E_isOfS_1 : decode b_E_isOfS 1 = .ok (.getfield 110, 3) := by decide +kernel
theorem d_E_isOfS_4 : decode b_E_isOfS 4 = .ok (.sipush 3840, 3) := by decide +kernel
theorem d_E_isOfS_7 : decode b_E_isOfS 7 = .ok (.iand, 1) := by decide +kernel
theorem d_E_isOfS_8 : decode b_E_isOfS 8 = .ok (.sipush 256, 3) := by decide +kernel
theorem d_E_isOfS_11 : decode b_E_isOfS 11 = .ok (.if_icmp .ne 7, 3) := by decide +kernel
theorem d_E_isOfS_14 : decode b_E_isOfS 14 = .ok (.iconst 1, 1) := by decide +kernel
theorem d_E_isOfS_15 : decode b_E_isOfS 15 = .ok (.goto 4, 3) := by decide +kernel
theorem d_E_isOfS_18 : decode b_E_isOfS 18 = .ok (.iconst 0, 1) := by decide +kernel
theorem d_E_isOfS_19 : decode b_E_isOfS 19 = .ok (.ireturn, 1) := by decide +kernel
theorem d_C_init_0 : decode b_C_init 0 = .ok (.aload_n 0, 1) := by decide +kernel
theorem d_C_init_1 : decode b_C_init 1 = .ok (.invokespecial 1, 3) := by decide +kernel
theorem d_C_init_4 : decode b_C_init 4 = .ok (.aload_n 0, 1) := by decide +kernel
theorem d_C_init_5 : decode b_C_init 5 = .ok (.invokestatic 7, 3) := by decide +kernel
theorem d_C_init_8 : decode b_C_init 8 = .ok (.putfield 13, 3) := by decide +kernel
theorem d_C_init_11 : decode b_C_init 11 = .ok (.aload_n 0, 1) := by decide +kernel
theorem d_C_init_12 : decode b_C_init 12 = .ok (.bipush 29, 2) := by decide +kernel
theorem d_C_init_14 : decode b_C_init 14 = .ok (.newarray .int, 2) := by decide +kernel
theorem d_C_init_16 : decode b_C_init 16 = .ok (.putfield 19, 3) := by decide +kernel
theorem d_C_init_19 : decode b_C_init 19 = .ok (.aload_n 0, 1) := by decide +kernel
theorem d_C_init_20 : decode b_C_init 20 = .ok (.invokevirtual 22, 3) := by decide +kernel
theorem d_C_init_23 : decode b_C_init 23 = .ok (.return_, 1) := by decide +kernel
theorem d_C_begin_0 : decode b_C_begin 0 = .ok (.iconst 0, 1) := by decide +kernel
theorem d_C_begin_1 : decode b_C_begin 1 = .ok (.istore_n 1, 1) := by decide +kernel
theorem d_C_begin_2 : decode b_C_begin 2 = .ok (.iload_n 1, 1) := by decide +kernel
theorem d_C_begin_3 : decode b_C_begin 3 = .ok (.aload_n 0, 1) := by decide +kernel
theorem d_C_begin_4 : decode b_C_begin 4 = .ok (.getfield 19, 3) := by decide +kernel
theorem d_C_begin_7 : decode b_C_begin 7 = .ok (.arraylength, 1) := by decide +kernel
theorem d_C_begin_8 : decode b_C_begin 8 = .ok (.if_icmp .ge 16, 3) := by decide +kernel
theorem d_C_begin_11 : decode b_C_begin 11 = .ok (.aload_n 0, 1) := by decide +kernel
theorem d_C_begin_12 : decode b_C_begin 12 = .ok (.getfield 19, 3) := by decide +kernel
theorem d_C_begin_15 : decode b_C_begin 15 = .ok (.iload_n 1, 1) := by decide +kernel
theorem d_C_begin_16 : decode b_C_begin 16 = .ok (.iconst 0, 1) := by decide +kernel
theorem d_C_begin_17 : decode b_C_begin 17 = .ok (.iastore, 1) := by decide +kernel
theorem d_C_begin_18 : decode b_C_begin 18 = .ok (.iinc 1 1, 3) := by decide +kernel
theorem d_C_begin_21 : decode b_C_begin 21 = .ok (.goto (-19), 3) := by decide +kernel
theorem d_C_begin_24 : decode b_C_begin 24 = .ok (.aload_n 0, 1) := by decide +kernel
theorem d_C_begin_25 : decode b_C_begin 25 = .ok (.iconst 1, 1) := by decide +kernel
theorem d_C_begin_26 : decode b_C_begin 26 = .ok (.putfield 25, 3) := by decide +kernel
theorem d_C_begin_29 : decode b_C_begin 29 = .ok (.aload_n 0, 1) := by decide +kernel
theorem d_C_begin_30 : decode b_C_begin 30 = .ok (.lconst 0, 1) := by decide +kernel
theorem d_C_begin_31 : decode b_C_begin 31 = .ok (.putfield 29, 3) := by decide +kernel
theorem d_C_begin_34 : decode b_C_begin 34 = .ok (.aload_n 0, 1) := by decide +kernel
theorem d_C_begin_35 : decode b_C_begin 35 = .ok (.ldc2_w 35, 3) := by decide +kernel
theorem d_C_begin_38 : decode b_C_begin 38 = .ok (.putfield 37, 3) := by decide +kernel
theorem d_C_begin_41 : decode b_C_begin 41 = .ok (.aload_n 0, 1) := by decide +kernel
theorem d_C_begin_42 : decode b_C_begin 42 = .ok (.iconst 0, 1) := by decide +kernel
theorem d_C_begin_43 : decode b_C_begin 43 = .ok (.putfield 40, 3) := by decide +kernel
theorem d_C_begin_46 : decode b_C_begin 46 = .ok (.return_, 1) := by decide +kernel
theorem d_C_of_0 : decode b_C_of 0 = .ok (.aconst_null, 1) := by decide +kernel
theorem d_C_of_1 : decode b_C_of 1 = .ok (.astore_n 2, 1) := by decide +kernel
theorem d_C_of_2 : decode b_C_of 2 = .ok (.iconst 0, 1) := by decide +kernel
theorem d_C_of_3 : decode b_C_of 3 = .ok (.istore_n 3, 1) := by decide +kernel
theorem d_C_of_4 : decode b_C_of 4 = .ok (.iload_n 3, 1) := by decide +kernel
theorem d_C_of_5 : decode b_C_of 5 = .ok (.aload_n 0, 1) := by decide +kernel
theorem d_C_of_6 : decode b_C_of 6 = .ok (.getfield 13, 3) := by decide +kernel
theorem d_C_of_9 : decode b_C_of 9 = .ok (.arraylength, 1) := by decide +kernel
theorem d_C_of_10 : decode b_C_of 10 = .ok (.if_icmp .ge 37, 3) := by decide +kernel
theorem d_C_of_13 : decode b_C_of 13 = .ok (.aload_n 2, 1) := by decide +kernel
theorem d_C_of_14 : decode b_C_of 14 = .ok (.ifnonnull 33, 3) := by decide +kernel
theorem d_C_of_17 : decode b_C_of 17 = .ok (.aload_n 0, 1) := by decide +kernel
theorem d_C_of_18 : decode b_C_of 18 = .ok (.getfield 13, 3) := by decide +kernel
theorem d_C_of_21 : decode b_C_of 21 = .ok (.iload_n 3, 1) := by decide +kernel
theorem d_C_of_22 : decode b_C_of 22 = .ok (.aaload, 1) := by decide +kernel
theorem d_C_of_23 : decode b_C_of 23 = .ok (.getfield 44, 3) := by decide +kernel
theorem d_C_of_26 : decode b_C_of 26 = .ok (.iload_n 1, 1) := by decide +kernel
theorem d_C_of_27 : decode b_C_of 27 = .ok (.if_icmp .ne 12, 3) := by decide +kernel
theorem d_C_of_30 : decode b_C_of 30 = .ok (.aload_n 0, 1) := by decide +kernel
theorem d_C_of_31 : decode b_C_of 31 = .ok (.getfield 13, 3) := by decide +kernel
theorem d_C_of_34 : decode b_C_of 34 = .ok (.iload_n 3, 1) := by decide +kernel
theorem d_C_of_35 : decode b_C_of 35 = .ok (.aaload, 1) := by decide +kernel
theorem d_C_of_36 : decode b_C_of 36 = .ok (.goto 4, 3) := by decide +kernel
theorem d_C_of_39 : decode b_C_of 39 = .ok (.aconst_null, 1) := by decide +kernel
theorem d_C_of_40 : decode b_C_of 40 = .ok (.astore_n 2, 1) := by decide +kernel
theorem d_C_of_41 : decode b_C_of 41 = .ok (.iinc 3 1, 3) := by decide +kernel
theorem d_C_of_44 : decode b_C_of 44 = .ok (.goto (-40), 3) := by decide +kernel
theorem d_C_of_47 : decode b_C_of 47 = .ok (.aload_n 2, 1) := by decide +kernel
theorem d_C_of_48 : decode b_C_of 48 = .ok (.areturn, 1) := by decide +kernel
theorem d_C_meant_0 : decode b_C_meant 0 = .ok (.aload_n 0, 1) := by decide +kernel
theorem d_C_meant_1 : decode b_C_meant 1 = .ok (.iload_n 1, 1) := by decide +kernel
theorem d_C_meant_2 : decode b_C_meant 2 = .ok (.invokevirtual 47, 3) := by decide +kernel
theorem d_C_meant_5 : decode b_C_meant 5 = .ok (.astore_n 2, 1) := by decide +kernel
theorem d_C_meant_6 : decode b_C_meant 6 = .ok (.aload_n 2, 1) := by decide +kernel
theorem d_C_meant_7 : decode b_C_meant 7 = .ok (.ifnull 30, 3) := by decide +kernel
theorem d_C_meant_10 : decode b_C_meant 10 = .ok (.aload_n 0, 1) := by decide +kernel
theorem d_C_meant_11 : decode b_C_meant 11 = .ok (.getfield 25, 3) := by decide +kernel
theorem d_C_meant_14 : decode b_C_meant 14 = .ok (.iconst 3, 1) := by decide +kernel
theorem d_C_meant_15 : decode b_C_meant 15 = .ok (.if_icmp .ne 22, 3) := by decide +kernel
theorem d_C_meant_18 : decode b_C_meant 18 = .ok (.aload_n 2, 1) := by decide +kernel
theorem d_C_meant_19 : decode b_C_meant 19 = .ok (.invokevirtual 51, 3) := by decide +kernel
theorem d_C_meant_22 : decode b_C_meant 22 = .ok (.ifCond .eq 15, 3) := by decide +kernel
theorem d_C_meant_25 : decode b_C_meant 25 = .ok (.aload_n 0, 1) := by decide +kernel
theorem d_C_meant_26 : decode b_C_meant 26 = .ok (.iload_n 1, 1) := by decide +kernel
theorem d_C_meant_27 : decode b_C_meant 27 = .ok (.sipush 256, 3) := by decide +kernel
theorem d_C_meant_30 : decode b_C_meant 30 = .ok (.iadd, 1) := by decide +kernel
theorem d_C_meant_31 : decode b_C_meant 31 = .ok (.invokevirtual 47, 3) := by decide +kernel
theorem d_C_meant_34 : decode b_C_meant 34 = .ok (.goto 4, 3) := by decide +kernel
theorem d_C_meant_37 : decode b_C_meant 37 = .ok (.aload_n 2, 1) := by decide +kernel
theorem d_C_meant_38 : decode b_C_meant 38 = .ok (.areturn, 1) := by decide +kernel
theorem d_C_refuses_0 : decode b_C_refuses 0 = .ok (.aload_n 0, 1) := by decide +kernel
theorem d_C_refuses_1 : decode b_C_refuses 1 = .ok (.iload_n 1, 1) := by decide +kernel
theorem d_C_refuses_2 : decode b_C_refuses 2 = .ok (.invokevirtual 47, 3) := by decide +kernel
theorem d_C_refuses_5 : decode b_C_refuses 5 = .ok (.astore_n 3, 1) := by decide +kernel
theorem d_C_refuses_6 : decode b_C_refuses 6 = .ok (.aload_n 3, 1) := by decide +kernel
theorem d_C_refuses_7 : decode b_C_refuses 7 = .ok (.ifnull 14, 3) := by decide +kernel
theorem d_C_refuses_10 : decode b_C_refuses 10 = .ok (.iload_n 2, 1) := by decide +kernel
theorem d_C_refuses_11 : decode b_C_refuses 11 = .ok (.ifCond .eq 12, 3) := by decide +kernel
theorem d_C_refuses_14 : decode b_C_refuses 14 = .ok (.aload_n 3, 1) := by decide +kernel
theorem d_C_refuses_15 : decode b_C_refuses 15 = .ok (.invokevirtual 55, 3) := by decide +kernel
theorem d_C_refuses_18 : decode b_C_refuses 18 = .ok (.ifCond .eq 5, 3) := by decide +kernel
theorem d_C_refuses_21 : decode b_C_refuses 21 = .ok (.iconst 2, 1) := by decide +kernel
theorem d_C_refuses_22 : decode b_C_refuses 22 = .ok (.ireturn, 1) := by decide +kernel
theorem d_C_refuses_23 : decode b_C_refuses 23 = .ok (.aload_n 0, 1) := by decide +kernel
theorem d_C_refuses_24 : decode b_C_refuses 24 = .ok (.getfield 25, 3) := by decide +kernel
theorem d_C_refuses_27 : decode b_C_refuses 27 = .ok (.iconst 1, 1) := by decide +kernel
theorem d_C_refuses_28 : decode b_C_refuses 28 = .ok (.if_icmp .eq 10, 3) := by decide +kernel
theorem d_C_refuses_31 : decode b_C_refuses 31 = .ok (.aload_n 3, 1) := by decide +kernel
theorem d_C_refuses_32 : decode b_C_refuses 32 = .ok (.invokevirtual 55, 3) := by decide +kernel
theorem d_C_refuses_35 : decode b_C_refuses 35 = .ok (.ifCond .eq 5, 3) := by decide +kernel
theorem d_C_refuses_38 : decode b_C_refuses 38 = .ok (.iconst 0, 1) := by decide +kernel
theorem d_C_refuses_39 : decode b_C_refuses 39 = .ok (.ireturn, 1) := by decide +kernel
theorem d_C_refuses_40 : decode b_C_refuses 40 = .ok (.aload_n 0, 1) := by decide +kernel
theorem d_C_refuses_41 : decode b_C_refuses 41 = .ok (.getfield 25, 3) := by decide +kernel
theorem d_C_refuses_44 : decode b_C_refuses 44 = .ok (.ifCond .ne 5, 3) := by decide +kernel
theorem d_C_refuses_47 : decode b_C_refuses 47 = .ok (.iconst 2, 1) := by decide +kernel
theorem d_C_refuses_48 : decode b_C_refuses 48 = .ok (.ireturn, 1) := by decide +kernel
theorem d_C_refuses_49 : decode b_C_refuses 49 = .ok (.aload_n 3, 1) := by decide +kernel
theorem d_C_refuses_50 : decode b_C_refuses 50 = .ok (.getstatic 58, 3) := by decide +kernel
theorem d_C_refuses_53 : decode b_C_refuses 53 = .ok (.if_acmp .ne 19, 3) := by decide +kernel
theorem d_C_refuses_56 : decode b_C_refuses 56 = .ok (.aload_n 0, 1) := by decide +kernel
theorem d_C_refuses_57 : decode b_C_refuses 57 = .ok (.getstatic 62, 3) := by decide +kernel
theorem d_C_refuses_60 : decode b_C_refuses 60 = .ok (.ldc 65, 2) := by decide +kernel
theorem d_C_refuses_62 : decode b_C_refuses 62 = .ok (.invokevirtual 66, 3) := by decide +kernel
theorem d_C_refuses_65 : decode b_C_refuses 65 = .ok (.ifCond .eq 7, 3) := by decide +kernel
theorem d_C_refuses_68 : decode b_C_refuses 68 = .ok (.iconst 1, 1) := by decide +kernel
theorem d_C_refuses_69 : decode b_C_refuses 69 = .ok (.goto 4, 3) := by decide +kernel
theorem d_C_refuses_72 : decode b_C_refuses 72 = .ok (.iconst 0, 1) := by decide +kernel
theorem d_C_refuses_73 : decode b_C_refuses 73 = .ok (.istore 4, 2) := by decide +kernel
theorem d_C_refuses_75 : decode b_C_refuses 75 = .ok (.aload_n 0, 1) := by decide +kernel
theorem d_C_refuses_76 : decode b_C_refuses 76 = .ok (.getfield 25, 3) := by decide +kernel
theorem d_C_refuses_79 : decode b_C_refuses 79 = .ok (.iconst 3, 1) := by decide +kernel
theorem d_C_refuses_80 : decode b_C_refuses 80 = .ok (.if_icmp .ne 19, 3) := by decide +kernel
theorem d_C_refuses_83 : decode b_C_refuses 83 = .ok (.aload_n 3, 1) := by decide +kernel
theorem d_C_refuses_84 : decode b_C_refuses 84 = .ok (.invokevirtual 51, 3) := by decide +kernel
theorem d_C_refuses_87 : decode b_C_refuses 87 = .ok (.ifCond .eq 12, 3) := by decide +kernel
theorem d_C_refuses_90 : decode b_C_refuses 90 = .ok (.iload 4, 2) := by decide +kernel
theorem d_C_refuses_92 : decode b_C_refuses 92 = .ok (.ifCond .ne 7, 3) := by decide +kernel
theorem d_C_refuses_95 : decode b_C_refuses 95 = .ok (.iconst 0, 1) := by decide +kernel
theorem d_C_refuses_96 : decode b_C_refuses 96 = .ok (.goto 5, 3) := by decide +kernel
theorem d_C_refuses_99 : decode b_C_refuses 99 = .ok (.bipush 22, 2) := by decide +kernel
theorem d_C_refuses_101 : decode b_C_refuses 101 = .ok (.ireturn, 1) := by decide +kernel
theorem d_C_has_0 : decode b_C_has 0 = .ok (.aload_n 0, 1) := by decide +kernel
theorem d_C_has_1 : decode b_C_has 1 = .ok (.getfield 19, 3) := by decide +kernel
theorem d_C_has_4 : decode b_C_has 4 = .ok (.aload_n 1, 1) := by decide +kernel
theorem d_C_has_5 : decode b_C_has 5 = .ok (.invokevirtual 70, 3) := by decide +kernel
theorem d_C_has_8 : decode b_C_has 8 = .ok (.iaload, 1) := by decide +kernel
theorem d_C_has_9 : decode b_C_has 9 = .ok (.iload_n 2, 1) := by decide +kernel
theorem d_C_has_10 : decode b_C_has 10 = .ok (.iand, 1) := by decide +kernel
theorem d_C_has_11 : decode b_C_has 11 = .ok (.ifCond .eq 7, 3) := by decide +kernel
theorem d_C_has_14 : decode b_C_has 14 = .ok (.iconst 1, 1) := by decide +kernel
theorem d_C_has_15 : decode b_C_has 15 = .ok (.goto 4, 3) := by decide +kernel
theorem d_C_has_18 : decode b_C_has 18 = .ok (.iconst 0, 1) := by decide +kernel
theorem d_C_has_19 : decode b_C_has 19 = .ok (.ireturn, 1) := by decide +kernel
theorem d_C_raw_0 : decode b_C_raw 0 = .ok (.aload_n 0, 1) := by decide +kernel
theorem d_C_raw_1 : decode b_C_raw 1 = .ok (.getfield 19, 3) := by decide +kernel
theorem d_C_raw_4 : decode b_C_raw 4 = .ok (.aload_n 1, 1) := by decide +kernel
theorem d_C_raw_5 : decode b_C_raw 5 = .ok (.invokevirtual 70, 3) := by decide +kernel
theorem d_C_raw_8 : decode b_C_raw 8 = .ok (.iaload, 1) := by decide +kernel
theorem d_C_raw_9 : decode b_C_raw 9 = .ok (.ireturn, 1) := by decide +kernel
theorem d_C_put_0 : decode b_C_put 0 = .ok (.aload_n 0, 1) := by decide +kernel
theorem d_C_put_1 : decode b_C_put 1 = .ok (.getfield 19, 3) := by decide +kernel
theorem d_C_put_4 : decode b_C_put 4 = .ok (.aload_n 1, 1) := by decide +kernel
theorem d_C_put_5 : decode b_C_put 5 = .ok (.invokevirtual 70, 3) := by decide +kernel
theorem d_C_put_8 : decode b_C_put 8 = .ok (.iload_n 2, 1) := by decide +kernel
theorem d_C_put_9 : decode b_C_put 9 = .ok (.iastore, 1) := by decide +kernel
theorem d_C_put_10 : decode b_C_put 10 = .ok (.return_, 1) := by decide +kernel
theorem d_C_get_0 : decode b_C_get 0 = .ok (.aload_n 1, 1) := by decide +kernel
theorem d_C_get_1 : decode b_C_get 1 = .ok (.invokevirtual 70, 3) := by decide +kernel
theorem d_C_get_4 : decode b_C_get 4 = .ok (.lookupswitch 159 #[(7, 60), (10, 126), (16, 108), (23, 100), (27, 144), (28, 150)], 60) := by decide +kernel
theorem d_C_get_64 : decode b_C_get 64 = .ok (.aload_n 0, 1) := by decide +kernel
theorem d_C_get_65 : decode b_C_get 65 = .ok (.aload_n 1, 1) := by decide +kernel
theorem d_C_get_66 : decode b_C_get 66 = .ok (.invokevirtual 74, 3) := by decide +kernel
theorem d_C_get_69 : decode b_C_get 69 = .ok (.aload_n 0, 1) := by decide +kernel
theorem d_C_get_70 : decode b_C_get 70 = .ok (.getfield 29, 3) := by decide +kernel
theorem d_C_get_73 : decode b_C_get 73 = .ok (.aload_n 0, 1) := by decide +kernel
theorem d_C_get_74 : decode b_C_get 74 = .ok (.getfield 37, 3) := by decide +kernel
theorem d_C_get_77 : decode b_C_get 77 = .ok (.lcmp, 1) := by decide +kernel
theorem d_C_get_78 : decode b_C_get 78 = .ok (.ifCond .lt 8, 3) := by decide +kernel
theorem d_C_get_81 : decode b_C_get 81 = .ok (.bipush 32, 2) := by decide +kernel
theorem d_C_get_83 : decode b_C_get 83 = .ok (.goto 4, 3) := by decide +kernel
theorem d_C_get_86 : decode b_C_get 86 = .ok (.iconst 0, 1) := by decide +kernel
theorem d_C_get_87 : decode b_C_get 87 = .ok (.ior, 1) := by decide +kernel
theorem d_C_get_88 : decode b_C_get 88 = .ok (.aload_n 0, 1) := by decide +kernel
theorem d_C_get_89 : decode b_C_get 89 = .ok (.getfield 40, 3) := by decide +kernel
theorem d_C_get_92 : decode b_C_get 92 = .ok (.ifCond .eq 9, 3) := by decide +kernel
theorem d_C_get_95 : decode b_C_get 95 = .ok (.sipush 512, 3) := by decide +kernel
theorem d_C_get_98 : decode b_C_get 98 = .ok (.goto 4, 3) := by decide +kernel
theorem d_C_get_101 : decode b_C_get 101 = .ok (.iconst 0, 1) := by decide +kernel
theorem d_C_get_102 : decode b_C_get 102 = .ok (.ior, 1) := by decide +kernel
theorem d_C_get_103 : decode b_C_get 103 = .ok (.ireturn, 1) := by decide +kernel
theorem d_C_get_104 : decode b_C_get 104 = .ok (.aload_n 0, 1) := by decide +kernel
theorem d_C_get_105 : decode b_C_get 105 = .ok (.getstatic 78, 3) := by decide +kernel
theorem d_C_get_108 : decode b_C_get 108 = .ok (.invokevirtual 74, 3) := by decide +kernel
theorem d_C_get_111 : decode b_C_get 111 = .ok (.ireturn, 1) := by decide +kernel
theorem d_C_get_112 : decode b_C_get 112 = .ok (.aload_n 0, 1) := by decide +kernel
theorem d_C_get_113 : decode b_C_get 113 = .ok (.getstatic 78, 3) := by decide +kernel
theorem d_C_get_116 : decode b_C_get 116 = .ok (.invokevirtual 74, 3) := by decide +kernel
theorem d_C_get_119 : decode b_C_get 119 = .ok (.aload_n 0, 1) := by decide +kernel
theorem d_C_get_120 : decode b_C_get 120 = .ok (.getstatic 81, 3) := by decide +kernel
theorem d_C_get_123 : decode b_C_get 123 = .ok (.invokevirtual 74, 3) := by decide +kernel
theorem d_C_get_126 : decode b_C_get 126 = .ok (.iand, 1) := by decide +kernel
theorem d_C_get_127 : decode b_C_get 127 = .ok (.iconst 1, 1) := by decide +kernel
theorem d_C_get_128 : decode b_C_get 128 = .ok (.ishr, 1) := by decide +kernel
theorem d_C_get_129 : decode b_C_get 129 = .ok (.ireturn, 1) := by decide +kernel
theorem d_C_get_130 : decode b_C_get 130 = .ok (.aload_n 0, 1) := by decide +kernel
theorem d_C_get_131 : decode b_C_get 131 = .ok (.getstatic 84, 3) := by decide +kernel
theorem d_C_get_134 : decode b_C_get 134 = .ok (.invokevirtual 74, 3) := by decide +kernel
theorem d_C_get_137 : decode b_C_get 137 = .ok (.aload_n 0, 1) := by decide +kernel
theorem d_C_get_138 : decode b_C_get 138 = .ok (.getstatic 81, 3) := by decide +kernel
theorem d_C_get_141 : decode b_C_get 141 = .ok (.invokevirtual 74, 3) := by decide +kernel
theorem d_C_get_144 : decode b_C_get 144 = .ok (.iand, 1) := by decide +kernel
theorem d_C_get_145 : decode b_C_get 145 = .ok (.iconst 1, 1) := by decide +kernel
theorem d_C_get_146 : decode b_C_get 146 = .ok (.ishr, 1) := by decide +kernel
theorem d_C_get_147 : decode b_C_get 147 = .ok (.ireturn, 1) := by decide +kernel
theorem d_C_get_148 : decode b_C_get 148 = .ok (.aload_n 0, 1) := by decide +kernel
theorem d_C_get_149 : decode b_C_get 149 = .ok (.getfield 29, 3) := by decide +kernel
theorem d_C_get_152 : decode b_C_get 152 = .ok (.l2i, 1) := by decide +kernel
theorem d_C_get_153 : decode b_C_get 153 = .ok (.ireturn, 1) := by decide +kernel
theorem d_C_get_154 : decode b_C_get 154 = .ok (.aload_n 0, 1) := by decide +kernel
theorem d_C_get_155 : decode b_C_get 155 = .ok (.getfield 29, 3) := by decide +kernel
theorem d_C_get_158 : decode b_C_get 158 = .ok (.bipush 32, 2) := by decide +kernel
theorem d_C_get_160 : decode b_C_get 160 = .ok (.lushr, 1) := by decide +kernel
theorem d_C_get_161 : decode b_C_get 161 = .ok (.l2i, 1) := by decide +kernel
theorem d_C_get_162 : decode b_C_get 162 = .ok (.ireturn, 1) := by decide +kernel
theorem d_C_get_163 : decode b_C_get 163 = .ok (.aload_n 0, 1) := by decide +kernel
theorem d_C_get_164 : decode b_C_get 164 = .ok (.aload_n 1, 1) := by decide +kernel
theorem d_C_get_165 : decode b_C_get 165 = .ok (.invokevirtual 74, 3) := by decide +kernel
theorem d_C_get_168 : decode b_C_get 168 = .ok (.ireturn, 1) := by decide +kernel
theorem d_C_mix_0 : decode b_C_mix 0 = .ok (.aload_n 0, 1) := by decide +kernel
theorem d_C_mix_1 : decode b_C_mix 1 = .ok (.aload_n 1, 1) := by decide +kernel
theorem d_C_mix_2 : decode b_C_mix 2 = .ok (.aload_n 0, 1) := by decide +kernel
theorem d_C_mix_3 : decode b_C_mix 3 = .ok (.aload_n 1, 1) := by decide +kernel
theorem d_C_mix_4 : decode b_C_mix 4 = .ok (.invokevirtual 74, 3) := by decide +kernel
theorem d_C_mix_7 : decode b_C_mix 7 = .ok (.iload_n 3, 1) := by decide +kernel
theorem d_C_mix_8 : decode b_C_mix 8 = .ok (.iconst (-1), 1) := by decide +kernel
theorem d_C_mix_9 : decode b_C_mix 9 = .ok (.ixor, 1) := by decide +kernel
theorem d_C_mix_10 : decode b_C_mix 10 = .ok (.iand, 1) := by decide +kernel
theorem d_C_mix_11 : decode b_C_mix 11 = .ok (.iload_n 2, 1) := by decide +kernel
theorem d_C_mix_12 : decode b_C_mix 12 = .ok (.iload_n 3, 1) := by decide +kernel
theorem d_C_mix_13 : decode b_C_mix 13 = .ok (.iand, 1) := by decide +kernel
theorem d_C_mix_14 : decode b_C_mix 14 = .ok (.ior, 1) := by decide +kernel
theorem d_C_mix_15 : decode b_C_mix 15 = .ok (.invokevirtual 87, 3) := by decide +kernel
theorem d_C_mix_18 : decode b_C_mix 18 = .ok (.return_, 1) := by decide +kernel
theorem d_C_set_0 : decode b_C_set 0 = .ok (.aload_n 1, 1) := by decide +kernel
theorem d_C_set_1 : decode b_C_set 1 = .ok (.invokevirtual 70, 3) := by decide +kernel
theorem d_C_set_4 : decode b_C_set 4 = .ok (.lookupswitch 90 #[(10, 70), (16, 48), (23, 36)], 36) := by decide +kernel
theorem d_C_set_40 : decode b_C_set 40 = .ok (.aload_n 0, 1) := by decide +kernel
theorem d_C_set_41 : decode b_C_set 41 = .ok (.getstatic 78, 3) := by decide +kernel
theorem d_C_set_44 : decode b_C_set 44 = .ok (.iload_n 2, 1) := by decide +kernel
theorem d_C_set_45 : decode b_C_set 45 = .ok (.iconst 4, 1) := by decide +kernel
theorem d_C_set_46 : decode b_C_set 46 = .ok (.invokevirtual 91, 3) := by decide +kernel
theorem d_C_set_49 : decode b_C_set 49 = .ok (.goto 56, 3) := by decide +kernel
theorem d_C_set_52 : decode b_C_set 52 = .ok (.aload_n 0, 1) := by decide +kernel
theorem d_C_set_53 : decode b_C_set 53 = .ok (.getstatic 78, 3) := by decide +kernel
theorem d_C_set_56 : decode b_C_set 56 = .ok (.iload_n 2, 1) := by decide +kernel
theorem d_C_set_57 : decode b_C_set 57 = .ok (.iconst 1, 1) := by decide +kernel
theorem d_C_set_58 : decode b_C_set 58 = .ok (.ishl, 1) := by decide +kernel
theorem d_C_set_59 : decode b_C_set 59 = .ok (.iconst 4, 1) := by decide +kernel
theorem d_C_set_60 : decode b_C_set 60 = .ok (.aload_n 0, 1) := by decide +kernel
theorem d_C_set_61 : decode b_C_set 61 = .ok (.getstatic 81, 3) := by decide +kernel
theorem d_C_set_64 : decode b_C_set 64 = .ok (.invokevirtual 74, 3) := by decide +kernel
theorem d_C_set_67 : decode b_C_set 67 = .ok (.iand, 1) := by decide +kernel
theorem d_C_set_68 : decode b_C_set 68 = .ok (.invokevirtual 91, 3) := by decide +kernel
theorem d_C_set_71 : decode b_C_set 71 = .ok (.goto 34, 3) := by decide +kernel
theorem d_C_set_74 : decode b_C_set 74 = .ok (.aload_n 0, 1) := by decide +kernel
theorem d_C_set_75 : decode b_C_set 75 = .ok (.getstatic 84, 3) := by decide +kernel
theorem d_C_set_78 : decode b_C_set 78 = .ok (.iload_n 2, 1) := by decide +kernel
theorem d_C_set_79 : decode b_C_set 79 = .ok (.iconst 1, 1) := by decide +kernel
theorem d_C_set_80 : decode b_C_set 80 = .ok (.ishl, 1) := by decide +kernel
theorem d_C_set_81 : decode b_C_set 81 = .ok (.aload_n 0, 1) := by decide +kernel
theorem d_C_set_82 : decode b_C_set 82 = .ok (.getstatic 81, 3) := by decide +kernel
theorem d_C_set_85 : decode b_C_set 85 = .ok (.invokevirtual 74, 3) := by decide +kernel
theorem d_C_set_88 : decode b_C_set 88 = .ok (.invokevirtual 91, 3) := by decide +kernel
theorem d_C_set_91 : decode b_C_set 91 = .ok (.goto 14, 3) := by decide +kernel
theorem d_C_set_94 : decode b_C_set 94 = .ok (.aload_n 0, 1) := by decide +kernel
theorem d_C_set_95 : decode b_C_set 95 = .ok (.aload_n 1, 1) := by decide +kernel
theorem d_C_set_96 : decode b_C_set 96 = .ok (.iload_n 2, 1) := by decide +kernel
theorem d_C_set_97 : decode b_C_set 97 = .ok (.aload_n 1, 1) := by decide +kernel
theorem d_C_set_98 : decode b_C_set 98 = .ok (.getfield 95, 3) := by decide +kernel
theorem d_C_set_101 : decode b_C_set 101 = .ok (.iand, 1) := by decide +kernel
theorem d_C_set_102 : decode b_C_set 102 = .ok (.invokevirtual 87, 3) := by decide +kernel
theorem d_C_set_105 : decode b_C_set 105 = .ok (.return_, 1) := by decide +kernel
theorem d_C_first_0 : decode b_C_first 0 = .ok (.iload_n 0, 1) := by decide +kernel
theorem d_C_first_1 : decode b_C_first 1 = .ok (.iload_n 1, 1) := by decide +kernel
theorem d_C_first_2 : decode b_C_first 2 = .ok (.ishr, 1) := by decide +kernel
theorem d_C_first_3 : decode b_C_first 3 = .ok (.iconst 1, 1) := by decide +kernel
theorem d_C_first_4 : decode b_C_first 4 = .ok (.iand, 1) := by decide +kernel
theorem d_C_first_5 : decode b_C_first 5 = .ok (.iconst 1, 1) := by decide +kernel
theorem d_C_first_6 : decode b_C_first 6 = .ok (.if_icmp .ne 7, 3) := by decide +kernel
theorem d_C_first_9 : decode b_C_first 9 = .ok (.iload_n 1, 1) := by decide +kernel
theorem d_C_first_10 : decode b_C_first 10 = .ok (.goto 30, 3) := by decide +kernel
theorem d_C_first_13 : decode b_C_first 13 = .ok (.iload_n 0, 1) := by decide +kernel
theorem d_C_first_14 : decode b_C_first 14 = .ok (.iload_n 2, 1) := by decide +kernel
theorem d_C_first_15 : decode b_C_first 15 = .ok (.ishr, 1) := by decide +kernel
theorem d_C_first_16 : decode b_C_first 16 = .ok (.iconst 1, 1) := by decide +kernel
theorem d_C_first_17 : decode b_C_first 17 = .ok (.iand, 1) := by decide +kernel
theorem d_C_first_18 : decode b_C_first 18 = .ok (.iconst 1, 1) := by decide +kernel
theorem d_C_first_19 : decode b_C_first 19 = .ok (.if_icmp .ne 7, 3) := by decide +kernel
theorem d_C_first_22 : decode b_C_first 22 = .ok (.iload_n 2, 1) := by decide +kernel
theorem d_C_first_23 : decode b_C_first 23 = .ok (.goto 17, 3) := by decide +kernel
theorem d_C_first_26 : decode b_C_first 26 = .ok (.iload_n 0, 1) := by decide +kernel
theorem d_C_first_27 : decode b_C_first 27 = .ok (.iload_n 3, 1) := by decide +kernel
theorem d_C_first_28 : decode b_C_first 28 = .ok (.ishr, 1) := by decide +kernel
theorem d_C_first_29 : decode b_C_first 29 = .ok (.iconst 1, 1) := by decide +kernel
theorem d_C_first_30 : decode b_C_first 30 = .ok (.iand, 1) := by decide +kernel
theorem d_C_first_31 : decode b_C_first 31 = .ok (.iconst 1, 1) := by decide +kernel
theorem d_C_first_32 : decode b_C_first 32 = .ok (.if_icmp .ne 7, 3) := by decide +kernel
theorem d_C_first_35 : decode b_C_first 35 = .ok (.iload_n 3, 1) := by decide +kernel
theorem d_C_first_36 : decode b_C_first 36 = .ok (.goto 4, 3) := by decide +kernel
theorem d_C_first_39 : decode b_C_first 39 = .ok (.iconst (-1), 1) := by decide +kernel
theorem d_C_first_40 : decode b_C_first 40 = .ok (.ireturn, 1) := by decide +kernel
theorem d_C_due_0 : decode b_C_due 0 = .ok (.aload_n 0, 1) := by decide +kernel
theorem d_C_due_1 : decode b_C_due 1 = .ok (.getstatic 78, 3) := by decide +kernel
theorem d_C_due_4 : decode b_C_due 4 = .ok (.invokevirtual 74, 3) := by decide +kernel
theorem d_C_due_7 : decode b_C_due 7 = .ok (.aload_n 0, 1) := by decide +kernel
theorem d_C_due_8 : decode b_C_due 8 = .ok (.getstatic 84, 3) := by decide +kernel
theorem d_C_due_11 : decode b_C_due 11 = .ok (.invokevirtual 74, 3) := by decide +kernel
theorem d_C_due_14 : decode b_C_due 14 = .ok (.iand, 1) := by decide +kernel
theorem d_C_due_15 : decode b_C_due 15 = .ok (.istore_n 1, 1) := by decide +kernel
theorem d_C_due_16 : decode b_C_due 16 = .ok (.aload_n 0, 1) := by decide +kernel
theorem d_C_due_17 : decode b_C_due 17 = .ok (.getfield 25, 3) := by decide +kernel
theorem d_C_due_20 : decode b_C_due 20 = .ok (.iconst 1, 1) := by decide +kernel
theorem d_C_due_21 : decode b_C_due 21 = .ok (.if_icmp .ne 14, 3) := by decide +kernel
theorem d_C_due_24 : decode b_C_due 24 = .ok (.aload_n 0, 1) := by decide +kernel
theorem d_C_due_25 : decode b_C_due 25 = .ok (.getstatic 98, 3) := by decide +kernel
theorem d_C_due_28 : decode b_C_due 28 = .ok (.iconst 2, 1) := by decide +kernel
theorem d_C_due_29 : decode b_C_due 29 = .ok (.invokevirtual 66, 3) := by decide +kernel
theorem d_C_due_32 : decode b_C_due 32 = .ok (.ifCond .eq 62, 3) := by decide +kernel
theorem d_C_due_35 : decode b_C_due 35 = .ok (.aload_n 0, 1) := by decide +kernel
theorem d_C_due_36 : decode b_C_due 36 = .ok (.getstatic 101, 3) := by decide +kernel
theorem d_C_due_39 : decode b_C_due 39 = .ok (.invokevirtual 104, 3) := by decide +kernel
theorem d_C_due_42 : decode b_C_due 42 = .ok (.aload_n 0, 1) := by decide +kernel
theorem d_C_due_43 : decode b_C_due 43 = .ok (.getstatic 107, 3) := by decide +kernel
theorem d_C_due_46 : decode b_C_due 46 = .ok (.invokevirtual 74, 3) := by decide +kernel
theorem d_C_due_49 : decode b_C_due 49 = .ok (.iand, 1) := by decide +kernel
theorem d_C_due_50 : decode b_C_due 50 = .ok (.bipush 9, 2) := by decide +kernel
theorem d_C_due_52 : decode b_C_due 52 = .ok (.iconst 1, 1) := by decide +kernel
theorem d_C_due_53 : decode b_C_due 53 = .ok (.iconst 5, 1) := by decide +kernel
theorem d_C_due_54 : decode b_C_due 54 = .ok (.invokestatic 110, 3) := by decide +kernel
theorem d_C_due_57 : decode b_C_due 57 = .ok (.istore_n 2, 1) := by decide +kernel
theorem d_C_due_58 : decode b_C_due 58 = .ok (.iload_n 2, 1) := by decide +kernel
theorem d_C_due_59 : decode b_C_due 59 = .ok (.iconst (-1), 1) := by decide +kernel
theorem d_C_due_60 : decode b_C_due 60 = .ok (.if_icmp .eq 7, 3) := by decide +kernel
theorem d_C_due_63 : decode b_C_due 63 = .ok (.iload_n 2, 1) := by decide +kernel
theorem d_C_due_64 : decode b_C_due 64 = .ok (.goto 22, 3) := by decide +kernel
theorem d_C_due_67 : decode b_C_due 67 = .ok (.iload_n 1, 1) := by decide +kernel
theorem d_C_due_68 : decode b_C_due 68 = .ok (.aload_n 0, 1) := by decide +kernel
theorem d_C_due_69 : decode b_C_due 69 = .ok (.getstatic 81, 3) := by decide +kernel
theorem d_C_due_72 : decode b_C_due 72 = .ok (.invokevirtual 74, 3) := by decide +kernel
theorem d_C_due_75 : decode b_C_due 75 = .ok (.iconst (-1), 1) := by decide +kernel
theorem d_C_due_76 : decode b_C_due 76 = .ok (.ixor, 1) := by decide +kernel
theorem d_C_due_77 : decode b_C_due 77 = .ok (.iand, 1) := by decide +kernel
theorem d_C_due_78 : decode b_C_due 78 = .ok (.bipush 10, 2) := by decide +kernel
theorem d_C_due_80 : decode b_C_due 80 = .ok (.iconst 2, 1) := by decide +kernel
theorem d_C_due_81 : decode b_C_due 81 = .ok (.bipush 6, 2) := by decide +kernel
theorem d_C_due_83 : decode b_C_due 83 = .ok (.invokestatic 110, 3) := by decide +kernel
theorem d_C_due_86 : decode b_C_due 86 = .ok (.istore_n 3, 1) := by decide +kernel
theorem d_C_due_87 : decode b_C_due 87 = .ok (.iload_n 3, 1) := by decide +kernel
theorem d_C_due_88 : decode b_C_due 88 = .ok (.iconst (-1), 1) := by decide +kernel
theorem d_C_due_89 : decode b_C_due 89 = .ok (.if_icmp .eq 5, 3) := by decide +kernel
theorem d_C_due_92 : decode b_C_due 92 = .ok (.iload_n 3, 1) := by decide +kernel
theorem d_C_due_93 : decode b_C_due 93 = .ok (.ireturn, 1) := by decide +kernel
theorem d_C_due_94 : decode b_C_due 94 = .ok (.aload_n 0, 1) := by decide +kernel
theorem d_C_due_95 : decode b_C_due 95 = .ok (.getfield 25, 3) := by decide +kernel
theorem d_C_due_98 : decode b_C_due 98 = .ok (.iconst 2, 1) := by decide +kernel
theorem d_C_due_99 : decode b_C_due 99 = .ok (.if_icmp .eq 22, 3) := by decide +kernel
theorem d_C_due_102 : decode b_C_due 102 = .ok (.aload_n 0, 1) := by decide +kernel
theorem d_C_due_103 : decode b_C_due 103 = .ok (.getfield 25, 3) := by decide +kernel
theorem d_C_due_106 : decode b_C_due 106 = .ok (.iconst 3, 1) := by decide +kernel
theorem d_C_due_107 : decode b_C_due 107 = .ok (.if_icmp .ne 48, 3) := by decide +kernel
theorem d_C_due_110 : decode b_C_due 110 = .ok (.aload_n 0, 1) := by decide +kernel
theorem d_C_due_111 : decode b_C_due 111 = .ok (.getstatic 114, 3) := by decide +kernel
theorem d_C_due_114 : decode b_C_due 114 = .ok (.iconst 2, 1) := by decide +kernel
theorem d_C_due_115 : decode b_C_due 115 = .ok (.invokevirtual 66, 3) := by decide +kernel
theorem d_C_due_118 : decode b_C_due 118 = .ok (.ifCond .eq 37, 3) := by decide +kernel
theorem d_C_due_121 : decode b_C_due 121 = .ok (.iload_n 1, 1) := by decide +kernel
theorem d_C_due_122 : decode b_C_due 122 = .ok (.aload_n 0, 1) := by decide +kernel
theorem d_C_due_123 : decode b_C_due 123 = .ok (.getstatic 81, 3) := by decide +kernel
theorem d_C_due_126 : decode b_C_due 126 = .ok (.invokevirtual 74, 3) := by decide +kernel
theorem d_C_due_129 : decode b_C_due 129 = .ok (.iand, 1) := by decide +kernel
theorem d_C_due_130 : decode b_C_due 130 = .ok (.bipush 10, 2) := by decide +kernel
theorem d_C_due_132 : decode b_C_due 132 = .ok (.iconst 2, 1) := by decide +kernel
theorem d_C_due_133 : decode b_C_due 133 = .ok (.bipush 6, 2) := by decide +kernel
theorem d_C_due_135 : decode b_C_due 135 = .ok (.invokestatic 110, 3) := by decide +kernel
theorem d_C_due_138 : decode b_C_due 138 = .ok (.istore_n 2, 1) := by decide +kernel
theorem d_C_due_139 : decode b_C_due 139 = .ok (.iload_n 2, 1) := by decide +kernel
theorem d_C_due_140 : decode b_C_due 140 = .ok (.iconst (-1), 1) := by decide +kernel
theorem d_C_due_141 : decode b_C_due 141 = .ok (.if_icmp .ne 7, 3) := by decide +kernel
theorem d_C_due_144 : decode b_C_due 144 = .ok (.iconst (-1), 1) := by decide +kernel
theorem d_C_due_145 : decode b_C_due 145 = .ok (.goto 9, 3) := by decide +kernel
theorem d_C_due_148 : decode b_C_due 148 = .ok (.bipush 100, 2) := by decide +kernel
theorem d_C_due_150 : decode b_C_due 150 = .ok (.iload_n 2, 1) := by decide +kernel
theorem d_C_due_151 : decode b_C_due 151 = .ok (.iadd, 1) := by decide +kernel
theorem d_C_due_152 : decode b_C_due 152 = .ok (.iconst 1, 1) := by decide +kernel
theorem d_C_due_153 : decode b_C_due 153 = .ok (.isub, 1) := by decide +kernel
theorem d_C_due_154 : decode b_C_due 154 = .ok (.ireturn, 1) := by decide +kernel
theorem d_C_due_155 : decode b_C_due 155 = .ok (.iconst (-1), 1) := by decide +kernel
theorem d_C_due_156 : decode b_C_due 156 = .ok (.ireturn, 1) := by decide +kernel
theorem d_N_ordinal_0 : decode b_N_ordinal 0 = .ok (.aload_n 0, 1) := by decide +kernel
theorem d_N_ordinal_1 : decode b_N_ordinal 1 = .ok (.getfield 7, 3) := by decide +kernel
theorem d_N_ordinal_4 : decode b_N_ordinal 4 = .ok (.ireturn, 1) := by decide +kernel
end
section
-- what each instruction of the law is
theorem d_L_law_0 : decode code 0 = .ok (.new 7, 3) := by decide +kernel
theorem d_L_law_3 : decode code 3 = .ok (.dup, 1) := by decide +kernel
theorem d_L_law_4 : decode code 4 = .ok (.invokespecial 9, 3) := by decide +kernel
theorem d_L_law_7 : decode code 7 = .ok (.astore_n 1, 1) := by decide +kernel
theorem d_L_law_8 : decode code 8 = .ok (.new 10, 3) := by decide +kernel
theorem d_L_law_11 : decode code 11 = .ok (.dup, 1) := by decide +kernel
theorem d_L_law_12 : decode code 12 = .ok (.invokespecial 12, 3) := by decide +kernel
theorem d_L_law_15 : decode code 15 = .ok (.astore_n 2, 1) := by decide +kernel
theorem d_L_law_16 : decode code 16 = .ok (.iconst 0, 1) := by decide +kernel
theorem d_L_law_17 : decode code 17 = .ok (.istore_n 3, 1) := by decide +kernel
theorem d_L_law_18 : decode code 18 = .ok (.iload_n 3, 1) := by decide +kernel
theorem d_L_law_19 : decode code 19 = .ok (.aload_n 0, 1) := by decide +kernel
theorem d_L_law_20 : decode code 20 = .ok (.arraylength, 1) := by decide +kernel
theorem d_L_law_21 : decode code 21 = .ok (.iconst 4, 1) := by decide +kernel
theorem d_L_law_22 : decode code 22 = .ok (.isub, 1) := by decide +kernel
theorem d_L_law_23 : decode code 23 = .ok (.if_icmp .gt 357, 3) := by decide +kernel
theorem d_L_law_26 : decode code 26 = .ok (.aload_n 0, 1) := by decide +kernel
theorem d_L_law_27 : decode code 27 = .ok (.iload_n 3, 1) := by decide +kernel
theorem d_L_law_28 : decode code 28 = .ok (.iaload, 1) := by decide +kernel
theorem d_L_law_29 : decode code 29 = .ok (.bipush 15, 2) := by decide +kernel
theorem d_L_law_31 : decode code 31 = .ok (.iand, 1) := by decide +kernel
theorem d_L_law_32 : decode code 32 = .ok (.tableswitch 342 0 9 #[56, 67, 90, 144, 198, 237, 280, 293, 316, 329], 56) := by decide +kernel
theorem d_L_law_88 : decode code 88 = .ok (.aload_n 1, 1) := by decide +kernel
theorem d_L_law_89 : decode code 89 = .ok (.invokevirtual 13, 3) := by decide +kernel
theorem d_L_law_92 : decode code 92 = .ok (.aload_n 2, 1) := by decide +kernel
theorem d_L_law_93 : decode code 93 = .ok (.invokevirtual 16, 3) := by decide +kernel
theorem d_L_law_96 : decode code 96 = .ok (.goto 278, 3) := by decide +kernel
theorem d_L_law_99 : decode code 99 = .ok (.aload_n 1, 1) := by decide +kernel
theorem d_L_law_100 : decode code 100 = .ok (.aload_n 0, 1) := by decide +kernel
theorem d_L_law_101 : decode code 101 = .ok (.iload_n 3, 1) := by decide +kernel
theorem d_L_law_102 : decode code 102 = .ok (.iconst 1, 1) := by decide +kernel
theorem d_L_law_103 : decode code 103 = .ok (.iadd, 1) := by decide +kernel
theorem d_L_law_104 : decode code 104 = .ok (.iaload, 1) := by decide +kernel
theorem d_L_law_105 : decode code 105 = .ok (.invokevirtual 17, 3) := by decide +kernel
theorem d_L_law_108 : decode code 108 = .ok (.aload_n 2, 1) := by decide +kernel
theorem d_L_law_109 : decode code 109 = .ok (.aload_n 0, 1) := by decide +kernel
theorem d_L_law_110 : decode code 110 = .ok (.iload_n 3, 1) := by decide +kernel
theorem d_L_law_111 : decode code 111 = .ok (.iconst 1, 1) := by decide +kernel
theorem d_L_law_112 : decode code 112 = .ok (.iadd, 1) := by decide +kernel
theorem d_L_law_113 : decode code 113 = .ok (.iaload, 1) := by decide +kernel
theorem d_L_law_114 : decode code 114 = .ok (.invokevirtual 21, 3) := by decide +kernel
theorem d_L_law_117 : decode code 117 = .ok (.if_icmp .eq 257, 3) := by decide +kernel
theorem d_L_law_120 : decode code 120 = .ok (.iconst 0, 1) := by decide +kernel
theorem d_L_law_121 : decode code 121 = .ok (.ireturn, 1) := by decide +kernel
theorem d_L_law_122 : decode code 122 = .ok (.aload_n 1, 1) := by decide +kernel
theorem d_L_law_123 : decode code 123 = .ok (.aload_n 0, 1) := by decide +kernel
theorem d_L_law_124 : decode code 124 = .ok (.iload_n 3, 1) := by decide +kernel
theorem d_L_law_125 : decode code 125 = .ok (.iconst 1, 1) := by decide +kernel
theorem d_L_law_126 : decode code 126 = .ok (.iadd, 1) := by decide +kernel
theorem d_L_law_127 : decode code 127 = .ok (.iaload, 1) := by decide +kernel
theorem d_L_law_128 : decode code 128 = .ok (.i2l, 1) := by decide +kernel
theorem d_L_law_129 : decode code 129 = .ok (.bipush 32, 2) := by decide +kernel
theorem d_L_law_131 : decode code 131 = .ok (.lshl, 1) := by decide +kernel
theorem d_L_law_132 : decode code 132 = .ok (.aload_n 0, 1) := by decide +kernel
theorem d_L_law_133 : decode code 133 = .ok (.iload_n 3, 1) := by decide +kernel
theorem d_L_law_134 : decode code 134 = .ok (.iconst 2, 1) := by decide +kernel
theorem d_L_law_135 : decode code 135 = .ok (.iadd, 1) := by decide +kernel
theorem d_L_law_136 : decode code 136 = .ok (.iaload, 1) := by decide +kernel
theorem d_L_law_137 : decode code 137 = .ok (.i2l, 1) := by decide +kernel
theorem d_L_law_138 : decode code 138 = .ok (.ldc2_w 22, 3) := by decide +kernel
theorem d_L_law_141 : decode code 141 = .ok (.land, 1) := by decide +kernel
theorem d_L_law_142 : decode code 142 = .ok (.lor, 1) := by decide +kernel
theorem d_L_law_143 : decode code 143 = .ok (.invokevirtual 24, 3) := by decide +kernel
theorem d_L_law_146 : decode code 146 = .ok (.aload_n 2, 1) := by decide +kernel
theorem d_L_law_147 : decode code 147 = .ok (.aload_n 0, 1) := by decide +kernel
theorem d_L_law_148 : decode code 148 = .ok (.iload_n 3, 1) := by decide +kernel
theorem d_L_law_149 : decode code 149 = .ok (.iconst 1, 1) := by decide +kernel
theorem d_L_law_150 : decode code 150 = .ok (.iadd, 1) := by decide +kernel
theorem d_L_law_151 : decode code 151 = .ok (.iaload, 1) := by decide +kernel
theorem d_L_law_152 : decode code 152 = .ok (.i2l, 1) := by decide +kernel
theorem d_L_law_153 : decode code 153 = .ok (.bipush 32, 2) := by decide +kernel
theorem d_L_law_155 : decode code 155 = .ok (.lshl, 1) := by decide +kernel
theorem d_L_law_156 : decode code 156 = .ok (.aload_n 0, 1) := by decide +kernel
theorem d_L_law_157 : decode code 157 = .ok (.iload_n 3, 1) := by decide +kernel
theorem d_L_law_158 : decode code 158 = .ok (.iconst 2, 1) := by decide +kernel
theorem d_L_law_159 : decode code 159 = .ok (.iadd, 1) := by decide +kernel
theorem d_L_law_160 : decode code 160 = .ok (.iaload, 1) := by decide +kernel
theorem d_L_law_161 : decode code 161 = .ok (.i2l, 1) := by decide +kernel
theorem d_L_law_162 : decode code 162 = .ok (.ldc2_w 22, 3) := by decide +kernel
theorem d_L_law_165 : decode code 165 = .ok (.land, 1) := by decide +kernel
theorem d_L_law_166 : decode code 166 = .ok (.lor, 1) := by decide +kernel
theorem d_L_law_167 : decode code 167 = .ok (.invokevirtual 28, 3) := by decide +kernel
theorem d_L_law_170 : decode code 170 = .ok (.lcmp, 1) := by decide +kernel
theorem d_L_law_171 : decode code 171 = .ok (.ifCond .eq 203, 3) := by decide +kernel
theorem d_L_law_174 : decode code 174 = .ok (.iconst 0, 1) := by decide +kernel
theorem d_L_law_175 : decode code 175 = .ok (.ireturn, 1) := by decide +kernel
theorem d_L_law_176 : decode code 176 = .ok (.aload_n 1, 1) := by decide +kernel
theorem d_L_law_177 : decode code 177 = .ok (.aload_n 0, 1) := by decide +kernel
theorem d_L_law_178 : decode code 178 = .ok (.iload_n 3, 1) := by decide +kernel
theorem d_L_law_179 : decode code 179 = .ok (.iconst 1, 1) := by decide +kernel
theorem d_L_law_180 : decode code 180 = .ok (.iadd, 1) := by decide +kernel
theorem d_L_law_181 : decode code 181 = .ok (.iaload, 1) := by decide +kernel
theorem d_L_law_182 : decode code 182 = .ok (.i2l, 1) := by decide +kernel
theorem d_L_law_183 : decode code 183 = .ok (.bipush 32, 2) := by decide +kernel
theorem d_L_law_185 : decode code 185 = .ok (.lshl, 1) := by decide +kernel
theorem d_L_law_186 : decode code 186 = .ok (.aload_n 0, 1) := by decide +kernel
theorem d_L_law_187 : decode code 187 = .ok (.iload_n 3, 1) := by decide +kernel
theorem d_L_law_188 : decode code 188 = .ok (.iconst 2, 1) := by decide +kernel
theorem d_L_law_189 : decode code 189 = .ok (.iadd, 1) := by decide +kernel
theorem d_L_law_190 : decode code 190 = .ok (.iaload, 1) := by decide +kernel
theorem d_L_law_191 : decode code 191 = .ok (.i2l, 1) := by decide +kernel
theorem d_L_law_192 : decode code 192 = .ok (.ldc2_w 22, 3) := by decide +kernel
theorem d_L_law_195 : decode code 195 = .ok (.land, 1) := by decide +kernel
theorem d_L_law_196 : decode code 196 = .ok (.lor, 1) := by decide +kernel
theorem d_L_law_197 : decode code 197 = .ok (.invokevirtual 29, 3) := by decide +kernel
theorem d_L_law_200 : decode code 200 = .ok (.aload_n 2, 1) := by decide +kernel
theorem d_L_law_201 : decode code 201 = .ok (.aload_n 0, 1) := by decide +kernel
theorem d_L_law_202 : decode code 202 = .ok (.iload_n 3, 1) := by decide +kernel
theorem d_L_law_203 : decode code 203 = .ok (.iconst 1, 1) := by decide +kernel
theorem d_L_law_204 : decode code 204 = .ok (.iadd, 1) := by decide +kernel
theorem d_L_law_205 : decode code 205 = .ok (.iaload, 1) := by decide +kernel
theorem d_L_law_206 : decode code 206 = .ok (.i2l, 1) := by decide +kernel
theorem d_L_law_207 : decode code 207 = .ok (.bipush 32, 2) := by decide +kernel
theorem d_L_law_209 : decode code 209 = .ok (.lshl, 1) := by decide +kernel
theorem d_L_law_210 : decode code 210 = .ok (.aload_n 0, 1) := by decide +kernel
theorem d_L_law_211 : decode code 211 = .ok (.iload_n 3, 1) := by decide +kernel
theorem d_L_law_212 : decode code 212 = .ok (.iconst 2, 1) := by decide +kernel
theorem d_L_law_213 : decode code 213 = .ok (.iadd, 1) := by decide +kernel
theorem d_L_law_214 : decode code 214 = .ok (.iaload, 1) := by decide +kernel
theorem d_L_law_215 : decode code 215 = .ok (.i2l, 1) := by decide +kernel
theorem d_L_law_216 : decode code 216 = .ok (.ldc2_w 22, 3) := by decide +kernel
theorem d_L_law_219 : decode code 219 = .ok (.land, 1) := by decide +kernel
theorem d_L_law_220 : decode code 220 = .ok (.lor, 1) := by decide +kernel
theorem d_L_law_221 : decode code 221 = .ok (.invokevirtual 32, 3) := by decide +kernel
theorem d_L_law_224 : decode code 224 = .ok (.lcmp, 1) := by decide +kernel
theorem d_L_law_225 : decode code 225 = .ok (.ifCond .eq 149, 3) := by decide +kernel
theorem d_L_law_228 : decode code 228 = .ok (.iconst 0, 1) := by decide +kernel
theorem d_L_law_229 : decode code 229 = .ok (.ireturn, 1) := by decide +kernel
theorem d_L_law_230 : decode code 230 = .ok (.aload_n 1, 1) := by decide +kernel
theorem d_L_law_231 : decode code 231 = .ok (.aload_n 0, 1) := by decide +kernel
theorem d_L_law_232 : decode code 232 = .ok (.iload_n 3, 1) := by decide +kernel
theorem d_L_law_233 : decode code 233 = .ok (.iconst 1, 1) := by decide +kernel
theorem d_L_law_234 : decode code 234 = .ok (.iadd, 1) := by decide +kernel
theorem d_L_law_235 : decode code 235 = .ok (.iaload, 1) := by decide +kernel
theorem d_L_law_236 : decode code 236 = .ok (.ifCond .eq 7, 3) := by decide +kernel
theorem d_L_law_239 : decode code 239 = .ok (.iconst 1, 1) := by decide +kernel
theorem d_L_law_240 : decode code 240 = .ok (.goto 4, 3) := by decide +kernel
theorem d_L_law_243 : decode code 243 = .ok (.iconst 0, 1) := by decide +kernel
theorem d_L_law_244 : decode code 244 = .ok (.invokevirtual 33, 3) := by decide +kernel
theorem d_L_law_247 : decode code 247 = .ok (.aload_n 2, 1) := by decide +kernel
theorem d_L_law_248 : decode code 248 = .ok (.aload_n 0, 1) := by decide +kernel
theorem d_L_law_249 : decode code 249 = .ok (.iload_n 3, 1) := by decide +kernel
theorem d_L_law_250 : decode code 250 = .ok (.iconst 1, 1) := by decide +kernel
theorem d_L_law_251 : decode code 251 = .ok (.iadd, 1) := by decide +kernel
theorem d_L_law_252 : decode code 252 = .ok (.iaload, 1) := by decide +kernel
theorem d_L_law_253 : decode code 253 = .ok (.ifCond .eq 7, 3) := by decide +kernel
theorem d_L_law_256 : decode code 256 = .ok (.iconst 1, 1) := by decide +kernel
theorem d_L_law_257 : decode code 257 = .ok (.goto 4, 3) := by decide +kernel
theorem d_L_law_260 : decode code 260 = .ok (.iconst 0, 1) := by decide +kernel
theorem d_L_law_261 : decode code 261 = .ok (.invokevirtual 37, 3) := by decide +kernel
theorem d_L_law_264 : decode code 264 = .ok (.if_icmp .eq 110, 3) := by decide +kernel
theorem d_L_law_267 : decode code 267 = .ok (.iconst 0, 1) := by decide +kernel
theorem d_L_law_268 : decode code 268 = .ok (.ireturn, 1) := by decide +kernel
theorem d_L_law_269 : decode code 269 = .ok (.aload_n 1, 1) := by decide +kernel
theorem d_L_law_270 : decode code 270 = .ok (.aload_n 0, 1) := by decide +kernel
theorem d_L_law_271 : decode code 271 = .ok (.iload_n 3, 1) := by decide +kernel
theorem d_L_law_272 : decode code 272 = .ok (.iconst 1, 1) := by decide +kernel
theorem d_L_law_273 : decode code 273 = .ok (.iadd, 1) := by decide +kernel
theorem d_L_law_274 : decode code 274 = .ok (.iaload, 1) := by decide +kernel
theorem d_L_law_275 : decode code 275 = .ok (.aload_n 0, 1) := by decide +kernel
theorem d_L_law_276 : decode code 276 = .ok (.iload_n 3, 1) := by decide +kernel
theorem d_L_law_277 : decode code 277 = .ok (.iconst 2, 1) := by decide +kernel
theorem d_L_law_278 : decode code 278 = .ok (.iadd, 1) := by decide +kernel
theorem d_L_law_279 : decode code 279 = .ok (.iaload, 1) := by decide +kernel
theorem d_L_law_280 : decode code 280 = .ok (.aload_n 0, 1) := by decide +kernel
theorem d_L_law_281 : decode code 281 = .ok (.iload_n 3, 1) := by decide +kernel
theorem d_L_law_282 : decode code 282 = .ok (.iconst 3, 1) := by decide +kernel
theorem d_L_law_283 : decode code 283 = .ok (.iadd, 1) := by decide +kernel
theorem d_L_law_284 : decode code 284 = .ok (.iaload, 1) := by decide +kernel
theorem d_L_law_285 : decode code 285 = .ok (.invokevirtual 38, 3) := by decide +kernel
theorem d_L_law_288 : decode code 288 = .ok (.aload_n 2, 1) := by decide +kernel
theorem d_L_law_289 : decode code 289 = .ok (.aload_n 0, 1) := by decide +kernel
theorem d_L_law_290 : decode code 290 = .ok (.iload_n 3, 1) := by decide +kernel
theorem d_L_law_291 : decode code 291 = .ok (.iconst 1, 1) := by decide +kernel
theorem d_L_law_292 : decode code 292 = .ok (.iadd, 1) := by decide +kernel
theorem d_L_law_293 : decode code 293 = .ok (.iaload, 1) := by decide +kernel
theorem d_L_law_294 : decode code 294 = .ok (.aload_n 0, 1) := by decide +kernel
theorem d_L_law_295 : decode code 295 = .ok (.iload_n 3, 1) := by decide +kernel
theorem d_L_law_296 : decode code 296 = .ok (.iconst 2, 1) := by decide +kernel
theorem d_L_law_297 : decode code 297 = .ok (.iadd, 1) := by decide +kernel
theorem d_L_law_298 : decode code 298 = .ok (.iaload, 1) := by decide +kernel
theorem d_L_law_299 : decode code 299 = .ok (.aload_n 0, 1) := by decide +kernel
theorem d_L_law_300 : decode code 300 = .ok (.iload_n 3, 1) := by decide +kernel
theorem d_L_law_301 : decode code 301 = .ok (.iconst 3, 1) := by decide +kernel
theorem d_L_law_302 : decode code 302 = .ok (.iadd, 1) := by decide +kernel
theorem d_L_law_303 : decode code 303 = .ok (.iaload, 1) := by decide +kernel
theorem d_L_law_304 : decode code 304 = .ok (.invokevirtual 42, 3) := by decide +kernel
theorem d_L_law_307 : decode code 307 = .ok (.if_icmp .eq 67, 3) := by decide +kernel
theorem d_L_law_310 : decode code 310 = .ok (.iconst 0, 1) := by decide +kernel
theorem d_L_law_311 : decode code 311 = .ok (.ireturn, 1) := by decide +kernel
theorem d_L_law_312 : decode code 312 = .ok (.aload_n 1, 1) := by decide +kernel
theorem d_L_law_313 : decode code 313 = .ok (.invokevirtual 43, 3) := by decide +kernel
theorem d_L_law_316 : decode code 316 = .ok (.aload_n 2, 1) := by decide +kernel
theorem d_L_law_317 : decode code 317 = .ok (.invokevirtual 47, 3) := by decide +kernel
theorem d_L_law_320 : decode code 320 = .ok (.if_icmp .eq 54, 3) := by decide +kernel
theorem d_L_law_323 : decode code 323 = .ok (.iconst 0, 1) := by decide +kernel
theorem d_L_law_324 : decode code 324 = .ok (.ireturn, 1) := by decide +kernel
theorem d_L_law_325 : decode code 325 = .ok (.aload_n 1, 1) := by decide +kernel
theorem d_L_law_326 : decode code 326 = .ok (.aload_n 0, 1) := by decide +kernel
theorem d_L_law_327 : decode code 327 = .ok (.iload_n 3, 1) := by decide +kernel
theorem d_L_law_328 : decode code 328 = .ok (.iconst 1, 1) := by decide +kernel
theorem d_L_law_329 : decode code 329 = .ok (.iadd, 1) := by decide +kernel
theorem d_L_law_330 : decode code 330 = .ok (.iaload, 1) := by decide +kernel
theorem d_L_law_331 : decode code 331 = .ok (.invokevirtual 48, 3) := by decide +kernel
theorem d_L_law_334 : decode code 334 = .ok (.aload_n 2, 1) := by decide +kernel
theorem d_L_law_335 : decode code 335 = .ok (.aload_n 0, 1) := by decide +kernel
theorem d_L_law_336 : decode code 336 = .ok (.iload_n 3, 1) := by decide +kernel
theorem d_L_law_337 : decode code 337 = .ok (.iconst 1, 1) := by decide +kernel
theorem d_L_law_338 : decode code 338 = .ok (.iadd, 1) := by decide +kernel
theorem d_L_law_339 : decode code 339 = .ok (.iaload, 1) := by decide +kernel
theorem d_L_law_340 : decode code 340 = .ok (.invokevirtual 51, 3) := by decide +kernel
theorem d_L_law_343 : decode code 343 = .ok (.if_icmp .eq 31, 3) := by decide +kernel
theorem d_L_law_346 : decode code 346 = .ok (.iconst 0, 1) := by decide +kernel
theorem d_L_law_347 : decode code 347 = .ok (.ireturn, 1) := by decide +kernel
theorem d_L_law_348 : decode code 348 = .ok (.aload_n 1, 1) := by decide +kernel
theorem d_L_law_349 : decode code 349 = .ok (.invokevirtual 52, 3) := by decide +kernel
theorem d_L_law_352 : decode code 352 = .ok (.aload_n 2, 1) := by decide +kernel
theorem d_L_law_353 : decode code 353 = .ok (.invokevirtual 55, 3) := by decide +kernel
theorem d_L_law_356 : decode code 356 = .ok (.if_icmp .eq 18, 3) := by decide +kernel
theorem d_L_law_359 : decode code 359 = .ok (.iconst 0, 1) := by decide +kernel
theorem d_L_law_360 : decode code 360 = .ok (.ireturn, 1) := by decide +kernel
theorem d_L_law_361 : decode code 361 = .ok (.aload_n 1, 1) := by decide +kernel
theorem d_L_law_362 : decode code 362 = .ok (.invokevirtual 56, 3) := by decide +kernel
theorem d_L_law_365 : decode code 365 = .ok (.aload_n 2, 1) := by decide +kernel
theorem d_L_law_366 : decode code 366 = .ok (.invokevirtual 59, 3) := by decide +kernel
theorem d_L_law_369 : decode code 369 = .ok (.if_icmp .eq 5, 3) := by decide +kernel
theorem d_L_law_372 : decode code 372 = .ok (.iconst 0, 1) := by decide +kernel
theorem d_L_law_373 : decode code 373 = .ok (.ireturn, 1) := by decide +kernel
theorem d_L_law_374 : decode code 374 = .ok (.iinc 3 4, 3) := by decide +kernel
theorem d_L_law_377 : decode code 377 = .ok (.goto (-359), 3) := by decide +kernel
theorem d_L_law_380 : decode code 380 = .ok (.iconst 1, 1) := by decide +kernel
theorem d_L_law_381 : decode code 381 = .ok (.ireturn, 1) := by decide +kernel
end
section
-- THE SHAPES of the contracts: a method that only reads (ro_), a method that writes into its own cells (mu_)
def bI (b : Bool) : Int32 := if b then 1 else 0
theorem bI_0 {b : Bool} : bI b = 0 ↔ b = false := by cases b <;> decide
theorem bI_n0 {b : Bool} : ¬ bI b = 0 ↔ b = true := by cases b <;> decide
theorem bI_nar (b : Bool) : narrow .boolean (.int (bI b)) = .int (bI b) := by cases b <;> decide
theorem bI_fit (b : Bool) : fits .boolean (.int (bI b)) = true := by cases b <;> decide
def en_nm : List String := ["STATUS", "IE", "TVEC", "SCRATCH", "EPC", "CAUSE", "TVAL", "IP", "ATP", "VS_STATUS", "VS_IE", "VS_TVEC", "VS_SCRATCH", "VS_EPC", "VS_CAUSE", "VS_TVAL", "VS_IP", "VS_ATP", "HSTATUS", "HEDELEG", "HIDELEG", "HIE", "HTVAL", "HIP", "HVIP", "HTINST", "HGATP", "TIME", "TIME_HIGH"]
def en_ord : List Int32 := [0, 1, 2, 3, 4, 5, 6, 7, 8, 9, 10, 11, 12, 13, 14, 15, 16, 17, 18, 19, 20, 21, 22, 23, 24, 25, 26, 27, 28]
def en_num : List Int32 := [256, 260, 261, 320, 321, 322, 323, 324, 384, 512, 516, 517, 576, 577, 578, 579, 580, 640, 1536, 1538, 1539, 1540, 1603, 1604, 1605, 1610, 1664, 3073, 3201]
def en_keep : List Int32 := [786722, 546, -3, -1, -4, -1, -1, 2, -2143289345, 786722, 0, -3, -1, -4, -1, -1, 0, -2143289345, 7340992, 45567, 1092, 1092, -1, 0, 1092, -1, -2143289348, 0, 0]
def en_F : List (String × String × String × List Int32) := [("java/lang/Enum", "ordinal", "I", en_ord), ("ControlFile$Control", "number", "I", en_num), ("ControlFile$Control", "keeps", "I", en_keep)]
/-- the enum's constants stand at ad 0 .. ad 28, outside A -/
def EN (ad : Nat → Nat) (A : Nat → Prop) (U : State) (H : Heap) : Prop := va_En cn_E "LControlFile$Control;" en_nm en_F ad A U H
theorem EN.moved {ad : Nat → Nat} {A : Nat → Prop} {u U : State} {H : Heap} (hvm : u.vm.Alike U.vm) (h : EN ad A u H) : EN ad A U H := va_En.moved hvm h
theorem EN.ro {ad : Nat → Nat} {A : Nat → Prop} {s : State} {H : Heap} {locs : List Loc} (h : EN ad A s s.heap) (hS : va_S A s.heap H locs) : EN ad (fun _ => False) s H := (va_En.kept h hS.2.1).narrow (fun _ h => h.elim)
theorem EN.mu {ad : Nat → Nat} {A B : Nat → Prop} {s : State} {H : Heap} {locs : List Loc} (h : EN ad A s s.heap) (hS : va_S A s.heap H locs) (hB : ∀ q, B q → A q) : EN ad B s H := (va_En.kept h hS.2.1).narrow hB
def nwL : List Cond := [.fieldLinkNest "ControlFile" 62 "ControlFile$Controls" "all" "[LControlFile$Control;" "ControlFile", .fieldLinkNest "ControlFile" 23 "ControlFile$Controls" "mode" "I" "ControlFile", .fieldLinkNest "ControlFile" 28 "ControlFile$Controls" "time" "J" "ControlFile", .fieldLinkNest "ControlFile" 32 "ControlFile$Controls" "alarm" "J" "ControlFile", .fieldLinkNest "ControlFile" 39 "ControlFile$Controls" "line" "Z" "ControlFile", .fieldLinkNest "ControlFile$Controls" 44 "ControlFile$Control" "number" "I" "ControlFile", .fieldLinkNest "ControlFile$Controls" 95 "ControlFile$Control" "keeps" "I" "ControlFile"]
/-- what the tables say, beside the good words: the classes' numbers and slots, the arrays' classes, the nest mates' links -/
def KX (D : va_G) (cI cR : ClassId) (U : State) : Prop := va_K D cls_ [(cI, .int), (cR, .object "ControlFile$Control")] U ∧ ∀ w ∈ nwL, va_Nw w U
theorem nwL_nest : ∀ w ∈ nwL, ∃ a i b n d h, w = Cond.fieldLinkNest a i b n d h := by
  intro w hw
  simp only [nwL, List.mem_cons, List.not_mem_nil, or_false] at hw
  rcases hw with e | e | e | e | e | e | e <;> exact ⟨_, _, _, _, _, _, e⟩
theorem KX.warm {D : va_G} {cI cR : ClassId} {s U : State} (hW : s.WarmedH U.vm) (h : KX D cI cR s) : KX D cI cR U := by
  refine ⟨va_K.moved hW.alike h.1, fun w hw => ?_⟩
  obtain ⟨a, i, b, n, d, q, e⟩ := nwL_nest w hw
  have h1 := h.2 w hw
  subst e
  exact va_Nw.warmF hW h1
theorem KX.same {D : va_G} {cI cR : ClassId} {s U : State} (hv : s.vm = U.vm) (h : KX D cI cR s) : KX D cI cR U := by
  refine ⟨va_K.moved (by rw [hv]; exact Vm.Alike.refl _) h.1, fun w hw => ?_⟩
  obtain ⟨a, i, b, n, d, q, e⟩ := nwL_nest w hw
  have h1 := h.2 w hw
  subst e
  exact va_Nw.same rfl hv h1
theorem KX.nw {D : va_G} {cI cR : ClassId} {s : State} {args : Array Value} (h : KX D cI cR s) (k : Nat) {w : Cond} (hk : nwL[k]? = some w) (hw : w.onTables = true) : w.before args s = true := va_Nw.use hw (h.2 w (List.mem_of_getElem? hk))
/-- the cells of a world -/
def wA (ws : va_W) : Nat → Prop := fun q => ∃ (k : Nat) (e : va_E), ws[k]? = some (q, e)
abbrev rmz (fr lo : Nat) : Room := { frames := fr, cells := 0, slots := 0, locals := lo }
def ro_P (D : va_G) (cI cR : ClassId) (ad : Nat → Nat) (ws : va_W) (av : List Value) : Array Value → State → Prop := fun v U => v = av.toArray ∧ va_P D cls_ ws U.heap ∧ KX D cI cR U ∧ EN ad (fun _ => False) U U.heap
def ro_Q (r : Value) : Array Value → State → Outcome → State → Prop := fun _ st o t => o = .returned (some r) ∧ t.heap = st.heap
def mu_P (D : va_G) (cI cR : ClassId) (ad : Nat → Nat) (ws : va_W) (av : List Value) : Array Value → State → Prop := fun v U => v = av.toArray ∧ va_P D cls_ ws U.heap ∧ KX D cI cR U ∧ va_D (wA ws) ws ∧ EN ad (wA ws) U U.heap
def mu_Q (D : va_G) (r : Option Value) (ws ws' : va_W) : Array Value → State → Outcome → State → Prop := fun _ st o t => o = .returned r ∧ va_P D cls_ ws' t.heap ∧ va_F (wA ws) st t
/-- CONTRACT of a method that only reads: on the cells ws, with the arguments av, it answers r -/
abbrev RO (l : Launch) (y : MethodName) (b : ByteArray) (n : Nat) (rt : Option FieldType) (fr lo : Nat) (D : va_G) (cI cR : ClassId) (ad : Nat → Nat) (ws : va_W) (av : List Value) (r : Value) : Prop :=
  Met l y (wd y b n rt) (rmz fr lo) (ro_P D cI cR ad ws av) (ro_Q r) 0 0 (fun _ => False)
/-- CONTRACT of a method that writes: the cells ws become ws', nothing else changes -/
abbrev MU (l : Launch) (y : MethodName) (b : ByteArray) (n : Nat) (rt : Option FieldType) (fr lo : Nat) (D : va_G) (cI cR : ClassId) (ad : Nat → Nat) (ws : va_W) (av : List Value) (r : Option Value) (ws' : va_W) : Prop :=
  Met l y (wd y b n rt) (rmz fr lo) (mu_P D cI cR ad ws av) (mu_Q D r ws ws') 0 0 (wA ws)
theorem ro_blind {D : va_G} {cI cR : ClassId} {ad : Nat → Nat} {ws : va_W} {av : List Value} : FrameBlind (ro_P D cI cR ad ws av) := fun a U g mk q => ⟨q.1, q.2.1, KX.same (s := U) (U := U.calling g mk a) rfl q.2.2.1, EN.moved (u := U) (U := U.calling g mk a) (Vm.Alike.refl U.vm) q.2.2.2⟩
theorem mu_blind {D : va_G} {cI cR : ClassId} {ad : Nat → Nat} {ws : va_W} {av : List Value} : FrameBlind (mu_P D cI cR ad ws av) := fun a U g mk q => ⟨q.1, q.2.1, KX.same (s := U) (U := U.calling g mk a) rfl q.2.2.1, q.2.2.2.1, EN.moved (u := U) (U := U.calling g mk a) (Vm.Alike.refl U.vm) q.2.2.2.2⟩
theorem ro_pre {D : va_G} {cI cR : ClassId} {ad : Nat → Nat} {ws : va_W} {av : List Value} {s : State} {H : Heap} (hP : va_P D cls_ ws H) (hX : KX D cI cR s) (hE : EN ad (fun _ => False) s H) : ∀ U : State, U.heap = H → s.WarmedH U.vm → ro_P D cI cR ad ws av av.toArray U :=
  fun U hU hW => ⟨rfl, by rw [hU]; exact hP, KX.warm hW hX, by rw [hU]; exact EN.moved hW.alike hE⟩
theorem mu_pre {D : va_G} {cI cR : ClassId} {ad : Nat → Nat} {ws : va_W} {av : List Value} {s : State} {H : Heap} (hP : va_P D cls_ ws H) (hX : KX D cI cR s) (hD : va_D (wA ws) ws) (hE : EN ad (wA ws) s H) : ∀ U : State, U.heap = H → s.WarmedH U.vm → mu_P D cI cR ad ws av av.toArray U :=
  fun U hU hW => ⟨rfl, by rw [hU]; exact hP, KX.warm hW hX, hD, by rw [hU]; exact EN.moved hW.alike hE⟩
theorem ro_ofW {l : Launch} {y : MethodName} {b : ByteArray} {n : Nat} {rt : Option FieldType} {fr lo : Nat} {D : va_G} {cI cR : ClassId} {ad : Nat → Nat} {ws : va_W} {av : List Value} {r : Value} (hy : plainName y.cls = true) (hn : (lg_sl av).length ≤ n)
    (body : ∀ (p : Program) (e : Env) (s : State) (m : MethodId) (below : List Frame) (meth : Method) (c : Code) (args : Array Value) (Q : State → Prop) (ls : Array Slot), p.tables.exec = Jvm.exec → c.code = b → meth.sig.returnType = rt → c.maxLocals = n → s.vm.findClass y.cls = some m.cls → (∀ w ∈ lw_g, w.before args s = true) → meth.locks = false → va_P D cls_ ws s.heap → KX D cI cR s → EN ad (fun _ => False) s s.heap → lv_has ls n (lv_args 0 av) → Q = MQ below (ro_Q r) args s 0 0 (fun _ => False) →
      W p l e (rmz fr lo) s m args below meth c s.heap [] 0 0 Q (F0 m 0 ls [])) : RO l y b n rt fr lo D cI cR ad ws av r := by
  refine Met.ofW (cc := b) (maxL := n) (ret := rt) hy rfl ?_
  intro p e s m args below meth c s₁ B hml hv
  obtain ⟨rfl, hP, hX, hE⟩ := hv
  have hts := atoms_spec (ws := wd y b n rt) B.pre
  have hl := lv_entry av (n := n) hn
  rw [lg_entry_eq]
  generalize (lg_sl av ++ List.replicate (n - (lg_sl av).length) Slot.unset).toArray = ls at hl ⊢
  exact body p e s m below meth c _ _ ls B.exec B.bytes B.returns hml (findClass_of_methodNamed B.named) (fun w hw => hts w (List.mem_cons_of_mem _ hw)) B.notSynchronized hP hX hE hl rfl
theorem mu_ofW {l : Launch} {y : MethodName} {b : ByteArray} {n : Nat} {rt : Option FieldType} {fr lo : Nat} {D : va_G} {cI cR : ClassId} {ad : Nat → Nat} {ws ws' : va_W} {av : List Value} {r : Option Value} (hy : plainName y.cls = true) (hn : (lg_sl av).length ≤ n)
    (body : ∀ (p : Program) (e : Env) (s : State) (m : MethodId) (below : List Frame) (meth : Method) (c : Code) (args : Array Value) (Q : State → Prop) (ls : Array Slot), p.tables.exec = Jvm.exec → c.code = b → meth.sig.returnType = rt → c.maxLocals = n → s.vm.findClass y.cls = some m.cls → (∀ w ∈ lw_g, w.before args s = true) → meth.locks = false → va_P D cls_ ws s.heap → KX D cI cR s → EN ad (wA ws) s s.heap → lv_has ls n (lv_args 0 av) → Q = MQ below (mu_Q D r ws ws') args s 0 0 (wA ws) → va_D (wA ws) ws → va_S (wA ws) s.heap s.heap [] →
      W p l e (rmz fr lo) s m args below meth c s.heap [] 0 0 Q (F0 m 0 ls [])) : MU l y b n rt fr lo D cI cR ad ws av r ws' := by
  refine Met.ofW (cc := b) (maxL := n) (ret := rt) hy rfl ?_
  intro p e s m args below meth c s₁ B hml hv
  obtain ⟨rfl, hP, hX, hD, hE⟩ := hv
  have hts := atoms_spec (ws := wd y b n rt) B.pre
  have hl := lv_entry av (n := n) hn
  rw [lg_entry_eq]
  generalize (lg_sl av ++ List.replicate (n - (lg_sl av).length) Slot.unset).toArray = ls at hl ⊢
  exact body p e s m below meth c _ _ ls B.exec B.bytes B.returns hml (findClass_of_methodNamed B.named) (fun w hw => hts w (List.mem_cons_of_mem _ hw)) B.notSynchronized hP hX hE hl rfl hD va_S.rf
-- putting a world's cells back into their places
def wput (ws : va_W) : List Nat → va_W → va_W
  | i :: is, q :: qs => wput (ws.set i q) is qs
  | _, _ => ws
theorem wput_P {D : va_G} {H : Heap} : ∀ (is : List Nat) (w1 ws : va_W), is.length = w1.length → (∀ (k : Nat) (q : Nat × va_E), ws[k]? = some q → k ∉ is → va_at D cls_ q H) → (∀ q ∈ w1, va_at D cls_ q H) → va_P D cls_ (wput ws is w1) H
  | [], [], ws, _, h, _ => fun k q hk => h k q hk (by simp)
  | [], _ :: _, _, hl, _, _ => by simp at hl
  | _ :: _, [], _, hl, _, _ => by simp at hl
  | i :: is, q0 :: qs, ws, hl, h, h1 => by
    show va_P D cls_ (wput (ws.set i q0) is qs) H
    refine wput_P is qs (ws.set i q0) (by simpa using hl) (fun k q hk hn => ?_) (fun q hq => h1 q (List.mem_cons_of_mem _ hq))
    by_cases hki : i = k
    · subst hki
      rw [List.getElem?_set] at hk
      simp only [if_true] at hk
      split at hk
      · cases hk; exact h1 q0 List.mem_cons_self
      · cases hk
    · rw [List.getElem?_set_ne hki] at hk
      exact h k q hk (by simp only [List.mem_cons, not_or]; exact ⟨fun e => hki e.symm, hn⟩)
theorem wput_fst : ∀ (is : List Nat) (w1 wc ws : va_W), is.map (fun i => ws[i]?) = wc.map some → w1.map (·.1) = wc.map (·.1) → va_nd is = true → (wput ws is w1).map (·.1) = ws.map (·.1)
  | [], _, _, _, _, _, _ => by simp [wput]
  | _ :: _, [], _, _, _, _, _ => by simp [wput]
  | i :: is, q0 :: qs, [], ws, hC, _, _ => by simp at hC
  | i :: is, q0 :: qs, c0 :: cs, ws, hC, hw, hn => by
    simp only [List.map_cons, List.cons.injEq] at hC hw
    simp only [va_nd, Bool.and_eq_true, decide_eq_true_eq] at hn
    show (wput (ws.set i q0) is qs).map (·.1) = _
    have e : (ws.set i q0).map (·.1) = ws.map (·.1) := by
      rw [List.map_set, hw.1]
      refine List.ext_getElem? (fun k => ?_)
      rw [List.getElem?_set]
      by_cases hik : i = k
      · subst hik
        obtain ⟨hlt, hv⟩ := List.getElem?_eq_some_iff.mp hC.1
        simp [hlt, hv]
      · simp [hik]
    rw [wput_fst is qs cs (ws.set i q0) ?_ hw.2 hn.2, e]
    rw [← hC.2]
    refine List.map_congr_left (fun j hj => ?_)
    rw [List.getElem?_set_ne (fun e => hn.1 (by rw [e]; exact hj))]
theorem va_D_fst {A : Nat → Prop} {ws ws' : va_W} (h : va_D A ws) (e : ws'.map (·.1) = ws.map (·.1)) : va_D A ws' := by
  have key : ∀ (k : Nat) (q : Nat × va_E), ws'[k]? = some q → ∃ q0, ws[k]? = some q0 ∧ q0.1 = q.1 := by
    intro k q hk
    have h1 : (ws'.map (·.1))[k]? = some q.1 := by rw [List.getElem?_map, hk]; rfl
    rw [e, List.getElem?_map] at h1
    cases hq : ws[k]? with
    | none => rw [hq] at h1; cases h1
    | some q0 => rw [hq] at h1; exact ⟨q0, rfl, Option.some.inj h1⟩
  refine ⟨fun i j x y hi hj hxy => ?_, fun k q hk => ?_⟩
  · obtain ⟨x0, a1, a2⟩ := key i x hi
    obtain ⟨y0, b1, b2⟩ := key j y hj
    exact h.1 i j x0 y0 a1 b1 (a2.trans (hxy.trans b2.symm))
  · obtain ⟨q0, a1, a2⟩ := key k q hk
    rw [← a2]
    exact h.2 k q0 a1
theorem wA_in {A : Nat → Prop} {ws wc : va_W} (hD : va_D A ws) (is : List Nat) (hC : is.map (fun i => ws[i]?) = wc.map some) : ∀ q, wA wc q → A q := by
  intro q ⟨k, e, h⟩
  have h1 : (is.map (fun i => ws[i]?))[k]? = some (some (q, e)) := by rw [hC, List.getElem?_map, h]; rfl
  rw [List.getElem?_map] at h1
  cases hi : is[k]? with
  | none => rw [hi] at h1; cases h1
  | some i => rw [hi] at h1; exact hD.2 i (q, e) (Option.some.inj h1)
theorem wA_D {A : Nat → Prop} {ws wc : va_W} (hD : va_D A ws) (is : List Nat) (hn : va_nd is = true) (hC : is.map (fun i => ws[i]?) = wc.map some) : va_D (wA wc) wc := by
  refine ⟨(hD.sub is hn hC).1, fun k q hk => ⟨k, q.2, hk⟩⟩
theorem wc_P {D : va_G} {ws wc : va_W} {H : Heap} (hP : va_P D cls_ ws H) (is : List Nat) (hC : is.map (fun i => ws[i]?) = wc.map some) : va_P D cls_ wc H := by
  intro k q hk
  have h1 : (is.map (fun i => ws[i]?))[k]? = some (some q) := by rw [hC, List.getElem?_map, hk]; rfl
  rw [List.getElem?_map] at h1
  cases hi : is[k]? with
  | none => rw [hi] at h1; cases h1
  | some i => rw [hi] at h1; exact hP i q (Option.some.inj h1)
theorem wput_join {D : va_G} {A : Nat → Prop} {ws wc w1 : va_W} {H H1 : Heap} (hP : va_P D cls_ ws H) (hD : va_D A ws) (is : List Nat) (hn : va_nd is = true) (hC : is.map (fun i => ws[i]?) = wc.map some) (hw : w1.map (·.1) = wc.map (·.1))
    (hk : ∀ q : Nat, q < H.size → ¬ wA wc q → H1[q]? = H[q]?) (hP1 : va_P D cls_ w1 H1) : va_P D cls_ (wput ws is w1) H1 ∧ va_D A (wput ws is w1) := by
  have hlen : is.length = w1.length := by
    have e1 := congrArg List.length hC
    have e2 := congrArg List.length hw
    simp only [List.length_map] at e1 e2
    omega
  refine ⟨wput_P is w1 ws hlen (fun k q hkq hn9 => ?_) (fun q hq => ?_), va_D_fst hD (wput_fst is w1 wc ws hC hw hn)⟩
  · refine (hP k q hkq).kept (hk q.1 (hP k q hkq).lt ?_)
    rintro ⟨j, e, h⟩
    have h1 : (is.map (fun i => ws[i]?))[j]? = some (some (q.1, e)) := by rw [hC, List.getElem?_map, h]; rfl
    rw [List.getElem?_map] at h1
    cases hi : is[j]? with
    | none => rw [hi] at h1; cases h1
    | some i =>
      rw [hi] at h1
      have hij := hD.1 k i q (q.1, e) hkq (Option.some.inj h1) rfl
      exact hn9 (by rw [hij]; exact List.mem_of_getElem? hi)
  · obtain ⟨j, hj⟩ := List.getElem?_of_mem hq
    exact hP1 j q hj
section CoreW
variable {p : Program} {l : Launch} {e : Env} {R : Room} {s : State} {m : MethodId} {args : Array Value} {below : List Frame} {meth : Method} {c : Code} {H : Heap} {locs : List Loc} {cells slots : Nat} {Q : State → Prop}
variable {cc : ByteArray} {pc : Nat} {ls : Array Slot} {rest st0 : List Value} {D : va_G} {cI cR : ClassId} {ad : Nat → Nat} {A : Nat → Prop}
theorem ro_iret {v F : Int32} (hx : p.tables.exec = Jvm.exec) (hb : c.code = cc) (hr : meth.sig.returnType = some .int) (hlk : meth.locks = false) (hQ : Q = MQ below (ro_Q (.int F)) args s 0 0 (fun _ => False)) (hF : v = F) (hdg : decode cc pc = .ok (.ireturn, 1)) : W p l e R s m args below meth c s.heap [] 0 0 Q (F0 m pc ls [.int v]) := by
  subst hF; subst hQ
  exact W.iret hx hb hr (fun t ht _ => ⟨rfl, ht⟩) (fun q h => by cases h) hdg hlk
theorem ro_zret {v F : Bool} (hx : p.tables.exec = Jvm.exec) (hb : c.code = cc) (hr : meth.sig.returnType = some .boolean) (hlk : meth.locks = false) (hQ : Q = MQ below (ro_Q (.int (bI F))) args s 0 0 (fun _ => False)) (hF : v = F) {w : Int32} (hw : w = bI v) (hdg : decode cc pc = .ok (.ireturn, 1)) : W p l e R s m args below meth c s.heap [] 0 0 Q (F0 m pc ls [.int w]) := by
  subst hF; subst hQ; subst hw
  exact W.zret hx hb hr (bI_nar v) (fun t ht _ => ⟨rfl, ht⟩) (fun q h => by cases h) hdg hlk
theorem ro_aret {v F : Value} {rt : FieldType} (hx : p.tables.exec = Jvm.exec) (hb : c.code = cc) (hr : meth.sig.returnType = some rt) (hrt : (∃ n, rt = .object n) ∨ ∃ t, rt = .array t) (hv : v = .null ∨ ∃ a, v = .ref a) (hlk : meth.locks = false) (hQ : Q = MQ below (ro_Q F) args s 0 0 (fun _ => False)) (hF : v = F) (hdg : decode cc pc = .ok (.areturn, 1)) : W p l e R s m args below meth c s.heap [] 0 0 Q (F0 m pc ls [v]) := by
  subst hF; subst hQ
  exact W.aret hx hb hr hrt hv (fun t ht _ => ⟨rfl, ht⟩) (fun q h => by cases h) hdg hlk
theorem mu_vret {ws ws' : va_W} (hx : p.tables.exec = Jvm.exec) (hb : c.code = cc) (hr : meth.sig.returnType = none) (hlk : meth.locks = false) (hQ : Q = MQ below (mu_Q D none ws ws') args s 0 0 (wA ws)) (hP : va_P D cls_ ws' H) (hS : va_S (wA ws) s.heap H locs) (hdg : decode cc pc = .ok (.return_, 1)) : W p l e R s m args below meth c H locs 0 0 Q (F0 m pc ls []) := by
  subst hQ
  exact W.vret hx hb hr (fun t ht _ => ⟨rfl, by rw [ht]; exact hP, hS.F ht⟩) hS.2.2 hdg hlk
theorem mu_iret {ws ws' : va_W} {v F : Int32} (hx : p.tables.exec = Jvm.exec) (hb : c.code = cc) (hr : meth.sig.returnType = some .int) (hlk : meth.locks = false) (hQ : Q = MQ below (mu_Q D (some (.int F)) ws ws') args s 0 0 (wA ws)) (hF : v = F) (hP : va_P D cls_ ws' H) (hS : va_S (wA ws) s.heap H locs) (hdg : decode cc pc = .ok (.ireturn, 1)) : W p l e R s m args below meth c H locs 0 0 Q (F0 m pc ls [.int v]) := by
  subst hQ; subst hF
  exact W.iret hx hb hr (fun t ht _ => ⟨rfl, by rw [ht]; exact hP, hS.F ht⟩) hS.2.2 hdg hlk
theorem mu_zret {ws ws' : va_W} {v : Bool} (hx : p.tables.exec = Jvm.exec) (hb : c.code = cc) (hr : meth.sig.returnType = some .boolean) (hlk : meth.locks = false) (hQ : Q = MQ below (mu_Q D (some (.int (bI v))) ws ws') args s 0 0 (wA ws)) (hP : va_P D cls_ ws' H) (hS : va_S (wA ws) s.heap H locs) (hdg : decode cc pc = .ok (.ireturn, 1)) : W p l e R s m args below meth c H locs 0 0 Q (F0 m pc ls [.int (bI v)]) := by
  subst hQ
  exact W.zret hx hb hr (bI_nar v) (fun t ht _ => ⟨rfl, by rw [ht]; exact hP, hS.F ht⟩) hS.2.2 hdg hlk
theorem mu_lret {ws ws' : va_W} {v F : Int64} (hx : p.tables.exec = Jvm.exec) (hb : c.code = cc) (hr : meth.sig.returnType = some .long) (hlk : meth.locks = false) (hQ : Q = MQ below (mu_Q D (some (.long F)) ws ws') args s 0 0 (wA ws)) (hF : v = F) (hP : va_P D cls_ ws' H) (hS : va_S (wA ws) s.heap H locs) (hdg : decode cc pc = .ok (.lreturn, 1)) : W p l e R s m args below meth c H locs 0 0 Q (F0 m pc ls [.long v]) := by
  subst hQ; subst hF
  exact W.lret hx hb hr (fun t ht _ => ⟨rfl, by rw [ht]; exact hP, hS.F ht⟩) hS.2.2 hdg hlk
-- CALLS
theorem ro_run {wc : va_W} {v : Value} {a : Array Value} (hr : va_Run p l e R s m args below meth c H locs cells slots 0 0 (F0 m pc ls st0) rest (ro_Q v a) (fun _ => False))
    (kk : W p l e R s m args below meth c H locs cells slots Q (F0 m (pc + 3) ls (v :: rest))) : W p l e R s m args below meth c H locs cells slots Q (F0 m pc ls st0) := by
  intro T hT X
  obtain ⟨v', st₀, t, T', L, h0, X', hL, e1, e2, ⟨hv, hh⟩, st⟩ := hr T hT X
  cases hv
  obtain ⟨t2, a1, b1⟩ := kk T' (by rw [e1, hh, h0]) (Stand.forget X' (fun q h => (hL q h).elim))
  exact ⟨t2, st t2 a1, b1⟩
theorem ro_V {nL : Nat} {own C : String} {index : Nat} {y : MethodName} {b : ByteArray} {n : Nat} {rt : Option FieldType} {fr lo : Nat} {wc : va_W} {q : Nat} {As : List Value} {v : Value}
    (hx : p.tables.exec = Jvm.exec) (hb : c.code = cc) (hml : c.maxLocals = nL) (hsz : ls.size = nL) (hown : s.vm.findClass own = some m.cls) (hts : ∀ w ∈ lw_g, w.before args s = true)
    (hM : RO l y b n rt fr lo D cI cR ad wc (.ref q :: As) v) (hg : gdV own index C y b n rt As.length) (hR : fr + 1 ≤ R.frames ∧ 8 + (n + 11) + lo ≤ R.locals)
    (hrv : ∃ cell : Cell, H[q]? = some cell ∧ cell.vm.isStatics = false ∧ s.vm.findClass C = some cell.cls) (hP : va_P D cls_ wc H) (hX : KX D cI cR s) (hE : EN ad (fun _ => False) s H)
    (hst : st0 = As.reverse ++ .ref q :: rest) (hW : (rest.map fun v => v.category).sum ≤ 8) (hf : cells ≤ R.cells ∧ slots ≤ R.slots) (hdg : decode cc pc = .ok (.invokevirtual index, 3))
    (kk : W p l e R s m args below meth c H locs cells slots Q (F0 m (pc + 3) ls (v :: rest))) : W p l e R s m args below meth c H locs cells slots Q (F0 m pc ls st0) := by
  subst hst
  exact ro_run (wc := wc) (va_runV (As := As) (rest := rest) ⟨hx, hb, hml, hown, hts⟩ hM (cwV As.length hts hg.1 rfl rfl rfl ⟨hg.2.1, hg.2.2⟩ hR) ⟨ro_blind, hrv, ro_pre hP hX hE⟩ rfl rfl hsz rfl (lv_room hW) hdg ⟨hf.1, hf.2⟩) kk
theorem ro_S {nL : Nat} {own : String} {index : Nat} {y : MethodName} {b : ByteArray} {n : Nat} {rt : Option FieldType} {fr lo : Nat} {wc : va_W} {As : List Value} {v : Value}
    (hx : p.tables.exec = Jvm.exec) (hb : c.code = cc) (hml : c.maxLocals = nL) (hsz : ls.size = nL) (hown : s.vm.findClass own = some m.cls) (hts : ∀ w ∈ lw_g, w.before args s = true)
    (hM : RO l y b n rt fr lo D cI cR ad wc As v) (hg : gdS own index y b n rt As.length) (hR : fr + 1 ≤ R.frames ∧ 8 + (n + 11) + lo ≤ R.locals)
    (hP : va_P D cls_ wc H) (hX : KX D cI cR s) (hE : EN ad (fun _ => False) s H)
    (hst : st0 = As.reverse ++ rest) (hW : (rest.map fun v => v.category).sum ≤ 8) (hf : cells ≤ R.cells ∧ slots ≤ R.slots) (hdg : decode cc pc = .ok (.invokestatic index, 3))
    (kk : W p l e R s m args below meth c H locs cells slots Q (F0 m (pc + 3) ls (v :: rest))) : W p l e R s m args below meth c H locs cells slots Q (F0 m pc ls st0) := by
  subst hst
  exact ro_run (wc := wc) (va_runS (As := As) (rest := rest) ⟨hx, hb, hml, hown, hts⟩ hM (va_cwS As.length hts hg.1 rfl rfl rfl hg.2 hR) ⟨ro_blind, ro_pre hP hX hE⟩ rfl rfl hsz rfl (lv_room hW) hdg ⟨hf.1, hf.2⟩) kk
theorem mu_run {wc w1 ws : va_W} {r : Option Value} {a : Array Value} (hr : va_Run p l e R s m args below meth c H locs cells slots 0 0 (F0 m pc ls st0) rest (mu_Q D r wc w1 a) (wA wc))
    (hP : va_P D cls_ ws H) (hD : va_D A ws) (hS : va_S A s.heap H locs) (is : List Nat) (hn : va_nd is = true) (hC : is.map (fun i => ws[i]?) = wc.map some) (hw : w1.map (·.1) = wc.map (·.1))
    (kk : ∀ (H1 : Heap) (locs1 : List Loc), va_P D cls_ (wput ws is w1) H1 → va_D A (wput ws is w1) → va_S A s.heap H1 locs1 → W p l e R s m args below meth c H1 locs1 cells slots Q (F0 m (pc + 3) ls (r.toList ++ rest))) : W p l e R s m args below meth c H locs cells slots Q (F0 m pc ls st0) := by
  intro T hT X
  obtain ⟨v', st₀, t, T', L, h0, X', hL, e1, e2, ⟨hv, hP1, hF⟩, st⟩ := hr T hT X
  cases hv
  obtain ⟨hz, hk⟩ := hF
  rw [h0] at hz hk
  obtain ⟨hP2, hD2⟩ := wput_join hP hD is hn hC hw (H1 := T'.heap) (fun q h1 h2 => by rw [e1]; exact hk q h1 h2) (by rw [e1]; exact hP1)
  have hin := wA_in hD is hC
  obtain ⟨t2, a1, b1⟩ := kk T'.heap (locs ++ L) hP2 hD2 ⟨Nat.le_trans hS.1 (by rw [e1]; exact hz), fun q h1 h2 => by
      rw [e1, hk q (Nat.lt_of_lt_of_le h1 hS.1) (fun z => h2 (hin q z))]; exact hS.2.1 q h1 h2, fun q hq => by
      rcases List.mem_append.mp hq with h | h
      · exact hS.2.2 q h
      · exact hin _ (hL q h)⟩ T' rfl X'
  exact ⟨t2, st t2 a1, b1⟩
theorem mu_V {nL : Nat} {own C : String} {index : Nat} {y : MethodName} {b : ByteArray} {n : Nat} {rt : Option FieldType} {fr lo : Nat} {ws wc w1 : va_W} {q : Nat} {As : List Value} {r : Option Value}
    (hx : p.tables.exec = Jvm.exec) (hb : c.code = cc) (hml : c.maxLocals = nL) (hsz : ls.size = nL) (hown : s.vm.findClass own = some m.cls) (hts : ∀ w ∈ lw_g, w.before args s = true)
    (hM : MU l y b n rt fr lo D cI cR ad wc (.ref q :: As) r w1) (hg : gdV own index C y b n rt As.length) (hR : fr + 1 ≤ R.frames ∧ 8 + (n + 11) + lo ≤ R.locals)
    (hrv : ∃ cell : Cell, H[q]? = some cell ∧ cell.vm.isStatics = false ∧ s.vm.findClass C = some cell.cls) (hP : va_P D cls_ ws H) (hD : va_D A ws) (hS : va_S A s.heap H locs) (hX : KX D cI cR s) (hE : EN ad A s s.heap)
    (is : List Nat) (hn : va_nd is = true) (hC : is.map (fun i => ws[i]?) = wc.map some) (hw : w1.map (·.1) = wc.map (·.1))
    (hst : st0 = As.reverse ++ .ref q :: rest) (hW : (rest.map fun v => v.category).sum ≤ 8) (hf : cells ≤ R.cells ∧ slots ≤ R.slots) (hdg : decode cc pc = .ok (.invokevirtual index, 3))
    (kk : ∀ (H1 : Heap) (locs1 : List Loc), va_P D cls_ (wput ws is w1) H1 → va_D A (wput ws is w1) → va_S A s.heap H1 locs1 → W p l e R s m args below meth c H1 locs1 cells slots Q (F0 m (pc + 3) ls (r.toList ++ rest))) : W p l e R s m args below meth c H locs cells slots Q (F0 m pc ls st0) := by
  subst hst
  exact mu_run (va_runV (As := As) (rest := rest) ⟨hx, hb, hml, hown, hts⟩ hM (cwV As.length hts hg.1 rfl rfl rfl ⟨hg.2.1, hg.2.2⟩ hR) ⟨mu_blind, hrv, mu_pre (wc_P hP is hC) hX (wA_D hD is hn hC) (EN.mu hE hS (wA_in hD is hC))⟩ rfl rfl hsz rfl (lv_room hW) hdg ⟨hf.1, hf.2⟩) hP hD hS is hn hC hw kk
end CoreW
end
section
-- ROWS for this claim's worlds: int arrays by place, the array of constants, fields of constants, their ordinal()
abbrev gA (ad : Nat → Nat) : Nat → Option Nat := fun i => some (ad i)
abbrev wC (cI cR : ClassId) (ad : Nat → Nat) (h ha hv : Nat) (f : Nat → Int32) (md : Int32) (tm al : Int64) (ln : Bool) : va_W := [(h, .inr (0, [.ref ha, .ref hv, .int md, .long tm, .long al, .int (bI ln)])), (ha, .inl (cR, 29, .inr (.inr (.inr (.inr (gA ad)))))), (hv, .inl (cI, 29, .inl f))]
abbrev wF (cI cR : ClassId) (ad : Nat → Nat) (h0 h ha hv : Nat) (f : Nat → Int32) (md : Int32) (tm al : Int64) (ln : Bool) (od : Int32) : va_W := [(h0, .inr (1, [.ref h, .int od])), (h, .inr (0, [.ref ha, .ref hv, .int md, .long tm, .long al, .int (bI ln)])), (ha, .inl (cR, 29, .inr (.inr (.inr (.inr (gA ad)))))), (hv, .inl (cI, 29, .inl f))]
abbrev wM (cI : ClassId) (h hk : Nat) (f : Nat → Int32) (md : Int32) (tm al : Int64) (ln : Bool) (od : Int32) : va_W := [(h, .inr (2, [.ref hk, .int md, .long tm, .long al, .int (bI ln), .int od])), (hk, .inl (cI, 29, .inl f))]
section RowsW
variable {p : Program} {l : Launch} {e : Env} {R : Room} {s : State} {m : MethodId} {args : Array Value} {below : List Frame} {meth : Method} {c : Code} {H : Heap} {locs : List Loc} {cells slots : Nat} {Q : State → Prop}
variable {cc : ByteArray} {pc : Nat} {ls : Array Slot} {rest st0 : List Value} {D : va_G} {cI cR : ClassId} {ad : Nat → Nat} {A : Nat → Prop} {ws : va_W} {H0 : Heap}
theorem rd_i (hx : p.tables.exec = Jvm.exec) (hb : c.code = cc) (hX : KX D cI cR s) (hP : va_P D cls_ ws H) (q0 : Nat) {a n : Nat} {f : Nat → Int32} (ha : ws[q0]? = some (a, .inl (cI, n, .inl f))) {i : Int32} (j : Nat) (hj : i.toNatClampNeg = j) (hin : vp_in i n) (hdg : decode cc pc = .ok (.iaload, 1))
    (kk : W p l e R s m args below meth c H locs cells slots Q (F0 m (pc + 1) ls (.int (f j) :: rest))) : W p l e R s m args below meth c H locs cells slots Q (F0 m pc ls (.int i :: .ref a :: rest)) := by
  subst hj
  exact va_iald hx hb hX.1 hP q0 0 ha rfl hin hdg kk
theorem wr_i (hx : p.tables.exec = Jvm.exec) (hb : c.code = cc) (hX : KX D cI cR s) (hP : va_P D cls_ ws H) (hD : va_D A ws) (hS : va_S A H0 H locs) (q0 : Nat) {a n : Nat} {f : Nat → Int32} (ha : ws[q0]? = some (a, .inl (cI, n, .inl f))) {i x : Int32} (j : Nat) (hj : i.toNatClampNeg = j) (hin : vp_in i n) (hdg : decode cc pc = .ok (.iastore, 1))
    (kk : ∀ (H1 : Heap) (locs1 : List Loc), va_P D cls_ (ws.set q0 (a, .inl (cI, n, .inl (upd f j x)))) H1 → va_D A (ws.set q0 (a, .inl (cI, n, .inl (upd f j x)))) → va_S A H0 H1 locs1 → W p l e R s m args below meth c H1 locs1 cells slots Q (F0 m (pc + 1) ls rest)) : W p l e R s m args below meth c H locs cells slots Q (F0 m pc ls (.int x :: .int i :: .ref a :: rest)) := by
  subst hj
  exact va_iast hx hb hX.1 hP hD hS q0 0 ha rfl hin hdg kk
theorem rd_a (hx : p.tables.exec = Jvm.exec) (hb : c.code = cc) (hX : KX D cI cR s) (hP : va_P D cls_ ws H) (q0 : Nat) {a n : Nat} (ha : ws[q0]? = some (a, .inl (cR, n, .inr (.inr (.inr (.inr (gA ad))))))) {i : Int32} (j : Nat) (hj : i.toNatClampNeg = j) (hin : vp_in i n) (hdg : decode cc pc = .ok (.aaload, 1))
    (kk : W p l e R s m args below meth c H locs cells slots Q (F0 m (pc + 1) ls (.ref (ad j) :: rest))) : W p l e R s m args below meth c H locs cells slots Q (F0 m pc ls (.int i :: .ref a :: rest)) := by
  subst hj
  exact va_aldq hx hb hX.1 hP q0 1 ha rfl hin hdg kk
theorem en_get (hx : p.tables.exec = Jvm.exec) (hb : c.code = cc) (hE : EN ad A s s.heap) {i : Nat} (hi : i < 29) (hS : va_S A s.heap H locs) {own : String} {index : Nat} (hown : s.vm.findClass own = some m.cls) {q : String × String × String × List Int32} (k : Nat) (hq : en_F[k]? = some q) (hlink : (Cond.fieldLink own index q.1 q.2.1 q.2.2.1).before args s = true) (hdg : decode cc pc = .ok (.getfield index, 3))
    (kk : W p l e R s m args below meth c H locs cells slots Q (F0 m (pc + 3) ls (.int (q.2.2.2.getD i 0) :: rest))) : W p l e R s m args below meth c H locs cells slots Q (F0 m pc ls (.ref (ad i) :: rest)) :=
  va_getE hx hb hE (show i < en_nm.length from hi) hS hown (List.mem_of_getElem? hq) hlink (fun _ h => h) hdg kk
theorem en_getN (hx : p.tables.exec = Jvm.exec) (hb : c.code = cc) (hE : EN ad A s s.heap) {i : Nat} (hi : i < 29) (hS : va_S A s.heap H locs) {own host : String} {index : Nat} (hown : s.vm.findClass own = some m.cls) {q : String × String × String × List Int32} (k : Nat) (hq : en_F[k]? = some q) (hlink : (Cond.fieldLinkNest own index q.1 q.2.1 q.2.2.1 host).before args s = true) (hdg : decode cc pc = .ok (.getfield index, 3))
    (kk : W p l e R s m args below meth c H locs cells slots Q (F0 m (pc + 3) ls (.int (q.2.2.2.getD i 0) :: rest))) : W p l e R s m args below meth c H locs cells slots Q (F0 m pc ls (.ref (ad i) :: rest)) := by
  obtain ⟨cf, k, fi, f, cell, h1, h2, h3, h4, h5, h6⟩ := ((hE.1 i (show i < en_nm.length from hi)).2.2 q (List.mem_of_getElem? hq)).kept hS.2.1
  exact va_Wgetf hx hb hown hlink h1 h2 h3 h4 (v := .int (q.2.2.2.getD i 0)) h5 rfl rfl hdg kk
theorem en_gets (hx : p.tables.exec = Jvm.exec) (hb : c.code = cc) (hE : EN ad A s s.heap) (hS : va_S A s.heap H locs) {own : String} {index : Nat} (hown : s.vm.findClass own = some m.cls) (i : Nat) (hi : i < 29) (hlink : (Cond.fieldLink own index cn_E (en_nm.getD i "") "LControlFile$Control;").before args s = true) (hdg : decode cc pc = .ok (.getstatic index, 3))
    (kk : W p l e R s m args below meth c H locs cells slots Q (F0 m (pc + 3) ls (.ref (ad i) :: rest))) : W p l e R s m args below meth c H locs cells slots Q (F0 m pc ls rest) :=
  va_gets hx hb (hE.1 i (show i < en_nm.length from hi)).1 hS hown hlink (fun _ h => h) hdg kk
theorem en_recv (hE : EN ad A s H) {i : Nat} (hi : i < 29) : ∃ cell : Cell, H[ad i]? = some cell ∧ cell.vm.isStatics = false ∧ s.vm.findClass cn_E = some cell.cls := by
  obtain ⟨cell, h1, h2, h3, -⟩ := (hE.1 i (show i < en_nm.length from hi)).2.1
  exact ⟨cell, h1, h2, h3⟩
theorem en_inj (hE : EN ad A s H) {i j : Nat} (hi : i < 29) (hj : j < 29) (h : ad i = ad j) : i = j := hE.2 i j hi hj h
end RowsW
-- cells depend on the places below their length alone
theorem wcell_i {cI : ClassId} {n : Nat} {f g : Nat → Int32} (h : ∀ j, j < n → f j = g j) : vp_cell cI (n, .inl f) = vp_cell cI (n, .inl g) := by
  rw [vp_cell_i, vp_cell_i]
  unfold arrV
  congr 1
  refine Array.ext (by simp) (fun j h1 h2 => ?_)
  simp at h1 ⊢
  exact h j h1
theorem w_upto {D : va_G} {ws : va_W} {H : Heap} {q0 a n : Nat} {cI : ClassId} {f g : Nat → Int32} (hP : va_P D cls_ ws H) (ha : ws[q0]? = some (a, .inl (cI, n, .inl f))) (h : ∀ j, j < n → f j = g j) : va_P D cls_ (ws.set q0 (a, .inl (cI, n, .inl g))) H := by
  intro k q hk
  by_cases hkq : q0 = k
  · subst hkq
    rw [List.getElem?_set] at hk
    simp only [if_true] at hk
    split at hk
    · cases hk
      have h1 : H[a]? = some (vp_cell cI (n, .inl f)) := hP q0 _ ha
      show H[a]? = some (vp_cell cI (n, .inl g))
      rw [h1, wcell_i h]
    · cases hk
  · rw [List.getElem?_set_ne hkq] at hk
    exact hP k q hk
-- WHAT IS COMPUTED, as functions
def firF (x a b c : Int32) : Int32 := if (x >>> (a &&& 31)) &&& 1 = 1 then a else if (x >>> (b &&& 31)) &&& 1 = 1 then b else if (x >>> (c &&& 31)) &&& 1 = 1 then c else -1
def hasF (x b : Int32) : Bool := decide ((x >>> (b &&& 31)) &&& 1 = 1)
def kindF (x : Int32) : Int32 := if x = 0 then 0 else if x = 4 then 1 else if x = 5 then 2 else if x = 64 then (x - 64) + 3 else if x = 65 then (x - 64) + 3 else if x = 66 then (x - 64) + 3 else if x = 67 then (x - 64) + 3 else if x = 68 then (x - 64) + 3 else if x = 128 then 8 else -1
def hypF (x : Int32) : Int32 := if x = 1536 then 18 else if x = 1538 then 19 else if x = 1539 then 20 else if x = 1540 then 21 else if x = 1603 then 22 else if x = 1604 then 23 else if x = 1605 then 24 else if x = 1610 then 25 else if x = 1664 then 26 else if x = 3073 then 27 else if x = 3201 then 28 else -1
def placeF (x : Int32) : Int32 := if x >>> ((8 : Int32) &&& 31) = 1 then (if kindF (x &&& 255) = -1 then -1 else kindF (x &&& 255)) else if x >>> ((8 : Int32) &&& 31) = 2 then (if kindF (x &&& 255) = -1 then -1 else 9 + kindF (x &&& 255)) else hypF x
def maskL : List Int32 := [786722, 546, -3, -1, -4, -1, -1, 2, -2143289345, 786722, -1, -3, -1, -4, -1, -1, -1, -2143289345, 7340992, 45567, 1092, 1092, -1, -1, 1092, -1, -2143289348, -1, -1]
def maskF (x : Int32) : Int32 := maskL.getD x.toNatClampNeg (-1)
def tellsF (f : Nat → Int32) (tm al : Int64) (ln : Bool) (x : Int32) : Int32 := if x = 7 then (f 7 ||| (if lg_cmp tm al < 0 then 0 else 32)) ||| (if bI ln = 0 then 0 else 512) else if x = 10 then (f 21 &&& f 20) >>> ((1 : Int32) &&& 31) else if x = 16 then (f 24 &&& f 20) >>> ((1 : Int32) &&& 31) else if x = 23 then f 24 else if x = 27 then tm.toInt32 else if x = 28 then (tm >>> ((32 : Int32).toInt64 &&& 63)).toInt32 else f x.toNatClampNeg
def putF (f : Nat → Int32) (k : Nat) (bits v : Int32) : Nat → Int32 := upd f k ((f k &&& (bits ^^^ (-1))) ||| (v &&& bits))
def writeF (f : Nat → Int32) (x v : Int32) : Nat → Int32 := if x = 10 then putF f 21 (f 20 &&& 1092) (v <<< ((1 : Int32) &&& 31)) else if x = 16 then putF f 24 (f 20 &&& 4) (v <<< ((1 : Int32) &&& 31)) else if x = 23 then putF f 24 4 v else putF f x.toNatClampNeg (-1) (v &&& maskF x)
def refF (f : Nat → Int32) (md x : Int32) (w : Bool) : Int32 := if x = -1 ∨ ((x = 27 ∨ x = 28) ∧ w = true) then 2 else if md = 1 ∨ (x = 27 ∨ x = 28) then 0 else if md = 0 then 2 else if md = 3 ∧ x ≤ 8 ∧ (¬ x = 8 ∨ hasF (f 18) 20 = false) then 0 else 22
def usedF (f : Nat → Int32) (tm al : Int64) (ln : Bool) : Nat → Int32
  | 0 => 0
  | k + 1 => usedF f tm al ln k + (if tellsF f tm al ln (nI k) = 0 then 0 else 1)
def dueF (f : Nat → Int32) (md : Int32) (tm al : Int64) (ln : Bool) : Int32 :=
  if (¬ md = 1 ∨ hasF (f 0) 1 = true) ∧ (¬ firF (tellsF f tm al ln 7 &&& f 1) 9 1 5 = -1 ∨ ¬ firF ((f 24 &&& f 21) &&& (f 20 ^^^ (-1))) 10 2 6 = -1) then (if firF (tellsF f tm al ln 7 &&& f 1) 9 1 5 = -1 then firF ((f 24 &&& f 21) &&& (f 20 ^^^ (-1))) 10 2 6 else firF (tellsF f tm al ln 7 &&& f 1) 9 1 5)
  else if (md = 2 ∨ (md = 3 ∧ hasF (f 9) 1 = true)) ∧ ¬ firF ((f 24 &&& f 21) &&& f 20) 10 2 6 = -1 then (100 + firF ((f 24 &&& f 21) &&& f 20) 10 2 6) - 1 else -1
def ctlF (f : Nat → Int32) (tm al : Int64) (ln : Bool) (n : Int32) : Int32 := if placeF n = -1 then 0 else tellsF f tm al ln (placeF n)
def valF (k od v : Int32) : Int32 := if k = 1 then v else if k = 2 then od ||| v else od &&& (v ^^^ (-1))
def atF (md x : Int32) : Int32 := if md = 3 ∧ x ≤ 8 then x + 9 else x
/-- an access is refused: its answer, else 0 -/
def accR (f : Nat → Int32) (md n k : Int32) : Int32 := if k < 0 ∨ 3 < k then -1 else refF f md (placeF n) (decide (¬ k = 0))
def accO (f : Nat → Int32) (md : Int32) (tm al : Int64) (ln : Bool) (od n k : Int32) : Int32 := if accR f md n k = 0 then tellsF f tm al ln (atF md (placeF n)) else od
def accS (f : Nat → Int32) (md : Int32) (tm al : Int64) (ln : Bool) (n k v : Int32) : Nat → Int32 := if accR f md n k = 0 ∧ ¬ k = 0 then writeF f (atF md (placeF n)) (valF k (tellsF f tm al ln (atF md (placeF n))) v) else f
def modeR (md x : Int32) : Int32 := if x < 0 ∨ 3 < x then -1 else md
def modeS (md x : Int32) : Int32 := if x < 0 ∨ 3 < x then md else x
def timeR (tm t : Int64) : Int64 := if 0 ≤ lg_cmp t 0 then tm else -1
def timeS (tm t : Int64) : Int64 := if 0 ≤ lg_cmp t 0 then t else tm
def alarmS (t : Int64) : Int64 := if 0 ≤ lg_cmp t 0 then t else 9223372036854775807
end
section
-- CONTRACTS: Enum.ordinal, the enum's own questions, the static methods
theorem ord_at : ∀ i, i < 29 → en_ord.getD i 0 = nI i := by decide +kernel
set_option maxHeartbeats 4000000 in
set_option maxRecDepth 100000 in
/-- Enum.ordinal() of the i-th constant is i -/
theorem c_N_ordinal (l : Launch) (D : va_G) (cI cR : ClassId) (ad : Nat → Nat)  (i : Nat) (hi : i < 29) : RO l y_N_ordinal b_N_ordinal 1 (some .int) 0 0 D cI cR ad [] [.ref (ad i)] (.int (nI i)) := by
  refine ro_ofW (by decide) (Nat.le_of_ble_eq_true rfl) ?_
  intro p e s m below meth c args Q ls hx hb hr hml hown hts hlk hP hX hE hl hQ
  have hown : s.vm.findClass cn_N = some m.cls := hown
  have hP : va_P D cls_ [] s.heap := hP
  have hl : lv_has ls 1 [(0, .ref (ad i))] := hl
  refine lv_aload_n (pc := 0) hx hb d_N_ordinal_0 rfl (lv_at hl 0 rfl) ?_
  refine en_get (pc := 1) hx hb hE hi va_S.rf hown 0 rfl (hts _ kf_N_7) d_N_ordinal_1 ?_
  exact ro_iret (pc := 4) hx hb hr hlk hQ (ord_at i hi) d_N_ordinal_4
theorem gd_ord : GoodIn lw_g (va_wsU cn_C 70 cn_E cn_N ⟨cn_E, "ordinal", "()I"⟩ y_N_ordinal (wd y_N_ordinal b_N_ordinal 1 (some .int))) := by
  intro w hw
  rcases List.mem_append.mp hw with hw | hw
  · simp only [List.mem_cons, List.not_mem_nil, or_false] at hw
    rcases hw with e | e | e | e | e <;> rw [e]
    · exact lw_gd km_C_70
    · exact lw_gd kw_E_ordinal
    · exact lw_gd ks_N_ordinal
    · exact lw_gd ko_N_ordinal
    · exact lw_gd ki_N
  · exact gd_wd kc_N_ordinal w hw
section OrdW
variable {p : Program} {l : Launch} {e : Env} {R : Room} {s : State} {m : MethodId} {args : Array Value} {below : List Frame} {meth : Method} {c : Code} {H : Heap} {locs : List Loc} {cells slots : Nat} {Q : State → Prop}
variable {cc : ByteArray} {pc : Nat} {ls : Array Slot} {rest : List Value} {D : va_G} {cI cR : ClassId} {ad : Nat → Nat}
theorem ro_ord {nL i : Nat} (hx : p.tables.exec = Jvm.exec) (hb : c.code = cc) (hml : c.maxLocals = nL) (hsz : ls.size = nL) (hown : s.vm.findClass cn_C = some m.cls) (hts : ∀ w ∈ lw_g, w.before args s = true) (hE : EN ad (fun _ => False) s H) (hX : KX D cI cR s) (hi : i < 29)
    (hR : 1 ≤ R.frames ∧ 20 ≤ R.locals) (hW : (rest.map fun v => v.category).sum ≤ 8) (hf : cells ≤ R.cells ∧ slots ≤ R.slots) (hdg : decode cc pc = .ok (.invokevirtual 70, 3))
    (kk : W p l e R s m args below meth c H locs cells slots Q (F0 m (pc + 3) ls (.int (nI i) :: rest))) : W p l e R s m args below meth c H locs cells slots Q (F0 m pc ls (.ref (ad i) :: rest)) :=
  ro_run (wc := []) (va_runU (x := ⟨cn_E, "ordinal", "()I"⟩) (owner := cn_N) (C := cn_E) (own := cn_C) (As := []) (rest := rest) ⟨hx, hb, hml, hown, hts⟩ (c_N_ordinal l D cI cR ad i hi) (va_cwU 0 hts gd_ord rfl rfl rfl rfl (by decide +kernel) hR) ⟨ro_blind, en_recv hE hi, ro_pre (fun k q h => by simp at h) hX hE⟩ rfl rfl hsz rfl (lv_room hW) hdg ⟨hf.1, hf.2⟩) kk
theorem top_eq {x y : Int32} (h : x = y) (k : W p l e R s m args below meth c H locs cells slots Q (F0 m pc ls (.int y :: rest))) : W p l e R s m args below meth c H locs cells slots Q (F0 m pc ls (.int x :: rest)) := h ▸ k
theorem top_eqv {x y : Value} (h : x = y) (k : W p l e R s m args below meth c H locs cells slots Q (F0 m pc ls (y :: rest))) : W p l e R s m args below meth c H locs cells slots Q (F0 m pc ls (x :: rest)) := h ▸ k
end OrdW
def tmB (i : Nat) : Bool := decide (27 ≤ i)
def osB (i : Nat) : Bool := decide (i ≤ 8)
theorem tmB_at : ∀ i, i < 29 → ((en_num.getD i 0 &&& 3072 = 3072) ↔ tmB i = true) := by decide +kernel
theorem osB_at : ∀ i, i < 29 → ((en_num.getD i 0 &&& 3840 = 256) ↔ osB i = true) := by decide +kernel
set_option maxHeartbeats 4000000 in
set_option maxRecDepth 100000 in
theorem c_E_isTime (l : Launch) (D : va_G) (cI cR : ClassId) (ad : Nat → Nat)  (i : Nat) (hi : i < 29) : RO l y_E_isTime b_E_isTime 1 (some .boolean) 0 0 D cI cR ad [] [.ref (ad i)] (.int (bI (tmB i))) := by
  refine ro_ofW (by decide) (Nat.le_of_ble_eq_true rfl) ?_
  intro p e s m below meth c args Q ls hx hb hr hml hown hts hlk hP hX hE hl hQ
  have hown : s.vm.findClass cn_E = some m.cls := hown
  have hP : va_P D cls_ [] s.heap := hP
  have hl : lv_has ls 1 [(0, .ref (ad i))] := hl
  refine lv_aload_n (pc := 0) hx hb d_E_isTime_0 rfl (lv_at hl 0 rfl) ?_
  refine en_get (pc := 1) hx hb hE hi va_S.rf hown 1 rfl (hts _ kf_E_110) d_E_isTime_1 ?_
  refine lv_sipush (pc := 4) (v := 3072) hx hb d_E_isTime_4 (by decide) ?_
  refine lv_iand (pc := 7) hx hb d_E_isTime_7 ?_
  refine lv_sipush (pc := 8) (v := 3072) hx hb d_E_isTime_8 (by decide) ?_
  refine lv_icmp_ne (pc := 11) (tgt := 18) hx hb d_E_isTime_11 (by decide) (fun c_1 => ?_) (fun c_1 => ?_)
  · refine lv_iconst (pc := 18) (v := 0) hx hb d_E_isTime_18 (by decide) ?_
    exact ro_zret (pc := 19) (v := false) hx hb hr hlk hQ (by cases h9 : tmB i with | false => rfl | true => exact absurd ((tmB_at i hi).mpr h9) c_1) rfl d_E_isTime_19
  · refine lv_iconst (pc := 14) (v := 1) hx hb d_E_isTime_14 (by decide) ?_
    refine lv_goto (pc := 15) (tgt := 19) hx hb d_E_isTime_15 (by decide) ?_
    exact ro_zret (pc := 19) (v := true) hx hb hr hlk hQ ((tmB_at i hi).mp c_1).symm rfl d_E_isTime_19
set_option maxHeartbeats 4000000 in
set_option maxRecDepth 100000 in
theorem c_E_isOfS (l : Launch) (D : va_G) (cI cR : ClassId) (ad : Nat → Nat)  (i : Nat) (hi : i < 29) : RO l y_E_isOfS b_E_isOfS 1 (some .boolean) 0 0 D cI cR ad [] [.ref (ad i)] (.int (bI (osB i))) := by
  refine ro_ofW (by decide) (Nat.le_of_ble_eq_true rfl) ?_
  intro p e s m below meth c args Q ls hx hb hr hml hown hts hlk hP hX hE hl hQ
  have hown : s.vm.findClass cn_E = some m.cls := hown
  have hP : va_P D cls_ [] s.heap := hP
  have hl : lv_has ls 1 [(0, .ref (ad i))] := hl
  refine lv_aload_n (pc := 0) hx hb d_E_isOfS_0 rfl (lv_at hl 0 rfl) ?_
  refine en_get (pc := 1) hx hb hE hi va_S.rf hown 1 rfl (hts _ kf_E_110) d_E_isOfS_1 ?_
  refine lv_sipush (pc := 4) (v := 3840) hx hb d_E_isOfS_4 (by decide) ?_
  refine lv_iand (pc := 7) hx hb d_E_isOfS_7 ?_
  refine lv_sipush (pc := 8) (v := 256) hx hb d_E_isOfS_8 (by decide) ?_
  refine lv_icmp_ne (pc := 11) (tgt := 18) hx hb d_E_isOfS_11 (by decide) (fun c_1 => ?_) (fun c_1 => ?_)
  · refine lv_iconst (pc := 18) (v := 0) hx hb d_E_isOfS_18 (by decide) ?_
    exact ro_zret (pc := 19) (v := false) hx hb hr hlk hQ (by cases h9 : osB i with | false => rfl | true => exact absurd ((osB_at i hi).mpr h9) c_1) rfl d_E_isOfS_19
  · refine lv_iconst (pc := 14) (v := 1) hx hb d_E_isOfS_14 (by decide) ?_
    refine lv_goto (pc := 15) (tgt := 19) hx hb d_E_isOfS_15 (by decide) ?_
    exact ro_zret (pc := 19) (v := true) hx hb hr hlk hQ ((osB_at i hi).mp c_1).symm rfl d_E_isOfS_19
set_option maxHeartbeats 4000000 in
set_option maxRecDepth 100000 in
theorem c_M_kindOf (l : Launch) (D : va_G) (cI cR : ClassId) (ad : Nat → Nat)  (x : Int32) : RO l y_M_kindOf b_M_kindOf 1 (some .int) 0 0 D cI cR ad [] [.int x] (.int (kindF x)) := by
  refine ro_ofW (by decide) (Nat.le_of_ble_eq_true rfl) ?_
  intro p e s m below meth c args Q ls hx hb hr hml hown hts hlk hP hX hE hl hQ
  have hown : s.vm.findClass cn_M = some m.cls := hown
  have hP : va_P D cls_ [] s.heap := hP
  have hl : lv_has ls 1 [(0, .int x)] := hl
  refine lv_iload_n (pc := 0) hx hb d_M_kindOf_0 rfl (lv_at hl 0 rfl) ?_
  by_cases c_1 : x = 0
  · refine lv_lookup (pc := 1) (off := 83) (tgt := 84) hx hb d_M_kindOf_1 (by decide) (by rw [c_1]; rfl) (by decide) ?_
    refine lv_iconst (pc := 84) (v := 0) hx hb d_M_kindOf_84 (by decide) ?_
    exact ro_iret (pc := 85) hx hb hr hlk hQ (by first | (simp only [kindF, if_pos c_1]; done) | (simp [kindF, c_1]; done)) d_M_kindOf_85
  by_cases c_2 : x = 4
  · refine lv_lookup (pc := 1) (off := 85) (tgt := 86) hx hb d_M_kindOf_1 (by decide) (by rw [c_2]; rfl) (by decide) ?_
    refine lv_iconst (pc := 86) (v := 1) hx hb d_M_kindOf_86 (by decide) ?_
    exact ro_iret (pc := 87) hx hb hr hlk hQ (by first | (simp only [kindF, if_neg c_1, if_pos c_2]; done) | (simp [kindF, c_1, c_2]; done)) d_M_kindOf_87
  by_cases c_3 : x = 5
  · refine lv_lookup (pc := 1) (off := 87) (tgt := 88) hx hb d_M_kindOf_1 (by decide) (by rw [c_3]; rfl) (by decide) ?_
    refine lv_iconst (pc := 88) (v := 2) hx hb d_M_kindOf_88 (by decide) ?_
    exact ro_iret (pc := 89) hx hb hr hlk hQ (by first | (simp only [kindF, if_neg c_1, if_neg c_2, if_pos c_3]; done) | (simp [kindF, c_1, c_2, c_3]; done)) d_M_kindOf_89
  by_cases c_4 : x = 64
  · refine lv_lookup (pc := 1) (off := 89) (tgt := 90) hx hb d_M_kindOf_1 (by decide) (by rw [c_4]; rfl) (by decide) ?_
    refine lv_iload_n (pc := 90) hx hb d_M_kindOf_90 rfl (lv_at hl 0 rfl) ?_
    refine lv_bipush (pc := 91) (v := 64) hx hb d_M_kindOf_91 (by decide) ?_
    refine lv_isub (pc := 93) hx hb d_M_kindOf_93 ?_
    refine lv_iconst (pc := 94) (v := 3) hx hb d_M_kindOf_94 (by decide) ?_
    refine lv_iadd (pc := 95) hx hb d_M_kindOf_95 ?_
    exact ro_iret (pc := 96) hx hb hr hlk hQ (by first | (simp only [kindF, if_neg c_1, if_neg c_2, if_neg c_3, if_pos c_4]; done) | (simp [kindF, c_1, c_2, c_3, c_4]; done)) d_M_kindOf_96
  by_cases c_5 : x = 65
  · refine lv_lookup (pc := 1) (off := 89) (tgt := 90) hx hb d_M_kindOf_1 (by decide) (by rw [c_5]; rfl) (by decide) ?_
    refine lv_iload_n (pc := 90) hx hb d_M_kindOf_90 rfl (lv_at hl 0 rfl) ?_
    refine lv_bipush (pc := 91) (v := 64) hx hb d_M_kindOf_91 (by decide) ?_
    refine lv_isub (pc := 93) hx hb d_M_kindOf_93 ?_
    refine lv_iconst (pc := 94) (v := 3) hx hb d_M_kindOf_94 (by decide) ?_
    refine lv_iadd (pc := 95) hx hb d_M_kindOf_95 ?_
    exact ro_iret (pc := 96) hx hb hr hlk hQ (by first | (simp only [kindF, if_neg c_1, if_neg c_2, if_neg c_3, if_neg c_4, if_pos c_5]; done) | (simp [kindF, c_1, c_2, c_3, c_4, c_5]; done)) d_M_kindOf_96
  by_cases c_6 : x = 66
  · refine lv_lookup (pc := 1) (off := 89) (tgt := 90) hx hb d_M_kindOf_1 (by decide) (by rw [c_6]; rfl) (by decide) ?_
    refine lv_iload_n (pc := 90) hx hb d_M_kindOf_90 rfl (lv_at hl 0 rfl) ?_
    refine lv_bipush (pc := 91) (v := 64) hx hb d_M_kindOf_91 (by decide) ?_
    refine lv_isub (pc := 93) hx hb d_M_kindOf_93 ?_
    refine lv_iconst (pc := 94) (v := 3) hx hb d_M_kindOf_94 (by decide) ?_
    refine lv_iadd (pc := 95) hx hb d_M_kindOf_95 ?_
    exact ro_iret (pc := 96) hx hb hr hlk hQ (by first | (simp only [kindF, if_neg c_1, if_neg c_2, if_neg c_3, if_neg c_4, if_neg c_5, if_pos c_6]; done) | (simp [kindF, c_1, c_2, c_3, c_4, c_5, c_6]; done)) d_M_kindOf_96
  by_cases c_7 : x = 67
  · refine lv_lookup (pc := 1) (off := 89) (tgt := 90) hx hb d_M_kindOf_1 (by decide) (by rw [c_7]; rfl) (by decide) ?_
    refine lv_iload_n (pc := 90) hx hb d_M_kindOf_90 rfl (lv_at hl 0 rfl) ?_
    refine lv_bipush (pc := 91) (v := 64) hx hb d_M_kindOf_91 (by decide) ?_
    refine lv_isub (pc := 93) hx hb d_M_kindOf_93 ?_
    refine lv_iconst (pc := 94) (v := 3) hx hb d_M_kindOf_94 (by decide) ?_
    refine lv_iadd (pc := 95) hx hb d_M_kindOf_95 ?_
    exact ro_iret (pc := 96) hx hb hr hlk hQ (by first | (simp only [kindF, if_neg c_1, if_neg c_2, if_neg c_3, if_neg c_4, if_neg c_5, if_neg c_6, if_pos c_7]; done) | (simp [kindF, c_1, c_2, c_3, c_4, c_5, c_6, c_7]; done)) d_M_kindOf_96
  by_cases c_8 : x = 68
  · refine lv_lookup (pc := 1) (off := 89) (tgt := 90) hx hb d_M_kindOf_1 (by decide) (by rw [c_8]; rfl) (by decide) ?_
    refine lv_iload_n (pc := 90) hx hb d_M_kindOf_90 rfl (lv_at hl 0 rfl) ?_
    refine lv_bipush (pc := 91) (v := 64) hx hb d_M_kindOf_91 (by decide) ?_
    refine lv_isub (pc := 93) hx hb d_M_kindOf_93 ?_
    refine lv_iconst (pc := 94) (v := 3) hx hb d_M_kindOf_94 (by decide) ?_
    refine lv_iadd (pc := 95) hx hb d_M_kindOf_95 ?_
    exact ro_iret (pc := 96) hx hb hr hlk hQ (by first | (simp only [kindF, if_neg c_1, if_neg c_2, if_neg c_3, if_neg c_4, if_neg c_5, if_neg c_6, if_neg c_7, if_pos c_8]; done) | (simp [kindF, c_1, c_2, c_3, c_4, c_5, c_6, c_7, c_8]; done)) d_M_kindOf_96
  by_cases c_9 : x = 128
  · refine lv_lookup (pc := 1) (off := 96) (tgt := 97) hx hb d_M_kindOf_1 (by decide) (by rw [c_9]; rfl) (by decide) ?_
    refine lv_bipush (pc := 97) (v := 8) hx hb d_M_kindOf_97 (by decide) ?_
    exact ro_iret (pc := 99) hx hb hr hlk hQ (by first | (simp only [kindF, if_neg c_1, if_neg c_2, if_neg c_3, if_neg c_4, if_neg c_5, if_neg c_6, if_neg c_7, if_neg c_8, if_pos c_9]; done) | (simp [kindF, c_1, c_2, c_3, c_4, c_5, c_6, c_7, c_8, c_9]; done)) d_M_kindOf_99
  refine lv_lookup (pc := 1) (off := 99) (tgt := 100) hx hb d_M_kindOf_1 (by decide) (show Op.lookupswitch.offset [(0, 83), (4, 85), (5, 87), (64, 89), (65, 89), (66, 89), (67, 89), (68, 89), (128, 96)] 99 (Int32.toInt x) = 99 by rw [lv_osw c_1 (by decide), lv_osw c_2 (by decide), lv_osw c_3 (by decide), lv_osw c_4 (by decide), lv_osw c_5 (by decide), lv_osw c_6 (by decide), lv_osw c_7 (by decide), lv_osw c_8 (by decide), lv_osw c_9 (by decide)]; rfl) (by decide) ?_
  refine lv_iconst (pc := 100) (v := (-1)) hx hb d_M_kindOf_100 (by decide) ?_
  exact ro_iret (pc := 101) hx hb hr hlk hQ (by first | (simp only [kindF, if_neg c_1, if_neg c_2, if_neg c_3, if_neg c_4, if_neg c_5, if_neg c_6, if_neg c_7, if_neg c_8, if_neg c_9]; done) | (simp [kindF, c_1, c_2, c_3, c_4, c_5, c_6, c_7, c_8, c_9]; done)) d_M_kindOf_101
set_option maxHeartbeats 4000000 in
set_option maxRecDepth 100000 in
theorem c_M_hyperOf (l : Launch) (D : va_G) (cI cR : ClassId) (ad : Nat → Nat)  (x : Int32) : RO l y_M_hyperOf b_M_hyperOf 1 (some .int) 0 0 D cI cR ad [] [.int x] (.int (hypF x)) := by
  refine ro_ofW (by decide) (Nat.le_of_ble_eq_true rfl) ?_
  intro p e s m below meth c args Q ls hx hb hr hml hown hts hlk hP hX hE hl hQ
  have hown : s.vm.findClass cn_M = some m.cls := hown
  have hP : va_P D cls_ [] s.heap := hP
  have hl : lv_has ls 1 [(0, .int x)] := hl
  refine lv_iload_n (pc := 0) hx hb d_M_hyperOf_0 rfl (lv_at hl 0 rfl) ?_
  by_cases c_1 : x = 1536
  · refine lv_lookup (pc := 1) (off := 99) (tgt := 100) hx hb d_M_hyperOf_1 (by decide) (by rw [c_1]; rfl) (by decide) ?_
    refine lv_bipush (pc := 100) (v := 18) hx hb d_M_hyperOf_100 (by decide) ?_
    exact ro_iret (pc := 102) hx hb hr hlk hQ (by first | (simp only [hypF, if_pos c_1]; done) | (simp [hypF, c_1]; done)) d_M_hyperOf_102
  by_cases c_2 : x = 1538
  · refine lv_lookup (pc := 1) (off := 102) (tgt := 103) hx hb d_M_hyperOf_1 (by decide) (by rw [c_2]; rfl) (by decide) ?_
    refine lv_bipush (pc := 103) (v := 19) hx hb d_M_hyperOf_103 (by decide) ?_
    exact ro_iret (pc := 105) hx hb hr hlk hQ (by first | (simp only [hypF, if_neg c_1, if_pos c_2]; done) | (simp [hypF, c_1, c_2]; done)) d_M_hyperOf_105
  by_cases c_3 : x = 1539
  · refine lv_lookup (pc := 1) (off := 105) (tgt := 106) hx hb d_M_hyperOf_1 (by decide) (by rw [c_3]; rfl) (by decide) ?_
    refine lv_bipush (pc := 106) (v := 20) hx hb d_M_hyperOf_106 (by decide) ?_
    exact ro_iret (pc := 108) hx hb hr hlk hQ (by first | (simp only [hypF, if_neg c_1, if_neg c_2, if_pos c_3]; done) | (simp [hypF, c_1, c_2, c_3]; done)) d_M_hyperOf_108
  by_cases c_4 : x = 1540
  · refine lv_lookup (pc := 1) (off := 108) (tgt := 109) hx hb d_M_hyperOf_1 (by decide) (by rw [c_4]; rfl) (by decide) ?_
    refine lv_bipush (pc := 109) (v := 21) hx hb d_M_hyperOf_109 (by decide) ?_
    exact ro_iret (pc := 111) hx hb hr hlk hQ (by first | (simp only [hypF, if_neg c_1, if_neg c_2, if_neg c_3, if_pos c_4]; done) | (simp [hypF, c_1, c_2, c_3, c_4]; done)) d_M_hyperOf_111
  by_cases c_5 : x = 1603
  · refine lv_lookup (pc := 1) (off := 111) (tgt := 112) hx hb d_M_hyperOf_1 (by decide) (by rw [c_5]; rfl) (by decide) ?_
    refine lv_bipush (pc := 112) (v := 22) hx hb d_M_hyperOf_112 (by decide) ?_
    exact ro_iret (pc := 114) hx hb hr hlk hQ (by first | (simp only [hypF, if_neg c_1, if_neg c_2, if_neg c_3, if_neg c_4, if_pos c_5]; done) | (simp [hypF, c_1, c_2, c_3, c_4, c_5]; done)) d_M_hyperOf_114
  by_cases c_6 : x = 1604
  · refine lv_lookup (pc := 1) (off := 114) (tgt := 115) hx hb d_M_hyperOf_1 (by decide) (by rw [c_6]; rfl) (by decide) ?_
    refine lv_bipush (pc := 115) (v := 23) hx hb d_M_hyperOf_115 (by decide) ?_
    exact ro_iret (pc := 117) hx hb hr hlk hQ (by first | (simp only [hypF, if_neg c_1, if_neg c_2, if_neg c_3, if_neg c_4, if_neg c_5, if_pos c_6]; done) | (simp [hypF, c_1, c_2, c_3, c_4, c_5, c_6]; done)) d_M_hyperOf_117
  by_cases c_7 : x = 1605
  · refine lv_lookup (pc := 1) (off := 117) (tgt := 118) hx hb d_M_hyperOf_1 (by decide) (by rw [c_7]; rfl) (by decide) ?_
    refine lv_bipush (pc := 118) (v := 24) hx hb d_M_hyperOf_118 (by decide) ?_
    exact ro_iret (pc := 120) hx hb hr hlk hQ (by first | (simp only [hypF, if_neg c_1, if_neg c_2, if_neg c_3, if_neg c_4, if_neg c_5, if_neg c_6, if_pos c_7]; done) | (simp [hypF, c_1, c_2, c_3, c_4, c_5, c_6, c_7]; done)) d_M_hyperOf_120
  by_cases c_8 : x = 1610
  · refine lv_lookup (pc := 1) (off := 120) (tgt := 121) hx hb d_M_hyperOf_1 (by decide) (by rw [c_8]; rfl) (by decide) ?_
    refine lv_bipush (pc := 121) (v := 25) hx hb d_M_hyperOf_121 (by decide) ?_
    exact ro_iret (pc := 123) hx hb hr hlk hQ (by first | (simp only [hypF, if_neg c_1, if_neg c_2, if_neg c_3, if_neg c_4, if_neg c_5, if_neg c_6, if_neg c_7, if_pos c_8]; done) | (simp [hypF, c_1, c_2, c_3, c_4, c_5, c_6, c_7, c_8]; done)) d_M_hyperOf_123
  by_cases c_9 : x = 1664
  · refine lv_lookup (pc := 1) (off := 123) (tgt := 124) hx hb d_M_hyperOf_1 (by decide) (by rw [c_9]; rfl) (by decide) ?_
    refine lv_bipush (pc := 124) (v := 26) hx hb d_M_hyperOf_124 (by decide) ?_
    exact ro_iret (pc := 126) hx hb hr hlk hQ (by first | (simp only [hypF, if_neg c_1, if_neg c_2, if_neg c_3, if_neg c_4, if_neg c_5, if_neg c_6, if_neg c_7, if_neg c_8, if_pos c_9]; done) | (simp [hypF, c_1, c_2, c_3, c_4, c_5, c_6, c_7, c_8, c_9]; done)) d_M_hyperOf_126
  by_cases c_10 : x = 3073
  · refine lv_lookup (pc := 1) (off := 126) (tgt := 127) hx hb d_M_hyperOf_1 (by decide) (by rw [c_10]; rfl) (by decide) ?_
    refine lv_bipush (pc := 127) (v := 27) hx hb d_M_hyperOf_127 (by decide) ?_
    exact ro_iret (pc := 129) hx hb hr hlk hQ (by first | (simp only [hypF, if_neg c_1, if_neg c_2, if_neg c_3, if_neg c_4, if_neg c_5, if_neg c_6, if_neg c_7, if_neg c_8, if_neg c_9, if_pos c_10]; done) | (simp [hypF, c_1, c_2, c_3, c_4, c_5, c_6, c_7, c_8, c_9, c_10]; done)) d_M_hyperOf_129
  by_cases c_11 : x = 3201
  · refine lv_lookup (pc := 1) (off := 129) (tgt := 130) hx hb d_M_hyperOf_1 (by decide) (by rw [c_11]; rfl) (by decide) ?_
    refine lv_bipush (pc := 130) (v := 28) hx hb d_M_hyperOf_130 (by decide) ?_
    exact ro_iret (pc := 132) hx hb hr hlk hQ (by first | (simp only [hypF, if_neg c_1, if_neg c_2, if_neg c_3, if_neg c_4, if_neg c_5, if_neg c_6, if_neg c_7, if_neg c_8, if_neg c_9, if_neg c_10, if_pos c_11]; done) | (simp [hypF, c_1, c_2, c_3, c_4, c_5, c_6, c_7, c_8, c_9, c_10, c_11]; done)) d_M_hyperOf_132
  refine lv_lookup (pc := 1) (off := 132) (tgt := 133) hx hb d_M_hyperOf_1 (by decide) (show Op.lookupswitch.offset [(1536, 99), (1538, 102), (1539, 105), (1540, 108), (1603, 111), (1604, 114), (1605, 117), (1610, 120), (1664, 123), (3073, 126), (3201, 129)] 132 (Int32.toInt x) = 132 by rw [lv_osw c_1 (by decide), lv_osw c_2 (by decide), lv_osw c_3 (by decide), lv_osw c_4 (by decide), lv_osw c_5 (by decide), lv_osw c_6 (by decide), lv_osw c_7 (by decide), lv_osw c_8 (by decide), lv_osw c_9 (by decide), lv_osw c_10 (by decide), lv_osw c_11 (by decide)]; rfl) (by decide) ?_
  refine lv_iconst (pc := 133) (v := (-1)) hx hb d_M_hyperOf_133 (by decide) ?_
  exact ro_iret (pc := 134) hx hb hr hlk hQ (by first | (simp only [hypF, if_neg c_1, if_neg c_2, if_neg c_3, if_neg c_4, if_neg c_5, if_neg c_6, if_neg c_7, if_neg c_8, if_neg c_9, if_neg c_10, if_neg c_11]; done) | (simp [hypF, c_1, c_2, c_3, c_4, c_5, c_6, c_7, c_8, c_9, c_10, c_11]; done)) d_M_hyperOf_134
set_option maxHeartbeats 4000000 in
set_option maxRecDepth 100000 in
theorem c_M_placeOf (l : Launch) (D : va_G) (cI cR : ClassId) (ad : Nat → Nat)  (x : Int32) : RO l y_M_placeOf b_M_placeOf 3 (some .int) 1 20 D cI cR ad [] [.int x] (.int (placeF x)) := by
  refine ro_ofW (by decide) (Nat.le_of_ble_eq_true rfl) ?_
  intro p e s m below meth c args Q ls hx hb hr hml hown hts hlk hP hX hE hl hQ
  have hown : s.vm.findClass cn_M = some m.cls := hown
  have hP : va_P D cls_ [] s.heap := hP
  have hl : lv_has ls 3 [(0, .int x)] := hl
  refine lv_iload_n (pc := 0) hx hb d_M_placeOf_0 rfl (lv_at hl 0 rfl) ?_
  refine lv_bipush (pc := 1) (v := 8) hx hb d_M_placeOf_1 (by decide) ?_
  refine lv_ishr (pc := 3) hx hb d_M_placeOf_3 ?_
  refine lv_istore_n (pc := 4) (lv' := [(1, .int (x >>> ((8 : Int32) &&& 31))), (0, .int x)]) hx hb d_M_placeOf_4 rfl hl (by decide) rfl (fun ls hl => ?_)
  refine lv_iload_n (pc := 5) hx hb d_M_placeOf_5 rfl (lv_at hl 0 rfl) ?_
  refine lv_iconst (pc := 6) (v := 1) hx hb d_M_placeOf_6 (by decide) ?_
  refine lv_icmp_eq (pc := 7) (tgt := 20) hx hb d_M_placeOf_7 (by decide) (fun c_1 => ?_) (fun c_1 => ?_)
  · refine lv_iload_n (pc := 20) hx hb d_M_placeOf_20 rfl (lv_at hl 1 rfl) ?_
    refine lv_sipush (pc := 21) (v := 255) hx hb d_M_placeOf_21 (by decide) ?_
    refine lv_iand (pc := 24) hx hb d_M_placeOf_24 ?_
    refine ro_S (pc := 25) (As := [.int (x &&& 255)]) (rest := []) (wc := []) hx hb hml hl.1 hown hts (c_M_kindOf l D cI cR ad (x &&& 255)) g_M_42 ⟨Nat.le_of_ble_eq_true rfl, Nat.le_of_ble_eq_true rfl⟩ (wc_P hP [] rfl) hX hE rfl (Nat.le_of_ble_eq_true rfl) ⟨Nat.zero_le _, Nat.zero_le _⟩ d_M_placeOf_25 ?_
    refine lv_istore_n (pc := 28) (lv' := [(2, .int (kindF (x &&& 255))), (1, .int (x >>> ((8 : Int32) &&& 31))), (0, .int x)]) hx hb d_M_placeOf_28 rfl hl (by decide) rfl (fun ls hl => ?_)
    refine lv_iload_n (pc := 29) hx hb d_M_placeOf_29 rfl (lv_at hl 0 rfl) ?_
    refine lv_iconst (pc := 30) (v := (-1)) hx hb d_M_placeOf_30 (by decide) ?_
    refine lv_icmp_ne (pc := 31) (tgt := 38) hx hb d_M_placeOf_31 (by decide) (fun c_2 => ?_) (fun c_2 => ?_)
    · refine lv_iload_n (pc := 38) hx hb d_M_placeOf_38 rfl (lv_at hl 1 rfl) ?_
      refine lv_iconst (pc := 39) (v := 1) hx hb d_M_placeOf_39 (by decide) ?_
      refine lv_icmp_ne (pc := 40) (tgt := 47) hx hb d_M_placeOf_40 (by decide) (fun c_3 => absurd c_1 c_3) (fun c_3 => ?_)
      refine lv_iload_n (pc := 43) hx hb d_M_placeOf_43 rfl (lv_at hl 0 rfl) ?_
      refine lv_goto (pc := 44) (tgt := 51) hx hb d_M_placeOf_44 (by decide) ?_
      exact ro_iret (pc := 51) hx hb hr hlk hQ (by first | (simp only [placeF, if_pos c_1, if_neg c_2, if_pos c_3]; done) | (simp [placeF, c_1, c_2, c_3]; done)) d_M_placeOf_51
    · refine lv_iconst (pc := 34) (v := (-1)) hx hb d_M_placeOf_34 (by decide) ?_
      refine lv_goto (pc := 35) (tgt := 51) hx hb d_M_placeOf_35 (by decide) ?_
      exact ro_iret (pc := 51) hx hb hr hlk hQ (by first | (simp only [placeF, if_pos c_1, if_pos c_2]; done) | (simp [placeF, c_1, c_2]; done)) d_M_placeOf_51
  · refine lv_iload_n (pc := 10) hx hb d_M_placeOf_10 rfl (lv_at hl 0 rfl) ?_
    refine lv_iconst (pc := 11) (v := 2) hx hb d_M_placeOf_11 (by decide) ?_
    refine lv_icmp_eq (pc := 12) (tgt := 20) hx hb d_M_placeOf_12 (by decide) (fun c_4 => ?_) (fun c_4 => ?_)
    · refine lv_iload_n (pc := 20) hx hb d_M_placeOf_20 rfl (lv_at hl 1 rfl) ?_
      refine lv_sipush (pc := 21) (v := 255) hx hb d_M_placeOf_21 (by decide) ?_
      refine lv_iand (pc := 24) hx hb d_M_placeOf_24 ?_
      refine ro_S (pc := 25) (As := [.int (x &&& 255)]) (rest := []) (wc := []) hx hb hml hl.1 hown hts (c_M_kindOf l D cI cR ad (x &&& 255)) g_M_42 ⟨Nat.le_of_ble_eq_true rfl, Nat.le_of_ble_eq_true rfl⟩ (wc_P hP [] rfl) hX hE rfl (Nat.le_of_ble_eq_true rfl) ⟨Nat.zero_le _, Nat.zero_le _⟩ d_M_placeOf_25 ?_
      refine lv_istore_n (pc := 28) (lv' := [(2, .int (kindF (x &&& 255))), (1, .int (x >>> ((8 : Int32) &&& 31))), (0, .int x)]) hx hb d_M_placeOf_28 rfl hl (by decide) rfl (fun ls hl => ?_)
      refine lv_iload_n (pc := 29) hx hb d_M_placeOf_29 rfl (lv_at hl 0 rfl) ?_
      refine lv_iconst (pc := 30) (v := (-1)) hx hb d_M_placeOf_30 (by decide) ?_
      refine lv_icmp_ne (pc := 31) (tgt := 38) hx hb d_M_placeOf_31 (by decide) (fun c_5 => ?_) (fun c_5 => ?_)
      · refine lv_iload_n (pc := 38) hx hb d_M_placeOf_38 rfl (lv_at hl 1 rfl) ?_
        refine lv_iconst (pc := 39) (v := 1) hx hb d_M_placeOf_39 (by decide) ?_
        refine lv_icmp_ne (pc := 40) (tgt := 47) hx hb d_M_placeOf_40 (by decide) (fun c_6 => ?_) (fun c_6 => absurd c_6 c_1)
        refine lv_bipush (pc := 47) (v := 9) hx hb d_M_placeOf_47 (by decide) ?_
        refine lv_iload_n (pc := 49) hx hb d_M_placeOf_49 rfl (lv_at hl 0 rfl) ?_
        refine lv_iadd (pc := 50) hx hb d_M_placeOf_50 ?_
        exact ro_iret (pc := 51) hx hb hr hlk hQ (by first | (simp only [placeF, if_neg c_1, if_pos c_4, if_neg c_5, if_neg c_6]; done) | (simp [placeF, c_1, c_4, c_5, c_6]; done)) d_M_placeOf_51
      · refine lv_iconst (pc := 34) (v := (-1)) hx hb d_M_placeOf_34 (by decide) ?_
        refine lv_goto (pc := 35) (tgt := 51) hx hb d_M_placeOf_35 (by decide) ?_
        exact ro_iret (pc := 51) hx hb hr hlk hQ (by first | (simp only [placeF, if_neg c_1, if_pos c_4, if_pos c_5]; done) | (simp [placeF, c_1, c_4, c_5]; done)) d_M_placeOf_51
    · refine lv_iload_n (pc := 15) hx hb d_M_placeOf_15 rfl (lv_at hl 1 rfl) ?_
      refine ro_S (pc := 16) (As := [.int x]) (rest := []) (wc := []) hx hb hml hl.1 hown hts (c_M_hyperOf l D cI cR ad x) g_M_38 ⟨Nat.le_of_ble_eq_true rfl, Nat.le_of_ble_eq_true rfl⟩ (wc_P hP [] rfl) hX hE rfl (Nat.le_of_ble_eq_true rfl) ⟨Nat.zero_le _, Nat.zero_le _⟩ d_M_placeOf_16 ?_
      exact ro_iret (pc := 19) hx hb hr hlk hQ (by first | (simp only [placeF, if_neg c_1, if_neg c_4]; done) | (simp [placeF, c_1, c_4]; done)) d_M_placeOf_19
set_option maxHeartbeats 4000000 in
set_option maxRecDepth 100000 in
theorem c_M_firstOf (l : Launch) (D : va_G) (cI cR : ClassId) (ad : Nat → Nat)  (x a b d : Int32) : RO l y_M_firstOf b_M_firstOf 4 (some .int) 0 0 D cI cR ad [] [.int x, .int a, .int b, .int d] (.int (firF x a b d)) := by
  refine ro_ofW (by decide) (Nat.le_of_ble_eq_true rfl) ?_
  intro p e s m below meth c args Q ls hx hb hr hml hown hts hlk hP hX hE hl hQ
  have hown : s.vm.findClass cn_M = some m.cls := hown
  have hP : va_P D cls_ [] s.heap := hP
  have hl : lv_has ls 4 [(0, .int x), (1, .int a), (2, .int b), (3, .int d)] := hl
  refine lv_iload_n (pc := 0) hx hb d_M_firstOf_0 rfl (lv_at hl 0 rfl) ?_
  refine lv_iload_n (pc := 1) hx hb d_M_firstOf_1 rfl (lv_at hl 1 rfl) ?_
  refine lv_ishr (pc := 2) hx hb d_M_firstOf_2 ?_
  refine lv_iconst (pc := 3) (v := 1) hx hb d_M_firstOf_3 (by decide) ?_
  refine lv_iand (pc := 4) hx hb d_M_firstOf_4 ?_
  refine lv_iconst (pc := 5) (v := 1) hx hb d_M_firstOf_5 (by decide) ?_
  refine lv_icmp_ne (pc := 6) (tgt := 13) hx hb d_M_firstOf_6 (by decide) (fun c_1 => ?_) (fun c_1 => ?_)
  · refine lv_iload_n (pc := 13) hx hb d_M_firstOf_13 rfl (lv_at hl 0 rfl) ?_
    refine lv_iload_n (pc := 14) hx hb d_M_firstOf_14 rfl (lv_at hl 2 rfl) ?_
    refine lv_ishr (pc := 15) hx hb d_M_firstOf_15 ?_
    refine lv_iconst (pc := 16) (v := 1) hx hb d_M_firstOf_16 (by decide) ?_
    refine lv_iand (pc := 17) hx hb d_M_firstOf_17 ?_
    refine lv_iconst (pc := 18) (v := 1) hx hb d_M_firstOf_18 (by decide) ?_
    refine lv_icmp_ne (pc := 19) (tgt := 26) hx hb d_M_firstOf_19 (by decide) (fun c_2 => ?_) (fun c_2 => ?_)
    · refine lv_iload_n (pc := 26) hx hb d_M_firstOf_26 rfl (lv_at hl 0 rfl) ?_
      refine lv_iload_n (pc := 27) hx hb d_M_firstOf_27 rfl (lv_at hl 3 rfl) ?_
      refine lv_ishr (pc := 28) hx hb d_M_firstOf_28 ?_
      refine lv_iconst (pc := 29) (v := 1) hx hb d_M_firstOf_29 (by decide) ?_
      refine lv_iand (pc := 30) hx hb d_M_firstOf_30 ?_
      refine lv_iconst (pc := 31) (v := 1) hx hb d_M_firstOf_31 (by decide) ?_
      refine lv_icmp_ne (pc := 32) (tgt := 39) hx hb d_M_firstOf_32 (by decide) (fun c_3 => ?_) (fun c_3 => ?_)
      · refine lv_iconst (pc := 39) (v := (-1)) hx hb d_M_firstOf_39 (by decide) ?_
        exact ro_iret (pc := 40) hx hb hr hlk hQ (by first | (simp only [firF, if_neg c_1, if_neg c_2, if_neg c_3]; done) | (simp [firF, c_1, c_2, c_3]; done)) d_M_firstOf_40
      · refine lv_iload_n (pc := 35) hx hb d_M_firstOf_35 rfl (lv_at hl 3 rfl) ?_
        refine lv_goto (pc := 36) (tgt := 40) hx hb d_M_firstOf_36 (by decide) ?_
        exact ro_iret (pc := 40) hx hb hr hlk hQ (by first | (simp only [firF, if_neg c_1, if_neg c_2, if_pos c_3]; done) | (simp [firF, c_1, c_2, c_3]; done)) d_M_firstOf_40
    · refine lv_iload_n (pc := 22) hx hb d_M_firstOf_22 rfl (lv_at hl 2 rfl) ?_
      refine lv_goto (pc := 23) (tgt := 40) hx hb d_M_firstOf_23 (by decide) ?_
      exact ro_iret (pc := 40) hx hb hr hlk hQ (by first | (simp only [firF, if_neg c_1, if_pos c_2]; done) | (simp [firF, c_1, c_2]; done)) d_M_firstOf_40
  · refine lv_iload_n (pc := 9) hx hb d_M_firstOf_9 rfl (lv_at hl 1 rfl) ?_
    refine lv_goto (pc := 10) (tgt := 40) hx hb d_M_firstOf_10 (by decide) ?_
    exact ro_iret (pc := 40) hx hb hr hlk hQ (by first | (simp only [firF, if_pos c_1]; done) | (simp [firF, c_1]; done)) d_M_firstOf_40
set_option maxHeartbeats 4000000 in
set_option maxRecDepth 100000 in
theorem c_C_first (l : Launch) (D : va_G) (cI cR : ClassId) (ad : Nat → Nat)  (x a b d : Int32) : RO l y_C_first b_C_first 4 (some .int) 0 0 D cI cR ad [] [.int x, .int a, .int b, .int d] (.int (firF x a b d)) := by
  refine ro_ofW (by decide) (Nat.le_of_ble_eq_true rfl) ?_
  intro p e s m below meth c args Q ls hx hb hr hml hown hts hlk hP hX hE hl hQ
  have hown : s.vm.findClass cn_C = some m.cls := hown
  have hP : va_P D cls_ [] s.heap := hP
  have hl : lv_has ls 4 [(0, .int x), (1, .int a), (2, .int b), (3, .int d)] := hl
  refine lv_iload_n (pc := 0) hx hb d_C_first_0 rfl (lv_at hl 0 rfl) ?_
  refine lv_iload_n (pc := 1) hx hb d_C_first_1 rfl (lv_at hl 1 rfl) ?_
  refine lv_ishr (pc := 2) hx hb d_C_first_2 ?_
  refine lv_iconst (pc := 3) (v := 1) hx hb d_C_first_3 (by decide) ?_
  refine lv_iand (pc := 4) hx hb d_C_first_4 ?_
  refine lv_iconst (pc := 5) (v := 1) hx hb d_C_first_5 (by decide) ?_
  refine lv_icmp_ne (pc := 6) (tgt := 13) hx hb d_C_first_6 (by decide) (fun c_1 => ?_) (fun c_1 => ?_)
  · refine lv_iload_n (pc := 13) hx hb d_C_first_13 rfl (lv_at hl 0 rfl) ?_
    refine lv_iload_n (pc := 14) hx hb d_C_first_14 rfl (lv_at hl 2 rfl) ?_
    refine lv_ishr (pc := 15) hx hb d_C_first_15 ?_
    refine lv_iconst (pc := 16) (v := 1) hx hb d_C_first_16 (by decide) ?_
    refine lv_iand (pc := 17) hx hb d_C_first_17 ?_
    refine lv_iconst (pc := 18) (v := 1) hx hb d_C_first_18 (by decide) ?_
    refine lv_icmp_ne (pc := 19) (tgt := 26) hx hb d_C_first_19 (by decide) (fun c_2 => ?_) (fun c_2 => ?_)
    · refine lv_iload_n (pc := 26) hx hb d_C_first_26 rfl (lv_at hl 0 rfl) ?_
      refine lv_iload_n (pc := 27) hx hb d_C_first_27 rfl (lv_at hl 3 rfl) ?_
      refine lv_ishr (pc := 28) hx hb d_C_first_28 ?_
      refine lv_iconst (pc := 29) (v := 1) hx hb d_C_first_29 (by decide) ?_
      refine lv_iand (pc := 30) hx hb d_C_first_30 ?_
      refine lv_iconst (pc := 31) (v := 1) hx hb d_C_first_31 (by decide) ?_
      refine lv_icmp_ne (pc := 32) (tgt := 39) hx hb d_C_first_32 (by decide) (fun c_3 => ?_) (fun c_3 => ?_)
      · refine lv_iconst (pc := 39) (v := (-1)) hx hb d_C_first_39 (by decide) ?_
        exact ro_iret (pc := 40) hx hb hr hlk hQ (by first | (simp only [firF, if_neg c_1, if_neg c_2, if_neg c_3]; done) | (simp [firF, c_1, c_2, c_3]; done)) d_C_first_40
      · refine lv_iload_n (pc := 35) hx hb d_C_first_35 rfl (lv_at hl 3 rfl) ?_
        refine lv_goto (pc := 36) (tgt := 40) hx hb d_C_first_36 (by decide) ?_
        exact ro_iret (pc := 40) hx hb hr hlk hQ (by first | (simp only [firF, if_neg c_1, if_neg c_2, if_pos c_3]; done) | (simp [firF, c_1, c_2, c_3]; done)) d_C_first_40
    · refine lv_iload_n (pc := 22) hx hb d_C_first_22 rfl (lv_at hl 2 rfl) ?_
      refine lv_goto (pc := 23) (tgt := 40) hx hb d_C_first_23 (by decide) ?_
      exact ro_iret (pc := 40) hx hb hr hlk hQ (by first | (simp only [firF, if_neg c_1, if_pos c_2]; done) | (simp [firF, c_1, c_2]; done)) d_C_first_40
  · refine lv_iload_n (pc := 9) hx hb d_C_first_9 rfl (lv_at hl 1 rfl) ?_
    refine lv_goto (pc := 10) (tgt := 40) hx hb d_C_first_10 (by decide) ?_
    exact ro_iret (pc := 40) hx hb hr hlk hQ (by first | (simp only [firF, if_pos c_1]; done) | (simp [firF, c_1]; done)) d_C_first_40
set_option maxHeartbeats 4000000 in
set_option maxRecDepth 100000 in
theorem c_M_maskOf (l : Launch) (D : va_G) (cI cR : ClassId) (ad : Nat → Nat)  (k : Nat) (hk : k < 29) : RO l y_M_maskOf b_M_maskOf 1 (some .int) 0 0 D cI cR ad [] [.int (nI k)] (.int (maskF (nI k))) := by
  refine ro_ofW (by decide) (Nat.le_of_ble_eq_true rfl) ?_
  intro p e s m below meth c args Q ls hx hb hr hml hown hts hlk hP hX hE hl hQ
  have hown : s.vm.findClass cn_M = some m.cls := hown
  have hP : va_P D cls_ [] s.heap := hP
  have hl : lv_has ls 1 [(0, .int (nI k))] := hl
  rcases (show k = 0 ∨ k = 1 ∨ k = 2 ∨ k = 3 ∨ k = 4 ∨ k = 5 ∨ k = 6 ∨ k = 7 ∨ k = 8 ∨ k = 9 ∨ k = 10 ∨ k = 11 ∨ k = 12 ∨ k = 13 ∨ k = 14 ∨ k = 15 ∨ k = 16 ∨ k = 17 ∨ k = 18 ∨ k = 19 ∨ k = 20 ∨ k = 21 ∨ k = 22 ∨ k = 23 ∨ k = 24 ∨ k = 25 ∨ k = 26 ∨ k = 27 ∨ k = 28 by omega) with rfl | rfl | rfl | rfl | rfl | rfl | rfl | rfl | rfl | rfl | rfl | rfl | rfl | rfl | rfl | rfl | rfl | rfl | rfl | rfl | rfl | rfl | rfl | rfl | rfl | rfl | rfl | rfl | rfl
  · refine lv_iload_n (pc := 0) hx hb d_M_maskOf_0 rfl (lv_at hl 0 rfl) ?_
    refine lv_tableIn (pc := 1) (off := 123) (tgt := 124) hx hb d_M_maskOf_1 (by decide) (by decide) rfl (by decide) ?_
    refine lv_ldc (pc := 124) (v := 786722) hx hb hown (hts _ kk_M_45) d_M_maskOf_124 ?_
    exact ro_iret (pc := 126) hx hb hr hlk hQ (by decide) d_M_maskOf_126
  · refine lv_iload_n (pc := 0) hx hb d_M_maskOf_0 rfl (lv_at hl 0 rfl) ?_
    refine lv_tableIn (pc := 1) (off := 126) (tgt := 127) hx hb d_M_maskOf_1 (by decide) (by decide) rfl (by decide) ?_
    refine lv_sipush (pc := 127) (v := 546) hx hb d_M_maskOf_127 (by decide) ?_
    exact ro_iret (pc := 130) hx hb hr hlk hQ (by decide) d_M_maskOf_130
  · refine lv_iload_n (pc := 0) hx hb d_M_maskOf_0 rfl (lv_at hl 0 rfl) ?_
    refine lv_tableIn (pc := 1) (off := 130) (tgt := 131) hx hb d_M_maskOf_1 (by decide) (by decide) rfl (by decide) ?_
    refine lv_bipush (pc := 131) (v := (-3)) hx hb d_M_maskOf_131 (by decide) ?_
    exact ro_iret (pc := 133) hx hb hr hlk hQ (by decide) d_M_maskOf_133
  · refine lv_iload_n (pc := 0) hx hb d_M_maskOf_0 rfl (lv_at hl 0 rfl) ?_
    refine lv_tableIn (pc := 1) (off := 154) (tgt := 155) hx hb d_M_maskOf_1 (by decide) (by decide) rfl (by decide) ?_
    refine lv_iconst (pc := 155) (v := (-1)) hx hb d_M_maskOf_155 (by decide) ?_
    exact ro_iret (pc := 156) hx hb hr hlk hQ (by decide) d_M_maskOf_156
  · refine lv_iload_n (pc := 0) hx hb d_M_maskOf_0 rfl (lv_at hl 0 rfl) ?_
    refine lv_tableIn (pc := 1) (off := 133) (tgt := 134) hx hb d_M_maskOf_1 (by decide) (by decide) rfl (by decide) ?_
    refine lv_bipush (pc := 134) (v := (-4)) hx hb d_M_maskOf_134 (by decide) ?_
    exact ro_iret (pc := 136) hx hb hr hlk hQ (by decide) d_M_maskOf_136
  · refine lv_iload_n (pc := 0) hx hb d_M_maskOf_0 rfl (lv_at hl 0 rfl) ?_
    refine lv_tableIn (pc := 1) (off := 154) (tgt := 155) hx hb d_M_maskOf_1 (by decide) (by decide) rfl (by decide) ?_
    refine lv_iconst (pc := 155) (v := (-1)) hx hb d_M_maskOf_155 (by decide) ?_
    exact ro_iret (pc := 156) hx hb hr hlk hQ (by decide) d_M_maskOf_156
  · refine lv_iload_n (pc := 0) hx hb d_M_maskOf_0 rfl (lv_at hl 0 rfl) ?_
    refine lv_tableIn (pc := 1) (off := 154) (tgt := 155) hx hb d_M_maskOf_1 (by decide) (by decide) rfl (by decide) ?_
    refine lv_iconst (pc := 155) (v := (-1)) hx hb d_M_maskOf_155 (by decide) ?_
    exact ro_iret (pc := 156) hx hb hr hlk hQ (by decide) d_M_maskOf_156
  · refine lv_iload_n (pc := 0) hx hb d_M_maskOf_0 rfl (lv_at hl 0 rfl) ?_
    refine lv_tableIn (pc := 1) (off := 139) (tgt := 140) hx hb d_M_maskOf_1 (by decide) (by decide) rfl (by decide) ?_
    refine lv_iconst (pc := 140) (v := 2) hx hb d_M_maskOf_140 (by decide) ?_
    exact ro_iret (pc := 141) hx hb hr hlk hQ (by decide) d_M_maskOf_141
  · refine lv_iload_n (pc := 0) hx hb d_M_maskOf_0 rfl (lv_at hl 0 rfl) ?_
    refine lv_tableIn (pc := 1) (off := 136) (tgt := 137) hx hb d_M_maskOf_1 (by decide) (by decide) rfl (by decide) ?_
    refine lv_ldc (pc := 137) (v := (-2143289345)) hx hb hown (hts _ kk_M_46) d_M_maskOf_137 ?_
    exact ro_iret (pc := 139) hx hb hr hlk hQ (by decide) d_M_maskOf_139
  · refine lv_iload_n (pc := 0) hx hb d_M_maskOf_0 rfl (lv_at hl 0 rfl) ?_
    refine lv_tableIn (pc := 1) (off := 123) (tgt := 124) hx hb d_M_maskOf_1 (by decide) (by decide) rfl (by decide) ?_
    refine lv_ldc (pc := 124) (v := 786722) hx hb hown (hts _ kk_M_45) d_M_maskOf_124 ?_
    exact ro_iret (pc := 126) hx hb hr hlk hQ (by decide) d_M_maskOf_126
  · refine lv_iload_n (pc := 0) hx hb d_M_maskOf_0 rfl (lv_at hl 0 rfl) ?_
    refine lv_tableIn (pc := 1) (off := 154) (tgt := 155) hx hb d_M_maskOf_1 (by decide) (by decide) rfl (by decide) ?_
    refine lv_iconst (pc := 155) (v := (-1)) hx hb d_M_maskOf_155 (by decide) ?_
    exact ro_iret (pc := 156) hx hb hr hlk hQ (by decide) d_M_maskOf_156
  · refine lv_iload_n (pc := 0) hx hb d_M_maskOf_0 rfl (lv_at hl 0 rfl) ?_
    refine lv_tableIn (pc := 1) (off := 130) (tgt := 131) hx hb d_M_maskOf_1 (by decide) (by decide) rfl (by decide) ?_
    refine lv_bipush (pc := 131) (v := (-3)) hx hb d_M_maskOf_131 (by decide) ?_
    exact ro_iret (pc := 133) hx hb hr hlk hQ (by decide) d_M_maskOf_133
  · refine lv_iload_n (pc := 0) hx hb d_M_maskOf_0 rfl (lv_at hl 0 rfl) ?_
    refine lv_tableIn (pc := 1) (off := 154) (tgt := 155) hx hb d_M_maskOf_1 (by decide) (by decide) rfl (by decide) ?_
    refine lv_iconst (pc := 155) (v := (-1)) hx hb d_M_maskOf_155 (by decide) ?_
    exact ro_iret (pc := 156) hx hb hr hlk hQ (by decide) d_M_maskOf_156
  · refine lv_iload_n (pc := 0) hx hb d_M_maskOf_0 rfl (lv_at hl 0 rfl) ?_
    refine lv_tableIn (pc := 1) (off := 133) (tgt := 134) hx hb d_M_maskOf_1 (by decide) (by decide) rfl (by decide) ?_
    refine lv_bipush (pc := 134) (v := (-4)) hx hb d_M_maskOf_134 (by decide) ?_
    exact ro_iret (pc := 136) hx hb hr hlk hQ (by decide) d_M_maskOf_136
  · refine lv_iload_n (pc := 0) hx hb d_M_maskOf_0 rfl (lv_at hl 0 rfl) ?_
    refine lv_tableIn (pc := 1) (off := 154) (tgt := 155) hx hb d_M_maskOf_1 (by decide) (by decide) rfl (by decide) ?_
    refine lv_iconst (pc := 155) (v := (-1)) hx hb d_M_maskOf_155 (by decide) ?_
    exact ro_iret (pc := 156) hx hb hr hlk hQ (by decide) d_M_maskOf_156
  · refine lv_iload_n (pc := 0) hx hb d_M_maskOf_0 rfl (lv_at hl 0 rfl) ?_
    refine lv_tableIn (pc := 1) (off := 154) (tgt := 155) hx hb d_M_maskOf_1 (by decide) (by decide) rfl (by decide) ?_
    refine lv_iconst (pc := 155) (v := (-1)) hx hb d_M_maskOf_155 (by decide) ?_
    exact ro_iret (pc := 156) hx hb hr hlk hQ (by decide) d_M_maskOf_156
  · refine lv_iload_n (pc := 0) hx hb d_M_maskOf_0 rfl (lv_at hl 0 rfl) ?_
    refine lv_tableIn (pc := 1) (off := 154) (tgt := 155) hx hb d_M_maskOf_1 (by decide) (by decide) rfl (by decide) ?_
    refine lv_iconst (pc := 155) (v := (-1)) hx hb d_M_maskOf_155 (by decide) ?_
    exact ro_iret (pc := 156) hx hb hr hlk hQ (by decide) d_M_maskOf_156
  · refine lv_iload_n (pc := 0) hx hb d_M_maskOf_0 rfl (lv_at hl 0 rfl) ?_
    refine lv_tableIn (pc := 1) (off := 136) (tgt := 137) hx hb d_M_maskOf_1 (by decide) (by decide) rfl (by decide) ?_
    refine lv_ldc (pc := 137) (v := (-2143289345)) hx hb hown (hts _ kk_M_46) d_M_maskOf_137 ?_
    exact ro_iret (pc := 139) hx hb hr hlk hQ (by decide) d_M_maskOf_139
  · refine lv_iload_n (pc := 0) hx hb d_M_maskOf_0 rfl (lv_at hl 0 rfl) ?_
    refine lv_tableIn (pc := 1) (off := 141) (tgt := 142) hx hb d_M_maskOf_1 (by decide) (by decide) rfl (by decide) ?_
    refine lv_ldc (pc := 142) (v := 7340992) hx hb hown (hts _ kk_M_47) d_M_maskOf_142 ?_
    exact ro_iret (pc := 144) hx hb hr hlk hQ (by decide) d_M_maskOf_144
  · refine lv_iload_n (pc := 0) hx hb d_M_maskOf_0 rfl (lv_at hl 0 rfl) ?_
    refine lv_tableIn (pc := 1) (off := 144) (tgt := 145) hx hb d_M_maskOf_1 (by decide) (by decide) rfl (by decide) ?_
    refine lv_ldc (pc := 145) (v := 45567) hx hb hown (hts _ kk_M_48) d_M_maskOf_145 ?_
    exact ro_iret (pc := 147) hx hb hr hlk hQ (by decide) d_M_maskOf_147
  · refine lv_iload_n (pc := 0) hx hb d_M_maskOf_0 rfl (lv_at hl 0 rfl) ?_
    refine lv_tableIn (pc := 1) (off := 147) (tgt := 148) hx hb d_M_maskOf_1 (by decide) (by decide) rfl (by decide) ?_
    refine lv_sipush (pc := 148) (v := 1092) hx hb d_M_maskOf_148 (by decide) ?_
    exact ro_iret (pc := 151) hx hb hr hlk hQ (by decide) d_M_maskOf_151
  · refine lv_iload_n (pc := 0) hx hb d_M_maskOf_0 rfl (lv_at hl 0 rfl) ?_
    refine lv_tableIn (pc := 1) (off := 147) (tgt := 148) hx hb d_M_maskOf_1 (by decide) (by decide) rfl (by decide) ?_
    refine lv_sipush (pc := 148) (v := 1092) hx hb d_M_maskOf_148 (by decide) ?_
    exact ro_iret (pc := 151) hx hb hr hlk hQ (by decide) d_M_maskOf_151
  · refine lv_iload_n (pc := 0) hx hb d_M_maskOf_0 rfl (lv_at hl 0 rfl) ?_
    refine lv_tableIn (pc := 1) (off := 154) (tgt := 155) hx hb d_M_maskOf_1 (by decide) (by decide) rfl (by decide) ?_
    refine lv_iconst (pc := 155) (v := (-1)) hx hb d_M_maskOf_155 (by decide) ?_
    exact ro_iret (pc := 156) hx hb hr hlk hQ (by decide) d_M_maskOf_156
  · refine lv_iload_n (pc := 0) hx hb d_M_maskOf_0 rfl (lv_at hl 0 rfl) ?_
    refine lv_tableIn (pc := 1) (off := 154) (tgt := 155) hx hb d_M_maskOf_1 (by decide) (by decide) rfl (by decide) ?_
    refine lv_iconst (pc := 155) (v := (-1)) hx hb d_M_maskOf_155 (by decide) ?_
    exact ro_iret (pc := 156) hx hb hr hlk hQ (by decide) d_M_maskOf_156
  · refine lv_iload_n (pc := 0) hx hb d_M_maskOf_0 rfl (lv_at hl 0 rfl) ?_
    refine lv_tableIn (pc := 1) (off := 147) (tgt := 148) hx hb d_M_maskOf_1 (by decide) (by decide) rfl (by decide) ?_
    refine lv_sipush (pc := 148) (v := 1092) hx hb d_M_maskOf_148 (by decide) ?_
    exact ro_iret (pc := 151) hx hb hr hlk hQ (by decide) d_M_maskOf_151
  · refine lv_iload_n (pc := 0) hx hb d_M_maskOf_0 rfl (lv_at hl 0 rfl) ?_
    refine lv_tableIn (pc := 1) (off := 154) (tgt := 155) hx hb d_M_maskOf_1 (by decide) (by decide) rfl (by decide) ?_
    refine lv_iconst (pc := 155) (v := (-1)) hx hb d_M_maskOf_155 (by decide) ?_
    exact ro_iret (pc := 156) hx hb hr hlk hQ (by decide) d_M_maskOf_156
  · refine lv_iload_n (pc := 0) hx hb d_M_maskOf_0 rfl (lv_at hl 0 rfl) ?_
    refine lv_tableIn (pc := 1) (off := 151) (tgt := 152) hx hb d_M_maskOf_1 (by decide) (by decide) rfl (by decide) ?_
    refine lv_ldc (pc := 152) (v := (-2143289348)) hx hb hown (hts _ kk_M_49) d_M_maskOf_152 ?_
    exact ro_iret (pc := 154) hx hb hr hlk hQ (by decide) d_M_maskOf_154
  · refine lv_iload_n (pc := 0) hx hb d_M_maskOf_0 rfl (lv_at hl 0 rfl) ?_
    refine lv_tableOut (pc := 1) (tgt := 155) hx hb d_M_maskOf_1 (Or.inr (by decide)) (by decide) ?_
    refine lv_iconst (pc := 155) (v := (-1)) hx hb d_M_maskOf_155 (by decide) ?_
    exact ro_iret (pc := 156) hx hb hr hlk hQ (by decide) d_M_maskOf_156
  · refine lv_iload_n (pc := 0) hx hb d_M_maskOf_0 rfl (lv_at hl 0 rfl) ?_
    refine lv_tableOut (pc := 1) (tgt := 155) hx hb d_M_maskOf_1 (Or.inr (by decide)) (by decide) ?_
    refine lv_iconst (pc := 155) (v := (-1)) hx hb d_M_maskOf_155 (by decide) ?_
    exact ro_iret (pc := 156) hx hb hr hlk hQ (by decide) d_M_maskOf_156
end
section
-- PLAIN LAWS, no program in sight. The first rows (bt .. b_sshr) are taken from the kit's BITS.to-paste
def bt (x : Int32) (i : Nat) : Bool := x.toBitVec.getLsbD i
theorem b_ext {x y : Int32} (h : ∀ i, i < 32 → bt x i = bt y i) : x = y := Int32.toBitVec_inj.mp (BitVec.eq_of_getLsbD_eq (fun i hi => h i hi))
theorem b_or (x y : Int32) (i : Nat) : bt (x ||| y) i = (bt x i || bt y i) := by unfold bt; rw [Int32.toBitVec_or, BitVec.getLsbD_or]
theorem b_and (x y : Int32) (i : Nat) : bt (x &&& y) i = (bt x i && bt y i) := by unfold bt; rw [Int32.toBitVec_and, BitVec.getLsbD_and]
theorem b_xor (x y : Int32) (i : Nat) : bt (x ^^^ y) i = (bt x i ^^ bt y i) := by unfold bt; rw [Int32.toBitVec_xor, BitVec.getLsbD_xor]
theorem b_m1 : ∀ i, i < 32 → bt (-1) i = true := by decide +kernel
theorem b_0 (i : Nat) : bt 0 i = false := BitVec.getLsbD_zero
theorem s_l : ∀ n, n < 32 → ((nI n &&& 31).toBitVec.smod 32).toNat = n := by decide +kernel
theorem b_sshr (n : Nat) (hn : n < 32) (x : Int32) {i : Nat} (hi : i < 32) : bt (x >>> (nI n &&& 31)) i = if n + i < 32 then bt x (n + i) else bt x 31 := by
  unfold bt
  rw [Int32.toBitVec_shiftRight]
  show (x.toBitVec.sshiftRight ((nI n &&& 31).toBitVec.smod 32).toNat).getLsbD i = _
  rw [s_l n hn, BitVec.getLsbD_sshiftRight, BitVec.msb_eq_getLsbD_last]
  simp [hi]
-- one bit, asked in two ways
theorem b_1 : ∀ i, i < 32 → bt 1 i = decide (i = 0) := by decide +kernel
theorem b_pw20 : ∀ i, i < 32 → bt 1048576 i = decide (i = 20) := by decide +kernel
theorem b_pw1 : ∀ i, i < 32 → bt 2 i = decide (i = 1) := by decide +kernel
theorem hb_bit (n : Nat) (hn : n < 32) (x : Int32) : hasF x (nI n) = bt x n := by
  have key : (x >>> (nI n &&& 31)) &&& 1 = (if bt x n then 1 else 0) := by
    apply b_ext
    intro i hi
    rw [b_and, b_1 i hi]
    by_cases h0 : i = 0
    · subst h0
      rw [b_sshr n hn x hi]
      simp only [Nat.add_zero, hn, if_true, decide_true, Bool.and_true]
      cases bt x n <;> decide
    · simp only [h0, decide_false, Bool.and_false]
      cases bt x n
      · exact (b_0 i).symm
      · simp only [if_true]; rw [b_1 i hi]; simp [h0]
  unfold hasF
  rw [key]
  cases bt x n <;> decide
theorem hb_mask (n : Nat) (hn : n < 32) (x k : Int32) (hk : ∀ i, i < 32 → bt k i = decide (i = n)) : (x &&& k = 0) ↔ bt x n = false := by
  constructor
  · intro h
    have h1 := congrArg (fun z => bt z n) h
    simp only [b_and, b_0, hk n hn, decide_true, Bool.and_true] at h1
    exact h1
  · intro h
    apply b_ext
    intro i hi
    rw [b_and, b_0, hk i hi]
    by_cases e : i = n
    · subst e; simp [h]
    · simp [e]
theorem hb20 (x : Int32) : (x &&& 1048576 = 0) ↔ hasF x 20 = false := by
  rw [hb_mask 20 (by decide) x 1048576 b_pw20, show hasF x 20 = bt x 20 from hb_bit 20 (by decide) x]
theorem hb1 (x : Int32) : (x &&& 2 = 0) ↔ hasF x 1 = false := by
  rw [hb_mask 1 (by decide) x 2 b_pw1, show hasF x 1 = bt x 1 from hb_bit 1 (by decide) x]
theorem mix_m1 (a b : Int32) : (a &&& ((-1) ^^^ (-1))) ||| (b &&& (-1)) = b := by
  apply b_ext
  intro i hi
  simp only [b_or, b_and, b_xor, b_m1 i hi]
  simp
theorem and_cm (a b : Int32) : a &&& b = b &&& a := by
  apply b_ext
  intro i hi
  simp only [b_and, Bool.and_comm]
theorem and_id (a b : Int32) : (a &&& b) &&& b = a &&& b := by
  apply b_ext
  intro i hi
  simp only [b_and, Bool.and_assoc, Bool.and_self]
theorem putF_m1 (f : Nat → Int32) (k : Nat) (v : Int32) : putF f k (-1) v = upd f k v := by
  unfold putF
  rw [mix_m1]
theorem sh32 (t : Int64) : ((t.toUInt64 >>> ((32 : Int32).toInt64.toUInt64 &&& Int64.toUInt64 63)).toInt64).toInt32 = (t >>> ((32 : Int32).toInt64 &&& 63)).toInt32 := by
  apply Int32.toBitVec_inj.mp
  have e1 : ((32 : Int32).toInt64.toUInt64 &&& Int64.toUInt64 63) = 32 := by decide
  have e2 : ((32 : Int32).toInt64 &&& 63) = 32 := by decide
  rw [e1, e2]
  apply BitVec.eq_of_getLsbD_eq
  intro i hi
  show ((t.toBitVec >>> (32 : Nat)).signExtend 32).getLsbD i = ((t.toBitVec.sshiftRight 32).signExtend 32).getLsbD i
  simp only [BitVec.getLsbD_signExtend, BitVec.getLsbD_ushiftRight, BitVec.getLsbD_sshiftRight]
  have h1 : i < 64 := by omega
  have h2 : 32 + i < 64 := by omega
  simp [hi, h1, h2]
theorem keep_at : ∀ i, i < 27 → ¬ i = 10 → ¬ i = 16 → ¬ i = 23 → en_keep.getD i 0 = maskF (nI i) := by decide +kernel
-- the register of a number, the place of a number
def ofF (n : Int32) : Option Nat := (List.range 29).find? (fun i => decide (en_num.getD i 0 = n))
theorem of_none {n : Int32} (h : ∀ j, j < 29 → ¬ en_num.getD j 0 = n) : ofF n = none := by
  unfold ofF
  rw [List.find?_eq_none]
  intro i hi
  simpa using h i (List.mem_range.mp hi)
theorem of_some0 : ∀ i, i < 29 → ofF (en_num.getD i 0) = some i := by decide +kernel
theorem of_some {n : Int32} {i : Nat} (hi : i < 29) (h : en_num.getD i 0 = n) : ofF n = some i := by rw [← h]; exact of_some0 i hi
theorem pl_some0 : ∀ i, i < 29 → placeF (en_num.getD i 0) = nI i := by decide +kernel
theorem pl_p1 : ∀ N, N < 256 → (placeF (nI (256 + N)) = -1 ∨ ∃ j, j < 29 ∧ en_num.getD j 0 = nI (256 + N)) := by decide +kernel
theorem pl_p2 : ∀ N, N < 256 → (placeF (nI (512 + N)) = -1 ∨ ∃ j, j < 29 ∧ en_num.getD j 0 = nI (512 + N)) := by decide +kernel
theorem pg_nat {n : Int32} {p : Nat} (hp : 0 < p) (hp2 : p < 4) (h : n >>> ((8 : Int32) &&& 31) = nI p) : ∃ N, N < 256 ∧ n = nI (256 * p + N) := by
  have h1 : (n >>> ((8 : Int32) &&& 31)).toInt = n.toInt >>> 8 := pk_shr n ((8 : Int32) &&& 31) 8 (by decide)
  rw [h, nI_toInt (by omega), Int.shiftRight_eq_div_pow] at h1
  have h2 : n.toInt / 256 = p := by
    have e : ((2 ^ 8 : Nat) : Int) = 256 := by decide
    rw [e] at h1
    exact h1.symm
  refine ⟨(n.toInt - 256 * p).toNat, by omega, ?_⟩
  apply Int32.toInt_inj.mp
  rw [nI_toInt (by omega)]
  omega
theorem pl_cases (n : Int32) : (ofF n = none ∧ placeF n = -1) ∨ ∃ i, i < 29 ∧ ofF n = some i ∧ placeF n = nI i ∧ en_num.getD i 0 = n := by
  by_cases h : ∃ j, j < 29 ∧ en_num.getD j 0 = n
  · obtain ⟨j, hj, e⟩ := h
    exact Or.inr ⟨j, hj, of_some hj e, by rw [← e]; exact pl_some0 j hj, e⟩
  · have hne : ∀ j, j < 29 → ¬ en_num.getD j 0 = n := fun j hj e => h ⟨j, hj, e⟩
    refine Or.inl ⟨of_none hne, ?_⟩
    by_cases h1 : n >>> ((8 : Int32) &&& 31) = 1
    · obtain ⟨N, hN, e⟩ := pg_nat (p := 1) (by decide) (by decide) h1
      rcases pl_p1 N hN with q | q
      · rw [e]; exact q
      · obtain ⟨j, hj, q⟩ := q
        exact absurd (q.trans e.symm) (hne j hj)
    · by_cases h2 : n >>> ((8 : Int32) &&& 31) = 2
      · obtain ⟨N, hN, e⟩ := pg_nat (p := 2) (by decide) (by decide) h2
        rcases pl_p2 N hN with q | q
        · rw [e]; exact q
        · obtain ⟨j, hj, q⟩ := q
          exact absurd (q.trans e.symm) (hne j hj)
      · have g : ∀ j, j < 29 → ¬ n = en_num.getD j 0 := fun j hj e => hne j hj e.symm
        have g18 : ¬ n = 1536 := g 18 (by decide)
        have g19 : ¬ n = 1538 := g 19 (by decide)
        have g20 : ¬ n = 1539 := g 20 (by decide)
        have g21 : ¬ n = 1540 := g 21 (by decide)
        have g22 : ¬ n = 1603 := g 22 (by decide)
        have g23 : ¬ n = 1604 := g 23 (by decide)
        have g24 : ¬ n = 1605 := g 24 (by decide)
        have g25 : ¬ n = 1610 := g 25 (by decide)
        have g26 : ¬ n = 1664 := g 26 (by decide)
        have g27 : ¬ n = 3073 := g 27 (by decide)
        have g28 : ¬ n = 3201 := g 28 (by decide)
        simp only [placeF, if_neg h1, if_neg h2, hypF, if_neg g18, if_neg g19, if_neg g20, if_neg g21, if_neg g22, if_neg g23, if_neg g24, if_neg g25, if_neg g26, if_neg g27, if_neg g28]
theorem nI_nm1 : ∀ i, i < 29 → ¬ nI i = -1 := by decide +kernel
theorem pl_in {n : Int32} (h : ¬ placeF n = -1) : vp_in (placeF n) 29 := by
  rcases pl_cases n with ⟨-, q⟩ | ⟨i, hi, -, q, -⟩
  · exact absurd q h
  · rw [q]; exact vp_in_nI hi (by decide)
theorem pl_of_some {n : Int32} {i : Nat} (h : ofF n = some i) : i < 29 ∧ placeF n = nI i ∧ en_num.getD i 0 = n := by
  rcases pl_cases n with ⟨q, -⟩ | ⟨j, hj, q, q2, q3⟩
  · rw [h] at q; cases q
  · rw [h] at q; cases q; exact ⟨hj, q2, q3⟩
theorem pl_of_none {n : Int32} (h : ofF n = none) : placeF n = -1 := by
  rcases pl_cases n with ⟨-, q⟩ | ⟨j, hj, q, -⟩
  · exact q
  · rw [h] at q; cases q
-- the place that an access means
theorem at_vs : ∀ i, i < 29 → nI i ≤ 8 → nI i + 9 = nI (i + 9) ∧ i ≤ 8 := by decide +kernel
def atN (md : Int32) (i : Nat) : Nat := if md = 3 ∧ i ≤ 8 then i + 9 else i
theorem le8 : ∀ i, i < 29 → (nI i ≤ 8 ↔ i ≤ 8) := by decide +kernel
theorem at_N {md : Int32} {i : Nat} (hi : i < 29) : atF md (nI i) = nI (atN md i) ∧ atN md i < 29 := by
  unfold atF atN
  by_cases h : md = 3 ∧ i ≤ 8
  · rw [if_pos h, if_pos ⟨h.1, (le8 i hi).mpr h.2⟩]
    exact ⟨(at_vs i hi ((le8 i hi).mpr h.2)).1, by omega⟩
  · rw [if_neg h, if_neg (fun q => h ⟨q.1, (le8 i hi).mp q.2⟩)]
    exact ⟨rfl, hi⟩
theorem at_num : ∀ i, i < 29 → i ≤ 8 → en_num.getD i 0 + 256 = en_num.getD (i + 9) 0 := by decide +kernel
theorem ref_pl {f : Nat → Int32} {md x : Int32} {w : Bool} (h : refF f md x w = 0) : ¬ x = -1 := by
  intro e
  unfold refF at h
  rw [if_pos (Or.inl e)] at h
  exact absurd h (by decide)
theorem at_in {f : Nat → Int32} {md n : Int32} {w : Bool} (h : refF f md (placeF n) w = 0) : vp_in (atF md (placeF n)) 29 := by
  rcases pl_cases n with ⟨-, q⟩ | ⟨i, hi, -, q, -⟩
  · exact absurd q (ref_pl h)
  · rw [q, (at_N (md := md) hi).1]
    exact vp_in_nI (at_N hi).2 (by decide)
theorem ref_tm {f : Nat → Int32} {md x : Int32} (h : refF f md x true = 0) : ¬ (x = 27 ∨ x = 28) := by
  intro e
  unfold refF at h
  rw [if_pos (Or.inr ⟨e, rfl⟩)] at h
  exact absurd h (by decide)
-- what the delegation register may hold
def okF (f : Nat → Int32) : Prop := f 20 &&& 1092 = f 20
theorem ok_0 : okF (fun _ => 0) := by unfold okF; decide
theorem upd_ne {f : Nat → Int32} {k j : Nat} {v : Int32} (h : ¬ j = k) : upd f k v j = f j := by simp [upd, h]
theorem upd_at {f : Nat → Int32} {k : Nat} {v : Int32} : upd f k v k = v := by simp [upd]
theorem ok_write {f : Nat → Int32} {x v : Int32} (hx : vp_in x 29) (h : okF f) : okF (writeF f x v) := by
  unfold okF writeF at *
  by_cases h1 : x = 10
  · rw [if_pos h1]; unfold putF; rw [upd_ne (by decide)]; exact h
  · rw [if_neg h1]
    by_cases h2 : x = 16
    · rw [if_pos h2]; unfold putF; rw [upd_ne (by decide)]; exact h
    · rw [if_neg h2]
      by_cases h3 : x = 23
      · rw [if_pos h3]; unfold putF; rw [upd_ne (by decide)]; exact h
      · rw [if_neg h3, putF_m1]
        by_cases h4 : 20 = x.toNatClampNeg
        · rw [← h4, upd_at]
          unfold maskF
          rw [← h4]
          exact and_id v 1092
        · rw [upd_ne h4]; exact h
end
section
-- CONTRACTS: the reference's methods that only read
set_option maxHeartbeats 4000000 in
set_option maxRecDepth 100000 in
theorem c_M_has (l : Launch) (D : va_G) (cI cR : ClassId) (ad : Nat → Nat) (h hk : Nat) (f : Nat → Int32) (md : Int32) (tm al : Int64) (ln : Bool) (od : Int32) (j : Nat) (hj : j < 29) (b : Int32) : RO l y_M_has b_M_has 3 (some .boolean) 0 0 D cI cR ad (wM cI h hk f md tm al ln od) [.ref h, .int (nI j), .int b] (.int (bI (hasF (f j) b))) := by
  refine ro_ofW (by decide) (Nat.le_of_ble_eq_true rfl) ?_
  intro p e s m below meth c args Q ls hx hb hr hml hown hts hlk hP hX hE hl hQ
  have hown : s.vm.findClass cn_M = some m.cls := hown
  have hP : va_P D cls_ [(h, .inr (2, [.ref hk, .int md, .long tm, .long al, .int (bI ln), .int od])), (hk, .inl (cI, 29, .inl f))] s.heap := hP
  have hl : lv_has ls 3 [(0, .ref h), (1, .int (nI j)), (2, .int b)] := hl
  refine lv_aload_n (pc := 0) hx hb d_M_has_0 rfl (lv_at hl 0 rfl) ?_
  refine va_get (pc := 1) (D := D) (ci := 2) (v := .ref hk) (C := cn_M) (T := fT_M) (N := 6) hx hb hts in_M hown hX.1 hP 0 rfl rfl 0 (by decide) (hts _ kf_M_7) (fun _ h9 => h9) rfl d_M_has_1 ?_
  refine lv_iload_n (pc := 4) hx hb d_M_has_4 rfl (lv_at hl 1 rfl) ?_
  refine rd_i (pc := 5) hx hb hX hP 1 rfl j (nI_clamp (by omega)) (vp_in_nI hj (by decide)) d_M_has_5 ?_
  refine lv_iload_n (pc := 6) hx hb d_M_has_6 rfl (lv_at hl 2 rfl) ?_
  refine lv_ishr (pc := 7) hx hb d_M_has_7 ?_
  refine lv_iconst (pc := 8) (v := 1) hx hb d_M_has_8 (by decide) ?_
  refine lv_iand (pc := 9) hx hb d_M_has_9 ?_
  refine lv_iconst (pc := 10) (v := 1) hx hb d_M_has_10 (by decide) ?_
  refine lv_icmp_ne (pc := 11) (tgt := 18) hx hb d_M_has_11 (by decide) (fun c_1 => ?_) (fun c_1 => ?_)
  · refine lv_iconst (pc := 18) (v := 0) hx hb d_M_has_18 (by decide) ?_
    exact ro_zret (pc := 19) (v := false) hx hb hr hlk hQ (by unfold hasF; exact (decide_eq_false c_1).symm) rfl d_M_has_19
  · refine lv_iconst (pc := 14) (v := 1) hx hb d_M_has_14 (by decide) ?_
    refine lv_goto (pc := 15) (tgt := 19) hx hb d_M_has_15 (by decide) ?_
    exact ro_zret (pc := 19) (v := true) hx hb hr hlk hQ (by unfold hasF; exact (decide_eq_true c_1).symm) rfl d_M_has_19
set_option maxHeartbeats 4000000 in
set_option maxRecDepth 100000 in
theorem c_M_tells (l : Launch) (D : va_G) (cI cR : ClassId) (ad : Nat → Nat) (h hk : Nat) (f : Nat → Int32) (md : Int32) (tm al : Int64) (ln : Bool) (od : Int32) (x : Int32) (hin : vp_in x 29) : RO l y_M_tells b_M_tells 2 (some .int) 0 0 D cI cR ad (wM cI h hk f md tm al ln od) [.ref h, .int x] (.int (tellsF f tm al ln x)) := by
  refine ro_ofW (by decide) (Nat.le_of_ble_eq_true rfl) ?_
  intro p e s m below meth c args Q ls hx hb hr hml hown hts hlk hP hX hE hl hQ
  have hown : s.vm.findClass cn_M = some m.cls := hown
  have hP : va_P D cls_ [(h, .inr (2, [.ref hk, .int md, .long tm, .long al, .int (bI ln), .int od])), (hk, .inl (cI, 29, .inl f))] s.heap := hP
  have hl : lv_has ls 2 [(0, .ref h), (1, .int x)] := hl
  refine lv_iload_n (pc := 0) hx hb d_M_tells_0 rfl (lv_at hl 1 rfl) ?_
  by_cases c_1 : x = 7
  · refine lv_lookup (pc := 1) (off := 59) (tgt := 60) hx hb d_M_tells_1 (by decide) (by rw [c_1]; rfl) (by decide) ?_
    refine lv_aload_n (pc := 60) hx hb d_M_tells_60 rfl (lv_at hl 0 rfl) ?_
    refine va_get (pc := 61) (D := D) (ci := 2) (v := .ref hk) (C := cn_M) (T := fT_M) (N := 6) hx hb hts in_M hown hX.1 hP 0 rfl rfl 0 (by decide) (hts _ kf_M_7) (fun _ h9 => h9) rfl d_M_tells_61 ?_
    refine lv_bipush (pc := 64) (v := 7) hx hb d_M_tells_64 (by decide) ?_
    refine rd_i (pc := 66) hx hb hX hP 1 rfl 7 (by decide) (vp_in_nI (n := 7) (N := 29) (by decide) (by decide)) d_M_tells_66 ?_
    refine lv_aload_n (pc := 67) hx hb d_M_tells_67 rfl (lv_at hl 0 rfl) ?_
    refine va_get (pc := 68) (D := D) (ci := 2) (v := .long tm) (C := cn_M) (T := fT_M) (N := 6) hx hb hts in_M hown hX.1 hP 0 rfl rfl 2 (by decide) (hts _ kf_M_20) (fun _ h9 => h9) rfl d_M_tells_68 ?_
    refine lv_aload_n (pc := 71) hx hb d_M_tells_71 rfl (lv_at hl 0 rfl) ?_
    refine va_get (pc := 72) (D := D) (ci := 2) (v := .long al) (C := cn_M) (T := fT_M) (N := 6) hx hb hts in_M hown hX.1 hP 0 rfl rfl 3 (by decide) (hts _ kf_M_26) (fun _ h9 => h9) rfl d_M_tells_72 ?_
    refine W.lcmp (pc := 75) hx hb d_M_tells_75 ?_
    refine lv_if_lt (pc := 76) (tgt := 84) hx hb d_M_tells_76 (by decide) (fun c_2 => ?_) (fun c_2 => ?_)
    · refine lv_iconst (pc := 84) (v := 0) hx hb d_M_tells_84 (by decide) ?_
      refine lv_ior (pc := 85) hx hb d_M_tells_85 ?_
      refine lv_aload_n (pc := 86) hx hb d_M_tells_86 rfl (lv_at hl 0 rfl) ?_
      refine va_get (pc := 87) (D := D) (ci := 2) (v := .int (bI ln)) (C := cn_M) (T := fT_M) (N := 6) hx hb hts in_M hown hX.1 hP 0 rfl rfl 4 (by decide) (hts _ kf_M_29) (fun _ h9 => h9) rfl d_M_tells_87 ?_
      refine lv_if_eq (pc := 90) (tgt := 99) hx hb d_M_tells_90 (by decide) (fun c_3 => ?_) (fun c_3 => ?_)
      · refine lv_iconst (pc := 99) (v := 0) hx hb d_M_tells_99 (by decide) ?_
        refine lv_ior (pc := 100) hx hb d_M_tells_100 ?_
        exact ro_iret (pc := 101) hx hb hr hlk hQ (by first | (simp only [tellsF, if_pos c_1, if_pos c_2, if_pos c_3]; done) | (simp [tellsF, c_1, c_2, c_3]; done)) d_M_tells_101
      · refine lv_sipush (pc := 93) (v := 512) hx hb d_M_tells_93 (by decide) ?_
        refine lv_goto (pc := 96) (tgt := 100) hx hb d_M_tells_96 (by decide) ?_
        refine lv_ior (pc := 100) hx hb d_M_tells_100 ?_
        exact ro_iret (pc := 101) hx hb hr hlk hQ (by first | (simp only [tellsF, if_pos c_1, if_pos c_2, if_neg c_3]; done) | (simp [tellsF, c_1, c_2, c_3]; done)) d_M_tells_101
    · refine lv_bipush (pc := 79) (v := 32) hx hb d_M_tells_79 (by decide) ?_
      refine lv_goto (pc := 81) (tgt := 85) hx hb d_M_tells_81 (by decide) ?_
      refine lv_ior (pc := 85) hx hb d_M_tells_85 ?_
      refine lv_aload_n (pc := 86) hx hb d_M_tells_86 rfl (lv_at hl 0 rfl) ?_
      refine va_get (pc := 87) (D := D) (ci := 2) (v := .int (bI ln)) (C := cn_M) (T := fT_M) (N := 6) hx hb hts in_M hown hX.1 hP 0 rfl rfl 4 (by decide) (hts _ kf_M_29) (fun _ h9 => h9) rfl d_M_tells_87 ?_
      refine lv_if_eq (pc := 90) (tgt := 99) hx hb d_M_tells_90 (by decide) (fun c_4 => ?_) (fun c_4 => ?_)
      · refine lv_iconst (pc := 99) (v := 0) hx hb d_M_tells_99 (by decide) ?_
        refine lv_ior (pc := 100) hx hb d_M_tells_100 ?_
        exact ro_iret (pc := 101) hx hb hr hlk hQ (by first | (simp only [tellsF, if_pos c_1, if_neg c_2, if_pos c_4]; done) | (simp [tellsF, c_1, c_2, c_4]; done)) d_M_tells_101
      · refine lv_sipush (pc := 93) (v := 512) hx hb d_M_tells_93 (by decide) ?_
        refine lv_goto (pc := 96) (tgt := 100) hx hb d_M_tells_96 (by decide) ?_
        refine lv_ior (pc := 100) hx hb d_M_tells_100 ?_
        exact ro_iret (pc := 101) hx hb hr hlk hQ (by first | (simp only [tellsF, if_pos c_1, if_neg c_2, if_neg c_4]; done) | (simp [tellsF, c_1, c_2, c_4]; done)) d_M_tells_101
  by_cases c_5 : x = 10
  · refine lv_lookup (pc := 1) (off := 101) (tgt := 102) hx hb d_M_tells_1 (by decide) (by rw [c_5]; rfl) (by decide) ?_
    refine lv_aload_n (pc := 102) hx hb d_M_tells_102 rfl (lv_at hl 0 rfl) ?_
    refine va_get (pc := 103) (D := D) (ci := 2) (v := .ref hk) (C := cn_M) (T := fT_M) (N := 6) hx hb hts in_M hown hX.1 hP 0 rfl rfl 0 (by decide) (hts _ kf_M_7) (fun _ h9 => h9) rfl d_M_tells_103 ?_
    refine lv_bipush (pc := 106) (v := 21) hx hb d_M_tells_106 (by decide) ?_
    refine rd_i (pc := 108) hx hb hX hP 1 rfl 21 (by decide) (vp_in_nI (n := 21) (N := 29) (by decide) (by decide)) d_M_tells_108 ?_
    refine lv_aload_n (pc := 109) hx hb d_M_tells_109 rfl (lv_at hl 0 rfl) ?_
    refine va_get (pc := 110) (D := D) (ci := 2) (v := .ref hk) (C := cn_M) (T := fT_M) (N := 6) hx hb hts in_M hown hX.1 hP 0 rfl rfl 0 (by decide) (hts _ kf_M_7) (fun _ h9 => h9) rfl d_M_tells_110 ?_
    refine lv_bipush (pc := 113) (v := 20) hx hb d_M_tells_113 (by decide) ?_
    refine rd_i (pc := 115) hx hb hX hP 1 rfl 20 (by decide) (vp_in_nI (n := 20) (N := 29) (by decide) (by decide)) d_M_tells_115 ?_
    refine lv_iand (pc := 116) hx hb d_M_tells_116 ?_
    refine lv_iconst (pc := 117) (v := 1) hx hb d_M_tells_117 (by decide) ?_
    refine lv_ishr (pc := 118) hx hb d_M_tells_118 ?_
    exact ro_iret (pc := 119) hx hb hr hlk hQ (by first | (simp only [tellsF, if_neg c_1, if_pos c_5]; done) | (simp [tellsF, c_1, c_5]; done)) d_M_tells_119
  by_cases c_6 : x = 16
  · refine lv_lookup (pc := 1) (off := 119) (tgt := 120) hx hb d_M_tells_1 (by decide) (by rw [c_6]; rfl) (by decide) ?_
    refine lv_aload_n (pc := 120) hx hb d_M_tells_120 rfl (lv_at hl 0 rfl) ?_
    refine va_get (pc := 121) (D := D) (ci := 2) (v := .ref hk) (C := cn_M) (T := fT_M) (N := 6) hx hb hts in_M hown hX.1 hP 0 rfl rfl 0 (by decide) (hts _ kf_M_7) (fun _ h9 => h9) rfl d_M_tells_121 ?_
    refine lv_bipush (pc := 124) (v := 24) hx hb d_M_tells_124 (by decide) ?_
    refine rd_i (pc := 126) hx hb hX hP 1 rfl 24 (by decide) (vp_in_nI (n := 24) (N := 29) (by decide) (by decide)) d_M_tells_126 ?_
    refine lv_aload_n (pc := 127) hx hb d_M_tells_127 rfl (lv_at hl 0 rfl) ?_
    refine va_get (pc := 128) (D := D) (ci := 2) (v := .ref hk) (C := cn_M) (T := fT_M) (N := 6) hx hb hts in_M hown hX.1 hP 0 rfl rfl 0 (by decide) (hts _ kf_M_7) (fun _ h9 => h9) rfl d_M_tells_128 ?_
    refine lv_bipush (pc := 131) (v := 20) hx hb d_M_tells_131 (by decide) ?_
    refine rd_i (pc := 133) hx hb hX hP 1 rfl 20 (by decide) (vp_in_nI (n := 20) (N := 29) (by decide) (by decide)) d_M_tells_133 ?_
    refine lv_iand (pc := 134) hx hb d_M_tells_134 ?_
    refine lv_iconst (pc := 135) (v := 1) hx hb d_M_tells_135 (by decide) ?_
    refine lv_ishr (pc := 136) hx hb d_M_tells_136 ?_
    exact ro_iret (pc := 137) hx hb hr hlk hQ (by first | (simp only [tellsF, if_neg c_1, if_neg c_5, if_pos c_6]; done) | (simp [tellsF, c_1, c_5, c_6]; done)) d_M_tells_137
  by_cases c_7 : x = 23
  · refine lv_lookup (pc := 1) (off := 137) (tgt := 138) hx hb d_M_tells_1 (by decide) (by rw [c_7]; rfl) (by decide) ?_
    refine lv_aload_n (pc := 138) hx hb d_M_tells_138 rfl (lv_at hl 0 rfl) ?_
    refine va_get (pc := 139) (D := D) (ci := 2) (v := .ref hk) (C := cn_M) (T := fT_M) (N := 6) hx hb hts in_M hown hX.1 hP 0 rfl rfl 0 (by decide) (hts _ kf_M_7) (fun _ h9 => h9) rfl d_M_tells_139 ?_
    refine lv_bipush (pc := 142) (v := 24) hx hb d_M_tells_142 (by decide) ?_
    refine rd_i (pc := 144) hx hb hX hP 1 rfl 24 (by decide) (vp_in_nI (n := 24) (N := 29) (by decide) (by decide)) d_M_tells_144 ?_
    exact ro_iret (pc := 145) hx hb hr hlk hQ (by first | (simp only [tellsF, if_neg c_1, if_neg c_5, if_neg c_6, if_pos c_7]; done) | (simp [tellsF, c_1, c_5, c_6, c_7]; done)) d_M_tells_145
  by_cases c_8 : x = 27
  · refine lv_lookup (pc := 1) (off := 145) (tgt := 146) hx hb d_M_tells_1 (by decide) (by rw [c_8]; rfl) (by decide) ?_
    refine lv_aload_n (pc := 146) hx hb d_M_tells_146 rfl (lv_at hl 0 rfl) ?_
    refine va_get (pc := 147) (D := D) (ci := 2) (v := .long tm) (C := cn_M) (T := fT_M) (N := 6) hx hb hts in_M hown hX.1 hP 0 rfl rfl 2 (by decide) (hts _ kf_M_20) (fun _ h9 => h9) rfl d_M_tells_147 ?_
    refine lv_l2i (pc := 150) (v := tm.toInt32) hx hb d_M_tells_150 rfl ?_
    exact ro_iret (pc := 151) hx hb hr hlk hQ (by first | (simp only [tellsF, if_neg c_1, if_neg c_5, if_neg c_6, if_neg c_7, if_pos c_8]; done) | (simp [tellsF, c_1, c_5, c_6, c_7, c_8]; done)) d_M_tells_151
  by_cases c_9 : x = 28
  · refine lv_lookup (pc := 1) (off := 151) (tgt := 152) hx hb d_M_tells_1 (by decide) (by rw [c_9]; rfl) (by decide) ?_
    refine lv_aload_n (pc := 152) hx hb d_M_tells_152 rfl (lv_at hl 0 rfl) ?_
    refine va_get (pc := 153) (D := D) (ci := 2) (v := .long tm) (C := cn_M) (T := fT_M) (N := 6) hx hb hts in_M hown hX.1 hP 0 rfl rfl 2 (by decide) (hts _ kf_M_20) (fun _ h9 => h9) rfl d_M_tells_153 ?_
    refine lv_bipush (pc := 156) (v := 32) hx hb d_M_tells_156 (by decide) ?_
    refine lv_lshr (pc := 158) (v := tm >>> ((32 : Int32).toInt64 &&& 63)) hx hb d_M_tells_158 rfl ?_
    refine lv_l2i (pc := 159) (v := (tm >>> ((32 : Int32).toInt64 &&& 63)).toInt32) hx hb d_M_tells_159 rfl ?_
    exact ro_iret (pc := 160) hx hb hr hlk hQ (by first | (simp only [tellsF, if_neg c_1, if_neg c_5, if_neg c_6, if_neg c_7, if_neg c_8, if_pos c_9]; done) | (simp [tellsF, c_1, c_5, c_6, c_7, c_8, c_9]; done)) d_M_tells_160
  refine lv_lookup (pc := 1) (off := 160) (tgt := 161) hx hb d_M_tells_1 (by decide) (show Op.lookupswitch.offset [(7, 59), (10, 101), (16, 119), (23, 137), (27, 145), (28, 151)] 160 (Int32.toInt x) = 160 by rw [lv_osw c_1 (by decide), lv_osw c_5 (by decide), lv_osw c_6 (by decide), lv_osw c_7 (by decide), lv_osw c_8 (by decide), lv_osw c_9 (by decide)]; rfl) (by decide) ?_
  refine lv_aload_n (pc := 161) hx hb d_M_tells_161 rfl (lv_at hl 0 rfl) ?_
  refine va_get (pc := 162) (D := D) (ci := 2) (v := .ref hk) (C := cn_M) (T := fT_M) (N := 6) hx hb hts in_M hown hX.1 hP 0 rfl rfl 0 (by decide) (hts _ kf_M_7) (fun _ h9 => h9) rfl d_M_tells_162 ?_
  refine lv_iload_n (pc := 165) hx hb d_M_tells_165 rfl (lv_at hl 1 rfl) ?_
  refine rd_i (pc := 166) hx hb hX hP 1 rfl x.toNatClampNeg rfl hin d_M_tells_166 ?_
  exact ro_iret (pc := 167) hx hb hr hlk hQ (by first | (simp only [tellsF, if_neg c_1, if_neg c_5, if_neg c_6, if_neg c_7, if_neg c_8, if_neg c_9]; done) | (simp [tellsF, c_1, c_5, c_6, c_7, c_8, c_9]; done)) d_M_tells_167
set_option maxHeartbeats 4000000 in
set_option maxRecDepth 100000 in
theorem c_M_refusal (l : Launch) (D : va_G) (cI cR : ClassId) (ad : Nat → Nat) (h hk : Nat) (f : Nat → Int32) (md : Int32) (tm al : Int64) (ln : Bool) (od : Int32) (x : Int32) (w : Bool) : RO l y_M_refusal b_M_refusal 5 (some .int) 1 22 D cI cR ad (wM cI h hk f md tm al ln od) [.ref h, .int x, .int (bI w)] (.int (refF f md x w)) := by
  refine ro_ofW (by decide) (Nat.le_of_ble_eq_true rfl) ?_
  intro p e s m below meth c args Q ls hx hb hr hml hown hts hlk hP hX hE hl hQ
  have hown : s.vm.findClass cn_M = some m.cls := hown
  have hP : va_P D cls_ [(h, .inr (2, [.ref hk, .int md, .long tm, .long al, .int (bI ln), .int od])), (hk, .inl (cI, 29, .inl f))] s.heap := hP
  have hl : lv_has ls 5 [(0, .ref h), (1, .int x), (2, .int (bI w))] := hl
  refine lv_iload_n (pc := 0) hx hb d_M_refusal_0 rfl (lv_at hl 1 rfl) ?_
  refine lv_bipush (pc := 1) (v := 27) hx hb d_M_refusal_1 (by decide) ?_
  refine lv_icmp_eq (pc := 3) (tgt := 12) hx hb d_M_refusal_3 (by decide) (fun c_1 => ?_) (fun c_1 => ?_)
  · refine lv_iconst (pc := 12) (v := 1) hx hb d_M_refusal_12 (by decide) ?_
    refine lv_goto (pc := 13) (tgt := 17) hx hb d_M_refusal_13 (by decide) ?_
    refine lv_istore_n (pc := 17) (lv' := [(3, .int 1), (0, .ref h), (1, .int x), (2, .int (bI w))]) hx hb d_M_refusal_17 rfl hl (by decide) rfl (fun ls hl => ?_)
    refine lv_iload_n (pc := 18) hx hb d_M_refusal_18 rfl (lv_at hl 2 rfl) ?_
    refine lv_iconst (pc := 19) (v := (-1)) hx hb d_M_refusal_19 (by decide) ?_
    refine lv_icmp_eq (pc := 20) (tgt := 31) hx hb d_M_refusal_20 (by decide) (fun c_2 => absurd (c_1.symm.trans c_2) (by decide)) (fun c_2 => ?_)
    refine lv_iload_n (pc := 23) hx hb d_M_refusal_23 rfl (lv_at hl 0 rfl) ?_
    refine lv_if_eq (pc := 24) (tgt := 33) hx hb d_M_refusal_24 (by decide) (fun c_3 => absurd c_3 (by decide)) (fun c_3 => ?_)
    refine lv_iload_n (pc := 27) hx hb d_M_refusal_27 rfl (lv_at hl 3 rfl) ?_
    refine lv_if_eq (pc := 28) (tgt := 33) hx hb d_M_refusal_28 (by decide) (fun c_4 => ?_) (fun c_4 => ?_)
    · refine lv_aload_n (pc := 33) hx hb d_M_refusal_33 rfl (lv_at hl 1 rfl) ?_
      refine va_get (pc := 34) (D := D) (ci := 2) (v := .int md) (C := cn_M) (T := fT_M) (N := 6) hx hb hts in_M hown hX.1 hP 0 rfl rfl 1 (by decide) (hts _ kf_M_16) (fun _ h9 => h9) rfl d_M_refusal_34 ?_
      refine lv_iconst (pc := 37) (v := 1) hx hb d_M_refusal_37 (by decide) ?_
      refine lv_icmp_eq (pc := 38) (tgt := 45) hx hb d_M_refusal_38 (by decide) (fun c_5 => ?_) (fun c_5 => ?_)
      · refine lv_iconst (pc := 45) (v := 0) hx hb d_M_refusal_45 (by decide) ?_
        exact ro_iret (pc := 46) hx hb hr hlk hQ (by simp [refF, c_1, c_2, c_3, bI_0.mp c_4, c_5, -Int32.xor_neg_one]) d_M_refusal_46
      · refine lv_iload_n (pc := 41) hx hb d_M_refusal_41 rfl (lv_at hl 0 rfl) ?_
        refine lv_if_eq (pc := 42) (tgt := 47) hx hb d_M_refusal_42 (by decide) (fun c_6 => absurd c_6 c_3) (fun c_6 => ?_)
        refine lv_iconst (pc := 45) (v := 0) hx hb d_M_refusal_45 (by decide) ?_
        exact ro_iret (pc := 46) hx hb hr hlk hQ (by simp [refF, c_1, c_2, c_3, bI_0.mp c_4, c_5, c_6, -Int32.xor_neg_one]) d_M_refusal_46
    · refine lv_iconst (pc := 31) (v := 2) hx hb d_M_refusal_31 (by decide) ?_
      exact ro_iret (pc := 32) hx hb hr hlk hQ (by simp [refF, c_1, c_2, c_3, bI_n0.mp c_4, -Int32.xor_neg_one]) d_M_refusal_32
  · refine lv_iload_n (pc := 6) hx hb d_M_refusal_6 rfl (lv_at hl 1 rfl) ?_
    refine lv_bipush (pc := 7) (v := 28) hx hb d_M_refusal_7 (by decide) ?_
    refine lv_icmp_ne (pc := 9) (tgt := 16) hx hb d_M_refusal_9 (by decide) (fun c_7 => ?_) (fun c_7 => ?_)
    · refine lv_iconst (pc := 16) (v := 0) hx hb d_M_refusal_16 (by decide) ?_
      refine lv_istore_n (pc := 17) (lv' := [(3, .int 0), (0, .ref h), (1, .int x), (2, .int (bI w))]) hx hb d_M_refusal_17 rfl hl (by decide) rfl (fun ls hl => ?_)
      refine lv_iload_n (pc := 18) hx hb d_M_refusal_18 rfl (lv_at hl 2 rfl) ?_
      refine lv_iconst (pc := 19) (v := (-1)) hx hb d_M_refusal_19 (by decide) ?_
      refine lv_icmp_eq (pc := 20) (tgt := 31) hx hb d_M_refusal_20 (by decide) (fun c_8 => ?_) (fun c_8 => ?_)
      · refine lv_iconst (pc := 31) (v := 2) hx hb d_M_refusal_31 (by decide) ?_
        exact ro_iret (pc := 32) hx hb hr hlk hQ (by simp [refF, c_1, c_7, c_8, -Int32.xor_neg_one]) d_M_refusal_32
      · refine lv_iload_n (pc := 23) hx hb d_M_refusal_23 rfl (lv_at hl 0 rfl) ?_
        refine lv_if_eq (pc := 24) (tgt := 33) hx hb d_M_refusal_24 (by decide) (fun c_9 => ?_) (fun c_9 => absurd rfl c_9)
        refine lv_aload_n (pc := 33) hx hb d_M_refusal_33 rfl (lv_at hl 1 rfl) ?_
        refine va_get (pc := 34) (D := D) (ci := 2) (v := .int md) (C := cn_M) (T := fT_M) (N := 6) hx hb hts in_M hown hX.1 hP 0 rfl rfl 1 (by decide) (hts _ kf_M_16) (fun _ h9 => h9) rfl d_M_refusal_34 ?_
        refine lv_iconst (pc := 37) (v := 1) hx hb d_M_refusal_37 (by decide) ?_
        refine lv_icmp_eq (pc := 38) (tgt := 45) hx hb d_M_refusal_38 (by decide) (fun c_10 => ?_) (fun c_10 => ?_)
        · refine lv_iconst (pc := 45) (v := 0) hx hb d_M_refusal_45 (by decide) ?_
          exact ro_iret (pc := 46) hx hb hr hlk hQ (by simp [refF, c_1, c_7, c_8, c_9, c_10, -Int32.xor_neg_one]) d_M_refusal_46
        · refine lv_iload_n (pc := 41) hx hb d_M_refusal_41 rfl (lv_at hl 0 rfl) ?_
          refine lv_if_eq (pc := 42) (tgt := 47) hx hb d_M_refusal_42 (by decide) (fun c_11 => ?_) (fun c_11 => absurd c_9 c_11)
          refine lv_aload_n (pc := 47) hx hb d_M_refusal_47 rfl (lv_at hl 1 rfl) ?_
          refine va_get (pc := 48) (D := D) (ci := 2) (v := .int md) (C := cn_M) (T := fT_M) (N := 6) hx hb hts in_M hown hX.1 hP 0 rfl rfl 1 (by decide) (hts _ kf_M_16) (fun _ h9 => h9) rfl d_M_refusal_48 ?_
          refine lv_if_ne (pc := 51) (tgt := 56) hx hb d_M_refusal_51 (by decide) (fun c_12 => ?_) (fun c_12 => ?_)
          · refine lv_aload_n (pc := 56) hx hb d_M_refusal_56 rfl (lv_at hl 1 rfl) ?_
            refine va_get (pc := 57) (D := D) (ci := 2) (v := .int md) (C := cn_M) (T := fT_M) (N := 6) hx hb hts in_M hown hX.1 hP 0 rfl rfl 1 (by decide) (hts _ kf_M_16) (fun _ h9 => h9) rfl d_M_refusal_57 ?_
            refine lv_iconst (pc := 60) (v := 3) hx hb d_M_refusal_60 (by decide) ?_
            refine lv_icmp_ne (pc := 61) (tgt := 91) hx hb d_M_refusal_61 (by decide) (fun c_13 => ?_) (fun c_13 => ?_)
            · refine lv_iconst (pc := 91) (v := 0) hx hb d_M_refusal_91 (by decide) ?_
              refine lv_istore (pc := 92) (lv' := [(4, .int 0), (3, .int 0), (0, .ref h), (1, .int x), (2, .int (bI w))]) hx hb d_M_refusal_92 hl (by decide) rfl (fun ls hl => ?_)
              refine lv_iload (pc := 94) hx hb d_M_refusal_94 (lv_at hl 0 rfl) ?_
              refine lv_if_eq (pc := 96) (tgt := 103) hx hb d_M_refusal_96 (by decide) (fun c_14 => ?_) (fun c_14 => absurd c_11 c_14)
              refine lv_bipush (pc := 103) (v := 22) hx hb d_M_refusal_103 (by decide) ?_
              exact ro_iret (pc := 105) hx hb hr hlk hQ (by simp [refF, c_1, c_7, c_8, c_9, c_10, c_11, c_12, c_13, c_14, -Int32.xor_neg_one]) d_M_refusal_105
            · refine lv_iload_n (pc := 64) hx hb d_M_refusal_64 rfl (lv_at hl 2 rfl) ?_
              refine lv_bipush (pc := 65) (v := 8) hx hb d_M_refusal_65 (by decide) ?_
              refine lv_icmp_gt (pc := 67) (tgt := 91) hx hb d_M_refusal_67 (by decide) (fun c_15 => ?_) (fun c_15 => ?_)
              · refine lv_iconst (pc := 91) (v := 0) hx hb d_M_refusal_91 (by decide) ?_
                refine lv_istore (pc := 92) (lv' := [(4, .int 0), (3, .int 0), (0, .ref h), (1, .int x), (2, .int (bI w))]) hx hb d_M_refusal_92 hl (by decide) rfl (fun ls hl => ?_)
                refine lv_iload (pc := 94) hx hb d_M_refusal_94 (lv_at hl 0 rfl) ?_
                refine lv_if_eq (pc := 96) (tgt := 103) hx hb d_M_refusal_96 (by decide) (fun c_16 => ?_) (fun c_16 => absurd c_11 c_16)
                refine lv_bipush (pc := 103) (v := 22) hx hb d_M_refusal_103 (by decide) ?_
                exact ro_iret (pc := 105) hx hb hr hlk hQ (by simp [refF, c_1, c_7, c_8, c_9, c_10, c_11, c_12, c_13, Int32.not_le.mpr c_15, c_16, -Int32.xor_neg_one]) d_M_refusal_105
              · refine lv_iload_n (pc := 70) hx hb d_M_refusal_70 rfl (lv_at hl 2 rfl) ?_
                refine lv_bipush (pc := 71) (v := 8) hx hb d_M_refusal_71 (by decide) ?_
                refine lv_icmp_ne (pc := 73) (tgt := 87) hx hb d_M_refusal_73 (by decide) (fun c_17 => ?_) (fun c_17 => ?_)
                · refine lv_iconst (pc := 87) (v := 1) hx hb d_M_refusal_87 (by decide) ?_
                  refine lv_goto (pc := 88) (tgt := 92) hx hb d_M_refusal_88 (by decide) ?_
                  refine lv_istore (pc := 92) (lv' := [(4, .int 1), (3, .int 0), (0, .ref h), (1, .int x), (2, .int (bI w))]) hx hb d_M_refusal_92 hl (by decide) rfl (fun ls hl => ?_)
                  refine lv_iload (pc := 94) hx hb d_M_refusal_94 (lv_at hl 0 rfl) ?_
                  refine lv_if_eq (pc := 96) (tgt := 103) hx hb d_M_refusal_96 (by decide) (fun c_18 => absurd c_18 (by decide)) (fun c_18 => ?_)
                  refine lv_iconst (pc := 99) (v := 0) hx hb d_M_refusal_99 (by decide) ?_
                  refine lv_goto (pc := 100) (tgt := 105) hx hb d_M_refusal_100 (by decide) ?_
                  exact ro_iret (pc := 105) hx hb hr hlk hQ (by simp [refF, c_1, c_7, c_8, c_9, c_10, c_11, c_12, c_13, Int32.not_lt.mp c_15, c_17, c_18, -Int32.xor_neg_one]) d_M_refusal_105
                · refine lv_aload_n (pc := 76) hx hb d_M_refusal_76 rfl (lv_at hl 1 rfl) ?_
                  refine lv_bipush (pc := 77) (v := 18) hx hb d_M_refusal_77 (by decide) ?_
                  refine lv_bipush (pc := 79) (v := 20) hx hb d_M_refusal_79 (by decide) ?_
                  refine ro_V (pc := 81) (As := [.int 18, .int 20]) (rest := []) hx hb hml hl.1 hown hts (c_M_has l D cI cR ad h hk f md tm al ln od 18 (by decide) 20) g_M_57 ⟨Nat.le_of_ble_eq_true rfl, Nat.le_of_ble_eq_true rfl⟩ (va_recv hX.1 hP (ci := 2) (q0 := 0) rfl rfl) (wc_P hP [0, 1] rfl) hX hE rfl (Nat.le_of_ble_eq_true rfl) ⟨Nat.zero_le _, Nat.zero_le _⟩ d_M_refusal_81 ?_
                  refine lv_if_ne (pc := 84) (tgt := 91) hx hb d_M_refusal_84 (by decide) (fun c_19 => ?_) (fun c_19 => ?_)
                  · refine lv_iconst (pc := 91) (v := 0) hx hb d_M_refusal_91 (by decide) ?_
                    refine lv_istore (pc := 92) (lv' := [(4, .int 0), (3, .int 0), (0, .ref h), (1, .int x), (2, .int (bI w))]) hx hb d_M_refusal_92 hl (by decide) rfl (fun ls hl => ?_)
                    refine lv_iload (pc := 94) hx hb d_M_refusal_94 (lv_at hl 0 rfl) ?_
                    refine lv_if_eq (pc := 96) (tgt := 103) hx hb d_M_refusal_96 (by decide) (fun c_20 => ?_) (fun c_20 => absurd c_11 c_20)
                    refine lv_bipush (pc := 103) (v := 22) hx hb d_M_refusal_103 (by decide) ?_
                    exact ro_iret (pc := 105) hx hb hr hlk hQ (by simp [refF, c_1, c_7, c_8, c_9, c_10, c_11, c_12, c_13, Int32.not_lt.mp c_15, c_17, bI_n0.mp c_19, c_20, -Int32.xor_neg_one]) d_M_refusal_105
                  · refine lv_iconst (pc := 87) (v := 1) hx hb d_M_refusal_87 (by decide) ?_
                    refine lv_goto (pc := 88) (tgt := 92) hx hb d_M_refusal_88 (by decide) ?_
                    refine lv_istore (pc := 92) (lv' := [(4, .int 1), (3, .int 0), (0, .ref h), (1, .int x), (2, .int (bI w))]) hx hb d_M_refusal_92 hl (by decide) rfl (fun ls hl => ?_)
                    refine lv_iload (pc := 94) hx hb d_M_refusal_94 (lv_at hl 0 rfl) ?_
                    refine lv_if_eq (pc := 96) (tgt := 103) hx hb d_M_refusal_96 (by decide) (fun c_21 => absurd c_21 (by decide)) (fun c_21 => ?_)
                    refine lv_iconst (pc := 99) (v := 0) hx hb d_M_refusal_99 (by decide) ?_
                    refine lv_goto (pc := 100) (tgt := 105) hx hb d_M_refusal_100 (by decide) ?_
                    exact ro_iret (pc := 105) hx hb hr hlk hQ (by simp [refF, c_1, c_7, c_8, c_9, c_10, c_11, c_12, c_13, Int32.not_lt.mp c_15, c_17, bI_0.mp c_19, c_21, -Int32.xor_neg_one]) d_M_refusal_105
          · refine lv_iconst (pc := 54) (v := 2) hx hb d_M_refusal_54 (by decide) ?_
            exact ro_iret (pc := 55) hx hb hr hlk hQ (by simp [refF, c_1, c_7, c_8, c_9, c_10, c_11, c_12, -Int32.xor_neg_one]) d_M_refusal_55
    · refine lv_iconst (pc := 12) (v := 1) hx hb d_M_refusal_12 (by decide) ?_
      refine lv_goto (pc := 13) (tgt := 17) hx hb d_M_refusal_13 (by decide) ?_
      refine lv_istore_n (pc := 17) (lv' := [(3, .int 1), (0, .ref h), (1, .int x), (2, .int (bI w))]) hx hb d_M_refusal_17 rfl hl (by decide) rfl (fun ls hl => ?_)
      refine lv_iload_n (pc := 18) hx hb d_M_refusal_18 rfl (lv_at hl 2 rfl) ?_
      refine lv_iconst (pc := 19) (v := (-1)) hx hb d_M_refusal_19 (by decide) ?_
      refine lv_icmp_eq (pc := 20) (tgt := 31) hx hb d_M_refusal_20 (by decide) (fun c_22 => absurd (c_7.symm.trans c_22) (by decide)) (fun c_22 => ?_)
      refine lv_iload_n (pc := 23) hx hb d_M_refusal_23 rfl (lv_at hl 0 rfl) ?_
      refine lv_if_eq (pc := 24) (tgt := 33) hx hb d_M_refusal_24 (by decide) (fun c_23 => absurd c_23 (by decide)) (fun c_23 => ?_)
      refine lv_iload_n (pc := 27) hx hb d_M_refusal_27 rfl (lv_at hl 3 rfl) ?_
      refine lv_if_eq (pc := 28) (tgt := 33) hx hb d_M_refusal_28 (by decide) (fun c_24 => ?_) (fun c_24 => ?_)
      · refine lv_aload_n (pc := 33) hx hb d_M_refusal_33 rfl (lv_at hl 1 rfl) ?_
        refine va_get (pc := 34) (D := D) (ci := 2) (v := .int md) (C := cn_M) (T := fT_M) (N := 6) hx hb hts in_M hown hX.1 hP 0 rfl rfl 1 (by decide) (hts _ kf_M_16) (fun _ h9 => h9) rfl d_M_refusal_34 ?_
        refine lv_iconst (pc := 37) (v := 1) hx hb d_M_refusal_37 (by decide) ?_
        refine lv_icmp_eq (pc := 38) (tgt := 45) hx hb d_M_refusal_38 (by decide) (fun c_25 => ?_) (fun c_25 => ?_)
        · refine lv_iconst (pc := 45) (v := 0) hx hb d_M_refusal_45 (by decide) ?_
          exact ro_iret (pc := 46) hx hb hr hlk hQ (by simp [refF, c_1, c_7, c_22, c_23, bI_0.mp c_24, c_25, -Int32.xor_neg_one]) d_M_refusal_46
        · refine lv_iload_n (pc := 41) hx hb d_M_refusal_41 rfl (lv_at hl 0 rfl) ?_
          refine lv_if_eq (pc := 42) (tgt := 47) hx hb d_M_refusal_42 (by decide) (fun c_26 => absurd c_26 c_23) (fun c_26 => ?_)
          refine lv_iconst (pc := 45) (v := 0) hx hb d_M_refusal_45 (by decide) ?_
          exact ro_iret (pc := 46) hx hb hr hlk hQ (by simp [refF, c_1, c_7, c_22, c_23, bI_0.mp c_24, c_25, c_26, -Int32.xor_neg_one]) d_M_refusal_46
      · refine lv_iconst (pc := 31) (v := 2) hx hb d_M_refusal_31 (by decide) ?_
        exact ro_iret (pc := 32) hx hb hr hlk hQ (by simp [refF, c_1, c_7, c_22, c_23, bI_n0.mp c_24, -Int32.xor_neg_one]) d_M_refusal_32
set_option maxHeartbeats 4000000 in
set_option maxRecDepth 100000 in
theorem c_M_old (l : Launch) (D : va_G) (cI cR : ClassId) (ad : Nat → Nat) (h hk : Nat) (f : Nat → Int32) (md : Int32) (tm al : Int64) (ln : Bool) (od : Int32)  : RO l y_M_old b_M_old 1 (some .int) 0 0 D cI cR ad (wM cI h hk f md tm al ln od) [.ref h] (.int od) := by
  refine ro_ofW (by decide) (Nat.le_of_ble_eq_true rfl) ?_
  intro p e s m below meth c args Q ls hx hb hr hml hown hts hlk hP hX hE hl hQ
  have hown : s.vm.findClass cn_M = some m.cls := hown
  have hP : va_P D cls_ [(h, .inr (2, [.ref hk, .int md, .long tm, .long al, .int (bI ln), .int od])), (hk, .inl (cI, 29, .inl f))] s.heap := hP
  have hl : lv_has ls 1 [(0, .ref h)] := hl
  refine lv_aload_n (pc := 0) hx hb d_M_old_0 rfl (lv_at hl 0 rfl) ?_
  refine va_get (pc := 1) (D := D) (ci := 2) (v := .int od) (C := cn_M) (T := fT_M) (N := 6) hx hb hts in_M hown hX.1 hP 0 rfl rfl 5 (by decide) (hts _ kf_M_33) (fun _ h9 => h9) rfl d_M_old_1 ?_
  exact ro_iret (pc := 4) hx hb hr hlk hQ rfl d_M_old_4
set_option maxHeartbeats 4000000 in
set_option maxRecDepth 100000 in
theorem c_M_control (l : Launch) (D : va_G) (cI cR : ClassId) (ad : Nat → Nat) (h hk : Nat) (f : Nat → Int32) (md : Int32) (tm al : Int64) (ln : Bool) (od : Int32) (n : Int32) : RO l y_M_control b_M_control 3 (some .int) 2 42 D cI cR ad (wM cI h hk f md tm al ln od) [.ref h, .int n] (.int (ctlF f tm al ln n)) := by
  refine ro_ofW (by decide) (Nat.le_of_ble_eq_true rfl) ?_
  intro p e s m below meth c args Q ls hx hb hr hml hown hts hlk hP hX hE hl hQ
  have hown : s.vm.findClass cn_M = some m.cls := hown
  have hP : va_P D cls_ [(h, .inr (2, [.ref hk, .int md, .long tm, .long al, .int (bI ln), .int od])), (hk, .inl (cI, 29, .inl f))] s.heap := hP
  have hl : lv_has ls 3 [(0, .ref h), (1, .int n)] := hl
  refine lv_iload_n (pc := 0) hx hb d_M_control_0 rfl (lv_at hl 1 rfl) ?_
  refine ro_S (pc := 1) (As := [.int n]) (rest := []) (wc := []) hx hb hml hl.1 hown hts (c_M_placeOf l D cI cR ad n) g_M_61 ⟨Nat.le_of_ble_eq_true rfl, Nat.le_of_ble_eq_true rfl⟩ (wc_P hP [] rfl) hX hE rfl (Nat.le_of_ble_eq_true rfl) ⟨Nat.zero_le _, Nat.zero_le _⟩ d_M_control_1 ?_
  refine lv_istore_n (pc := 4) (lv' := [(2, .int (placeF n)), (0, .ref h), (1, .int n)]) hx hb d_M_control_4 rfl hl (by decide) rfl (fun ls hl => ?_)
  refine lv_iload_n (pc := 5) hx hb d_M_control_5 rfl (lv_at hl 0 rfl) ?_
  refine lv_iconst (pc := 6) (v := (-1)) hx hb d_M_control_6 (by decide) ?_
  refine lv_icmp_ne (pc := 7) (tgt := 14) hx hb d_M_control_7 (by decide) (fun c_1 => ?_) (fun c_1 => ?_)
  · refine lv_aload_n (pc := 14) hx hb d_M_control_14 rfl (lv_at hl 1 rfl) ?_
    refine lv_iload_n (pc := 15) hx hb d_M_control_15 rfl (lv_at hl 0 rfl) ?_
    refine ro_V (pc := 16) (As := [.int (placeF n)]) (rest := []) hx hb hml hl.1 hown hts (c_M_tells l D cI cR ad h hk f md tm al ln od (placeF n) (pl_in c_1)) g_M_68 ⟨Nat.le_of_ble_eq_true rfl, Nat.le_of_ble_eq_true rfl⟩ (va_recv hX.1 hP (ci := 2) (q0 := 0) rfl rfl) (wc_P hP [0, 1] rfl) hX hE rfl (Nat.le_of_ble_eq_true rfl) ⟨Nat.zero_le _, Nat.zero_le _⟩ d_M_control_16 ?_
    exact ro_iret (pc := 19) hx hb hr hlk hQ (by first | (simp only [ctlF, if_neg c_1]; done) | (simp [ctlF, c_1]; done)) d_M_control_19
  · refine lv_iconst (pc := 10) (v := 0) hx hb d_M_control_10 (by decide) ?_
    refine lv_goto (pc := 11) (tgt := 19) hx hb d_M_control_11 (by decide) ?_
    exact ro_iret (pc := 19) hx hb hr hlk hQ (by first | (simp only [ctlF, if_pos c_1]; done) | (simp [ctlF, c_1]; done)) d_M_control_19
set_option maxHeartbeats 4000000 in
set_option maxRecDepth 100000 in
theorem c_M_used (l : Launch) (D : va_G) (cI cR : ClassId) (ad : Nat → Nat) (h hk : Nat) (f : Nat → Int32) (md : Int32) (tm al : Int64) (ln : Bool) (od : Int32)  : RO l y_M_used b_M_used 3 (some .int) 1 21 D cI cR ad (wM cI h hk f md tm al ln od) [.ref h] (.int (usedF f tm al ln 29)) := by
  refine ro_ofW (by decide) (Nat.le_of_ble_eq_true rfl) ?_
  intro p e s m below meth c args Q ls hx hb hr hml hown hts hlk hP hX hE hl hQ
  have hown : s.vm.findClass cn_M = some m.cls := hown
  have hP : va_P D cls_ [(h, .inr (2, [.ref hk, .int md, .long tm, .long al, .int (bI ln), .int od])), (hk, .inl (cI, 29, .inl f))] s.heap := hP
  have hl : lv_has ls 3 [(0, .ref h)] := hl
  have loop : ∀ (n k : Nat) (ls : Array Slot), k ≤ 29 → 30 ≤ k + n → lv_has ls 3 [(0, .ref h), (1, .int (usedF f tm al ln k)), (2, .int (nI k))] → W p l e (rmz 1 21) s m args below meth c s.heap [] 0 0 Q (F0 m 4 ls []) := by
    intro n
    induction n with
    | zero => intro k ls h1 h2 hl; exact absurd h2 (by omega)
    | succ n ih =>
      intro k ls h1 h2 hl
      refine lv_iload_n (pc := 4) hx hb d_M_used_4 rfl (lv_at hl 2 rfl) ?_
      refine lv_bipush (pc := 5) (v := 29) hx hb d_M_used_5 (by decide) ?_
      refine lv_icmp_ge (pc := 7) (tgt := 32) hx hb d_M_used_7 (by decide) (fun c_1 => ?_) (fun c_1 => ?_)
      · refine lv_iload_n (pc := 32) hx hb d_M_used_32 rfl (lv_at hl 1 rfl) ?_
        have hk9 : k = 29 := by have h9 := (nI_leI (a := 29) (b := k) (by decide) (by omega)).mp c_1; omega
        exact ro_iret (pc := 33) hx hb hr hlk hQ (by rw [hk9]) d_M_used_33
      · have hlt : k < 29 := by
          rcases Nat.lt_or_ge k 29 with q | q
          · exact q
          · exact absurd ((nI_leI (a := 29) (b := k) (by decide) (by omega)).mpr q) c_1
        refine lv_iload_n (pc := 10) hx hb d_M_used_10 rfl (lv_at hl 1 rfl) ?_
        refine lv_aload_n (pc := 11) hx hb d_M_used_11 rfl (lv_at hl 0 rfl) ?_
        refine lv_iload_n (pc := 12) hx hb d_M_used_12 rfl (lv_at hl 2 rfl) ?_
        refine ro_V (pc := 13) (As := [.int (nI k)]) (rest := [.int (usedF f tm al ln k)]) hx hb hml hl.1 hown hts (c_M_tells l D cI cR ad h hk f md tm al ln od (nI k) (vp_in_nI hlt (by decide))) g_M_68 ⟨Nat.le_of_ble_eq_true rfl, Nat.le_of_ble_eq_true rfl⟩ (va_recv hX.1 hP (ci := 2) (q0 := 0) rfl rfl) (wc_P hP [0, 1] rfl) hX hE rfl (Nat.le_of_ble_eq_true rfl) ⟨Nat.zero_le _, Nat.zero_le _⟩ d_M_used_13 ?_
        refine lv_if_eq (pc := 16) (tgt := 23) hx hb d_M_used_16 (by decide) (fun c_2 => ?_) (fun c_2 => ?_)
        · refine lv_iconst (pc := 23) (v := 0) hx hb d_M_used_23 (by decide) ?_
          refine lv_iadd (pc := 24) hx hb d_M_used_24 ?_
          refine lv_istore_n (pc := 25) (lv' := [(1, .int ((usedF f tm al ln k) + 0)), (0, .ref h), (2, .int (nI k))]) hx hb d_M_used_25 rfl hl (by decide) rfl (fun ls hl => ?_)
          refine lv_iinc (pc := 26) (v := (nI k) + 1) (lv' := [(2, .int ((nI k) + 1)), (1, .int ((usedF f tm al ln k) + 0)), (0, .ref h)]) hx hb d_M_used_26 hl (k := 2) rfl rfl (by decide) rfl (fun ls hl => ?_)
          refine lv_goto (pc := 29) (tgt := 4) hx hb d_M_used_29 (by decide) ?_
          exact ih (k + 1) ls (by omega) (by omega) (by rw [show usedF f tm al ln (k + 1) = usedF f tm al ln k + 0 by simp only [usedF, if_pos c_2], ← nI_1]; exact lv_sub hl [2, 1, 0] rfl)
        · refine lv_iconst (pc := 19) (v := 1) hx hb d_M_used_19 (by decide) ?_
          refine lv_goto (pc := 20) (tgt := 24) hx hb d_M_used_20 (by decide) ?_
          refine lv_iadd (pc := 24) hx hb d_M_used_24 ?_
          refine lv_istore_n (pc := 25) (lv' := [(1, .int ((usedF f tm al ln k) + 1)), (0, .ref h), (2, .int (nI k))]) hx hb d_M_used_25 rfl hl (by decide) rfl (fun ls hl => ?_)
          refine lv_iinc (pc := 26) (v := (nI k) + 1) (lv' := [(2, .int ((nI k) + 1)), (1, .int ((usedF f tm al ln k) + 1)), (0, .ref h)]) hx hb d_M_used_26 hl (k := 2) rfl rfl (by decide) rfl (fun ls hl => ?_)
          refine lv_goto (pc := 29) (tgt := 4) hx hb d_M_used_29 (by decide) ?_
          exact ih (k + 1) ls (by omega) (by omega) (by rw [show usedF f tm al ln (k + 1) = usedF f tm al ln k + 1 by simp only [usedF, if_neg c_2], ← nI_1]; exact lv_sub hl [2, 1, 0] rfl)
  refine lv_iconst (pc := 0) (v := 0) hx hb d_M_used_0 (by decide) ?_
  refine lv_istore_n (pc := 1) (lv' := [(1, .int 0), (0, .ref h)]) hx hb d_M_used_1 rfl hl (by decide) rfl (fun ls hl => ?_)
  refine lv_iconst (pc := 2) (v := 0) hx hb d_M_used_2 (by decide) ?_
  refine lv_istore_n (pc := 3) (lv' := [(2, .int 0), (1, .int 0), (0, .ref h)]) hx hb d_M_used_3 rfl hl (by decide) rfl (fun ls hl => ?_)
  exact loop 30 0 ls (by decide) (by decide) (lv_sub hl [2, 1, 0] rfl)
set_option maxHeartbeats 4000000 in
set_option maxRecDepth 100000 in
theorem c_M_due (l : Launch) (D : va_G) (cI cR : ClassId) (ad : Nat → Nat) (h hk : Nat) (f : Nat → Int32) (md : Int32) (tm al : Int64) (ln : Bool) (od : Int32)  : RO l y_M_due b_M_due 6 (some .int) 1 23 D cI cR ad (wM cI h hk f md tm al ln od) [.ref h] (.int (dueF f md tm al ln)) := by
  refine ro_ofW (by decide) (Nat.le_of_ble_eq_true rfl) ?_
  intro p e s m below meth c args Q ls hx hb hr hml hown hts hlk hP hX hE hl hQ
  have hown : s.vm.findClass cn_M = some m.cls := hown
  have hP : va_P D cls_ [(h, .inr (2, [.ref hk, .int md, .long tm, .long al, .int (bI ln), .int od])), (hk, .inl (cI, 29, .inl f))] s.heap := hP
  have hl : lv_has ls 6 [(0, .ref h)] := hl
  refine lv_aload_n (pc := 0) hx hb d_M_due_0 rfl (lv_at hl 0 rfl) ?_
  refine lv_bipush (pc := 1) (v := 7) hx hb d_M_due_1 (by decide) ?_
  refine ro_V (pc := 3) (As := [.int 7]) (rest := []) hx hb hml hl.1 hown hts (c_M_tells l D cI cR ad h hk f md tm al ln od 7 (vp_in_nI (n := 7) (N := 29) (by decide) (by decide))) g_M_68 ⟨Nat.le_of_ble_eq_true rfl, Nat.le_of_ble_eq_true rfl⟩ (va_recv hX.1 hP (ci := 2) (q0 := 0) rfl rfl) (wc_P hP [0, 1] rfl) hX hE rfl (Nat.le_of_ble_eq_true rfl) ⟨Nat.zero_le _, Nat.zero_le _⟩ d_M_due_3 ?_
  refine lv_aload_n (pc := 6) hx hb d_M_due_6 rfl (lv_at hl 0 rfl) ?_
  refine va_get (pc := 7) (D := D) (ci := 2) (v := .ref hk) (C := cn_M) (T := fT_M) (N := 6) hx hb hts in_M hown hX.1 hP 0 rfl rfl 0 (by decide) (hts _ kf_M_7) (fun _ h9 => h9) rfl d_M_due_7 ?_
  refine lv_iconst (pc := 10) (v := 1) hx hb d_M_due_10 (by decide) ?_
  refine rd_i (pc := 11) hx hb hX hP 1 rfl 1 (by decide) (vp_in_nI (n := 1) (N := 29) (by decide) (by decide)) d_M_due_11 ?_
  refine lv_iand (pc := 12) hx hb d_M_due_12 ?_
  refine lv_bipush (pc := 13) (v := 9) hx hb d_M_due_13 (by decide) ?_
  refine lv_iconst (pc := 15) (v := 1) hx hb d_M_due_15 (by decide) ?_
  refine lv_iconst (pc := 16) (v := 5) hx hb d_M_due_16 (by decide) ?_
  refine ro_S (pc := 17) (As := [.int ((tellsF f tm al ln 7) &&& (f 1)), .int 9, .int 1, .int 5]) (rest := []) (wc := []) hx hb hml hl.1 hown hts (c_M_firstOf l D cI cR ad ((tellsF f tm al ln 7) &&& (f 1)) 9 1 5) g_M_75 ⟨Nat.le_of_ble_eq_true rfl, Nat.le_of_ble_eq_true rfl⟩ (wc_P hP [] rfl) hX hE rfl (Nat.le_of_ble_eq_true rfl) ⟨Nat.zero_le _, Nat.zero_le _⟩ d_M_due_17 ?_
  refine lv_istore_n (pc := 20) (lv' := [(1, .int (firF ((tellsF f tm al ln 7) &&& (f 1)) 9 1 5)), (0, .ref h)]) hx hb d_M_due_20 rfl hl (by decide) rfl (fun ls hl => ?_)
  refine lv_aload_n (pc := 21) hx hb d_M_due_21 rfl (lv_at hl 1 rfl) ?_
  refine va_get (pc := 22) (D := D) (ci := 2) (v := .ref hk) (C := cn_M) (T := fT_M) (N := 6) hx hb hts in_M hown hX.1 hP 0 rfl rfl 0 (by decide) (hts _ kf_M_7) (fun _ h9 => h9) rfl d_M_due_22 ?_
  refine lv_bipush (pc := 25) (v := 24) hx hb d_M_due_25 (by decide) ?_
  refine rd_i (pc := 27) hx hb hX hP 1 rfl 24 (by decide) (vp_in_nI (n := 24) (N := 29) (by decide) (by decide)) d_M_due_27 ?_
  refine lv_aload_n (pc := 28) hx hb d_M_due_28 rfl (lv_at hl 1 rfl) ?_
  refine va_get (pc := 29) (D := D) (ci := 2) (v := .ref hk) (C := cn_M) (T := fT_M) (N := 6) hx hb hts in_M hown hX.1 hP 0 rfl rfl 0 (by decide) (hts _ kf_M_7) (fun _ h9 => h9) rfl d_M_due_29 ?_
  refine lv_bipush (pc := 32) (v := 21) hx hb d_M_due_32 (by decide) ?_
  refine rd_i (pc := 34) hx hb hX hP 1 rfl 21 (by decide) (vp_in_nI (n := 21) (N := 29) (by decide) (by decide)) d_M_due_34 ?_
  refine lv_iand (pc := 35) hx hb d_M_due_35 ?_
  refine lv_aload_n (pc := 36) hx hb d_M_due_36 rfl (lv_at hl 1 rfl) ?_
  refine va_get (pc := 37) (D := D) (ci := 2) (v := .ref hk) (C := cn_M) (T := fT_M) (N := 6) hx hb hts in_M hown hX.1 hP 0 rfl rfl 0 (by decide) (hts _ kf_M_7) (fun _ h9 => h9) rfl d_M_due_37 ?_
  refine lv_bipush (pc := 40) (v := 20) hx hb d_M_due_40 (by decide) ?_
  refine rd_i (pc := 42) hx hb hX hP 1 rfl 20 (by decide) (vp_in_nI (n := 20) (N := 29) (by decide) (by decide)) d_M_due_42 ?_
  refine lv_iconst (pc := 43) (v := (-1)) hx hb d_M_due_43 (by decide) ?_
  refine lv_ixor (pc := 44) hx hb d_M_due_44 ?_
  refine lv_iand (pc := 45) hx hb d_M_due_45 ?_
  refine lv_bipush (pc := 46) (v := 10) hx hb d_M_due_46 (by decide) ?_
  refine lv_iconst (pc := 48) (v := 2) hx hb d_M_due_48 (by decide) ?_
  refine lv_bipush (pc := 49) (v := 6) hx hb d_M_due_49 (by decide) ?_
  refine ro_S (pc := 51) (As := [.int (((f 24) &&& (f 21)) &&& ((f 20) ^^^ (-1))), .int 10, .int 2, .int 6]) (rest := []) (wc := []) hx hb hml hl.1 hown hts (c_M_firstOf l D cI cR ad (((f 24) &&& (f 21)) &&& ((f 20) ^^^ (-1))) 10 2 6) g_M_75 ⟨Nat.le_of_ble_eq_true rfl, Nat.le_of_ble_eq_true rfl⟩ (wc_P hP [] rfl) hX hE rfl (Nat.le_of_ble_eq_true rfl) ⟨Nat.zero_le _, Nat.zero_le _⟩ d_M_due_51 ?_
  refine lv_istore_n (pc := 54) (lv' := [(2, .int (firF (((f 24) &&& (f 21)) &&& ((f 20) ^^^ (-1))) 10 2 6)), (1, .int (firF ((tellsF f tm al ln 7) &&& (f 1)) 9 1 5)), (0, .ref h)]) hx hb d_M_due_54 rfl hl (by decide) rfl (fun ls hl => ?_)
  refine lv_aload_n (pc := 55) hx hb d_M_due_55 rfl (lv_at hl 2 rfl) ?_
  refine va_get (pc := 56) (D := D) (ci := 2) (v := .int md) (C := cn_M) (T := fT_M) (N := 6) hx hb hts in_M hown hX.1 hP 0 rfl rfl 1 (by decide) (hts _ kf_M_16) (fun _ h9 => h9) rfl d_M_due_56 ?_
  refine lv_iconst (pc := 59) (v := 1) hx hb d_M_due_59 (by decide) ?_
  refine lv_icmp_ne (pc := 60) (tgt := 72) hx hb d_M_due_60 (by decide) (fun c_1 => ?_) (fun c_1 => ?_)
  · refine lv_iconst (pc := 72) (v := 1) hx hb d_M_due_72 (by decide) ?_
    refine lv_goto (pc := 73) (tgt := 77) hx hb d_M_due_73 (by decide) ?_
    refine lv_istore_n (pc := 77) (lv' := [(3, .int 1), (2, .int (firF (((f 24) &&& (f 21)) &&& ((f 20) ^^^ (-1))) 10 2 6)), (1, .int (firF ((tellsF f tm al ln 7) &&& (f 1)) 9 1 5)), (0, .ref h)]) hx hb d_M_due_77 rfl hl (by decide) rfl (fun ls hl => ?_)
    refine lv_iload_n (pc := 78) hx hb d_M_due_78 rfl (lv_at hl 0 rfl) ?_
    refine lv_if_eq (pc := 79) (tgt := 103) hx hb d_M_due_79 (by decide) (fun c_2 => absurd c_2 (by decide)) (fun c_2 => ?_)
    refine lv_iload_n (pc := 82) hx hb d_M_due_82 rfl (lv_at hl 2 rfl) ?_
    refine lv_iconst (pc := 83) (v := (-1)) hx hb d_M_due_83 (by decide) ?_
    refine lv_icmp_ne (pc := 84) (tgt := 92) hx hb d_M_due_84 (by decide) (fun c_3 => ?_) (fun c_3 => ?_)
    · refine lv_iload_n (pc := 92) hx hb d_M_due_92 rfl (lv_at hl 2 rfl) ?_
      refine lv_iconst (pc := 93) (v := (-1)) hx hb d_M_due_93 (by decide) ?_
      refine lv_icmp_eq (pc := 94) (tgt := 101) hx hb d_M_due_94 (by decide) (fun c_4 => absurd c_4 c_3) (fun c_4 => ?_)
      refine lv_iload_n (pc := 97) hx hb d_M_due_97 rfl (lv_at hl 2 rfl) ?_
      refine lv_goto (pc := 98) (tgt := 102) hx hb d_M_due_98 (by decide) ?_
      exact ro_iret (pc := 102) hx hb hr hlk hQ (by simp [dueF, c_1, c_2, c_3, c_4, -Int32.xor_neg_one]) d_M_due_102
    · refine lv_iload_n (pc := 87) hx hb d_M_due_87 rfl (lv_at hl 1 rfl) ?_
      refine lv_iconst (pc := 88) (v := (-1)) hx hb d_M_due_88 (by decide) ?_
      refine lv_icmp_eq (pc := 89) (tgt := 103) hx hb d_M_due_89 (by decide) (fun c_5 => ?_) (fun c_5 => ?_)
      · refine lv_aload_n (pc := 103) hx hb d_M_due_103 rfl (lv_at hl 3 rfl) ?_
        refine va_get (pc := 104) (D := D) (ci := 2) (v := .ref hk) (C := cn_M) (T := fT_M) (N := 6) hx hb hts in_M hown hX.1 hP 0 rfl rfl 0 (by decide) (hts _ kf_M_7) (fun _ h9 => h9) rfl d_M_due_104 ?_
        refine lv_bipush (pc := 107) (v := 24) hx hb d_M_due_107 (by decide) ?_
        refine rd_i (pc := 109) hx hb hX hP 1 rfl 24 (by decide) (vp_in_nI (n := 24) (N := 29) (by decide) (by decide)) d_M_due_109 ?_
        refine lv_aload_n (pc := 110) hx hb d_M_due_110 rfl (lv_at hl 3 rfl) ?_
        refine va_get (pc := 111) (D := D) (ci := 2) (v := .ref hk) (C := cn_M) (T := fT_M) (N := 6) hx hb hts in_M hown hX.1 hP 0 rfl rfl 0 (by decide) (hts _ kf_M_7) (fun _ h9 => h9) rfl d_M_due_111 ?_
        refine lv_bipush (pc := 114) (v := 21) hx hb d_M_due_114 (by decide) ?_
        refine rd_i (pc := 116) hx hb hX hP 1 rfl 21 (by decide) (vp_in_nI (n := 21) (N := 29) (by decide) (by decide)) d_M_due_116 ?_
        refine lv_iand (pc := 117) hx hb d_M_due_117 ?_
        refine lv_aload_n (pc := 118) hx hb d_M_due_118 rfl (lv_at hl 3 rfl) ?_
        refine va_get (pc := 119) (D := D) (ci := 2) (v := .ref hk) (C := cn_M) (T := fT_M) (N := 6) hx hb hts in_M hown hX.1 hP 0 rfl rfl 0 (by decide) (hts _ kf_M_7) (fun _ h9 => h9) rfl d_M_due_119 ?_
        refine lv_bipush (pc := 122) (v := 20) hx hb d_M_due_122 (by decide) ?_
        refine rd_i (pc := 124) hx hb hX hP 1 rfl 20 (by decide) (vp_in_nI (n := 20) (N := 29) (by decide) (by decide)) d_M_due_124 ?_
        refine lv_iand (pc := 125) hx hb d_M_due_125 ?_
        refine lv_bipush (pc := 126) (v := 10) hx hb d_M_due_126 (by decide) ?_
        refine lv_iconst (pc := 128) (v := 2) hx hb d_M_due_128 (by decide) ?_
        refine lv_bipush (pc := 129) (v := 6) hx hb d_M_due_129 (by decide) ?_
        refine ro_S (pc := 131) (As := [.int (((f 24) &&& (f 21)) &&& (f 20)), .int 10, .int 2, .int 6]) (rest := []) (wc := []) hx hb hml hl.1 hown hts (c_M_firstOf l D cI cR ad (((f 24) &&& (f 21)) &&& (f 20)) 10 2 6) g_M_75 ⟨Nat.le_of_ble_eq_true rfl, Nat.le_of_ble_eq_true rfl⟩ (wc_P hP [] rfl) hX hE rfl (Nat.le_of_ble_eq_true rfl) ⟨Nat.zero_le _, Nat.zero_le _⟩ d_M_due_131 ?_
        refine lv_istore (pc := 134) (lv' := [(4, .int (firF (((f 24) &&& (f 21)) &&& (f 20)) 10 2 6)), (3, .int 1), (2, .int (firF (((f 24) &&& (f 21)) &&& ((f 20) ^^^ (-1))) 10 2 6)), (1, .int (firF ((tellsF f tm al ln 7) &&& (f 1)) 9 1 5)), (0, .ref h)]) hx hb d_M_due_134 hl (by decide) rfl (fun ls hl => ?_)
        refine lv_aload_n (pc := 136) hx hb d_M_due_136 rfl (lv_at hl 4 rfl) ?_
        refine va_get (pc := 137) (D := D) (ci := 2) (v := .int md) (C := cn_M) (T := fT_M) (N := 6) hx hb hts in_M hown hX.1 hP 0 rfl rfl 1 (by decide) (hts _ kf_M_16) (fun _ h9 => h9) rfl d_M_due_137 ?_
        refine lv_iconst (pc := 140) (v := 2) hx hb d_M_due_140 (by decide) ?_
        refine lv_icmp_eq (pc := 141) (tgt := 162) hx hb d_M_due_141 (by decide) (fun c_6 => ?_) (fun c_6 => ?_)
        · refine lv_iconst (pc := 162) (v := 1) hx hb d_M_due_162 (by decide) ?_
          refine lv_goto (pc := 163) (tgt := 167) hx hb d_M_due_163 (by decide) ?_
          refine lv_istore (pc := 167) (lv' := [(5, .int 1), (4, .int (firF (((f 24) &&& (f 21)) &&& (f 20)) 10 2 6)), (3, .int 1), (2, .int (firF (((f 24) &&& (f 21)) &&& ((f 20) ^^^ (-1))) 10 2 6)), (1, .int (firF ((tellsF f tm al ln 7) &&& (f 1)) 9 1 5)), (0, .ref h)]) hx hb d_M_due_167 hl (by decide) rfl (fun ls hl => ?_)
          refine lv_iload (pc := 169) hx hb d_M_due_169 (lv_at hl 0 rfl) ?_
          refine lv_if_eq (pc := 171) (tgt := 190) hx hb d_M_due_171 (by decide) (fun c_7 => absurd c_7 c_2) (fun c_7 => ?_)
          refine lv_iload (pc := 174) hx hb d_M_due_174 (lv_at hl 1 rfl) ?_
          refine lv_iconst (pc := 176) (v := (-1)) hx hb d_M_due_176 (by decide) ?_
          refine lv_icmp_eq (pc := 177) (tgt := 190) hx hb d_M_due_177 (by decide) (fun c_8 => ?_) (fun c_8 => ?_)
          · refine lv_iconst (pc := 190) (v := (-1)) hx hb d_M_due_190 (by decide) ?_
            exact ro_iret (pc := 191) hx hb hr hlk hQ (by simp [dueF, c_1, c_2, c_3, c_5, c_6, c_7, c_8, -Int32.xor_neg_one]) d_M_due_191
          · refine lv_bipush (pc := 180) (v := 100) hx hb d_M_due_180 (by decide) ?_
            refine lv_iload (pc := 182) hx hb d_M_due_182 (lv_at hl 1 rfl) ?_
            refine lv_iadd (pc := 184) hx hb d_M_due_184 ?_
            refine lv_iconst (pc := 185) (v := 1) hx hb d_M_due_185 (by decide) ?_
            refine lv_isub (pc := 186) hx hb d_M_due_186 ?_
            refine lv_goto (pc := 187) (tgt := 191) hx hb d_M_due_187 (by decide) ?_
            exact ro_iret (pc := 191) hx hb hr hlk hQ (by simp [dueF, c_1, c_2, c_3, c_5, c_6, c_7, c_8, -Int32.xor_neg_one]) d_M_due_191
        · refine lv_aload_n (pc := 144) hx hb d_M_due_144 rfl (lv_at hl 4 rfl) ?_
          refine va_get (pc := 145) (D := D) (ci := 2) (v := .int md) (C := cn_M) (T := fT_M) (N := 6) hx hb hts in_M hown hX.1 hP 0 rfl rfl 1 (by decide) (hts _ kf_M_16) (fun _ h9 => h9) rfl d_M_due_145 ?_
          refine lv_iconst (pc := 148) (v := 3) hx hb d_M_due_148 (by decide) ?_
          refine lv_icmp_ne (pc := 149) (tgt := 166) hx hb d_M_due_149 (by decide) (fun c_9 => ?_) (fun c_9 => ?_)
          · refine lv_iconst (pc := 166) (v := 0) hx hb d_M_due_166 (by decide) ?_
            refine lv_istore (pc := 167) (lv' := [(5, .int 0), (4, .int (firF (((f 24) &&& (f 21)) &&& (f 20)) 10 2 6)), (3, .int 1), (2, .int (firF (((f 24) &&& (f 21)) &&& ((f 20) ^^^ (-1))) 10 2 6)), (1, .int (firF ((tellsF f tm al ln 7) &&& (f 1)) 9 1 5)), (0, .ref h)]) hx hb d_M_due_167 hl (by decide) rfl (fun ls hl => ?_)
            refine lv_iload (pc := 169) hx hb d_M_due_169 (lv_at hl 0 rfl) ?_
            refine lv_if_eq (pc := 171) (tgt := 190) hx hb d_M_due_171 (by decide) (fun c_10 => ?_) (fun c_10 => absurd rfl c_10)
            refine lv_iconst (pc := 190) (v := (-1)) hx hb d_M_due_190 (by decide) ?_
            exact ro_iret (pc := 191) hx hb hr hlk hQ (by simp [dueF, c_1, c_2, c_3, c_5, c_6, c_9, c_10, -Int32.xor_neg_one]) d_M_due_191
          · refine lv_aload_n (pc := 152) hx hb d_M_due_152 rfl (lv_at hl 4 rfl) ?_
            refine lv_bipush (pc := 153) (v := 9) hx hb d_M_due_153 (by decide) ?_
            refine lv_iconst (pc := 155) (v := 1) hx hb d_M_due_155 (by decide) ?_
            refine ro_V (pc := 156) (As := [.int 9, .int 1]) (rest := []) hx hb hml hl.1 hown hts (c_M_has l D cI cR ad h hk f md tm al ln od 9 (by decide) 1) g_M_57 ⟨Nat.le_of_ble_eq_true rfl, Nat.le_of_ble_eq_true rfl⟩ (va_recv hX.1 hP (ci := 2) (q0 := 0) rfl rfl) (wc_P hP [0, 1] rfl) hX hE rfl (Nat.le_of_ble_eq_true rfl) ⟨Nat.zero_le _, Nat.zero_le _⟩ d_M_due_156 ?_
            refine lv_if_eq (pc := 159) (tgt := 166) hx hb d_M_due_159 (by decide) (fun c_11 => ?_) (fun c_11 => ?_)
            · refine lv_iconst (pc := 166) (v := 0) hx hb d_M_due_166 (by decide) ?_
              refine lv_istore (pc := 167) (lv' := [(5, .int 0), (4, .int (firF (((f 24) &&& (f 21)) &&& (f 20)) 10 2 6)), (3, .int 1), (2, .int (firF (((f 24) &&& (f 21)) &&& ((f 20) ^^^ (-1))) 10 2 6)), (1, .int (firF ((tellsF f tm al ln 7) &&& (f 1)) 9 1 5)), (0, .ref h)]) hx hb d_M_due_167 hl (by decide) rfl (fun ls hl => ?_)
              refine lv_iload (pc := 169) hx hb d_M_due_169 (lv_at hl 0 rfl) ?_
              refine lv_if_eq (pc := 171) (tgt := 190) hx hb d_M_due_171 (by decide) (fun c_12 => ?_) (fun c_12 => absurd rfl c_12)
              refine lv_iconst (pc := 190) (v := (-1)) hx hb d_M_due_190 (by decide) ?_
              exact ro_iret (pc := 191) hx hb hr hlk hQ (by simp [dueF, c_1, c_2, c_3, c_5, c_6, c_9, bI_0.mp c_11, c_12, -Int32.xor_neg_one]) d_M_due_191
            · refine lv_iconst (pc := 162) (v := 1) hx hb d_M_due_162 (by decide) ?_
              refine lv_goto (pc := 163) (tgt := 167) hx hb d_M_due_163 (by decide) ?_
              refine lv_istore (pc := 167) (lv' := [(5, .int 1), (4, .int (firF (((f 24) &&& (f 21)) &&& (f 20)) 10 2 6)), (3, .int 1), (2, .int (firF (((f 24) &&& (f 21)) &&& ((f 20) ^^^ (-1))) 10 2 6)), (1, .int (firF ((tellsF f tm al ln 7) &&& (f 1)) 9 1 5)), (0, .ref h)]) hx hb d_M_due_167 hl (by decide) rfl (fun ls hl => ?_)
              refine lv_iload (pc := 169) hx hb d_M_due_169 (lv_at hl 0 rfl) ?_
              refine lv_if_eq (pc := 171) (tgt := 190) hx hb d_M_due_171 (by decide) (fun c_13 => absurd c_13 c_2) (fun c_13 => ?_)
              refine lv_iload (pc := 174) hx hb d_M_due_174 (lv_at hl 1 rfl) ?_
              refine lv_iconst (pc := 176) (v := (-1)) hx hb d_M_due_176 (by decide) ?_
              refine lv_icmp_eq (pc := 177) (tgt := 190) hx hb d_M_due_177 (by decide) (fun c_14 => ?_) (fun c_14 => ?_)
              · refine lv_iconst (pc := 190) (v := (-1)) hx hb d_M_due_190 (by decide) ?_
                exact ro_iret (pc := 191) hx hb hr hlk hQ (by simp [dueF, c_1, c_2, c_3, c_5, c_6, c_9, bI_n0.mp c_11, c_13, c_14, -Int32.xor_neg_one]) d_M_due_191
              · refine lv_bipush (pc := 180) (v := 100) hx hb d_M_due_180 (by decide) ?_
                refine lv_iload (pc := 182) hx hb d_M_due_182 (lv_at hl 1 rfl) ?_
                refine lv_iadd (pc := 184) hx hb d_M_due_184 ?_
                refine lv_iconst (pc := 185) (v := 1) hx hb d_M_due_185 (by decide) ?_
                refine lv_isub (pc := 186) hx hb d_M_due_186 ?_
                refine lv_goto (pc := 187) (tgt := 191) hx hb d_M_due_187 (by decide) ?_
                exact ro_iret (pc := 191) hx hb hr hlk hQ (by simp [dueF, c_1, c_2, c_3, c_5, c_6, c_9, bI_n0.mp c_11, c_13, c_14, -Int32.xor_neg_one]) d_M_due_191
      · refine lv_iload_n (pc := 92) hx hb d_M_due_92 rfl (lv_at hl 2 rfl) ?_
        refine lv_iconst (pc := 93) (v := (-1)) hx hb d_M_due_93 (by decide) ?_
        refine lv_icmp_eq (pc := 94) (tgt := 101) hx hb d_M_due_94 (by decide) (fun c_15 => ?_) (fun c_15 => absurd c_3 c_15)
        refine lv_iload_n (pc := 101) hx hb d_M_due_101 rfl (lv_at hl 1 rfl) ?_
        exact ro_iret (pc := 102) hx hb hr hlk hQ (by simp [dueF, c_1, c_2, c_3, c_5, c_15, -Int32.xor_neg_one]) d_M_due_102
  · refine lv_aload_n (pc := 63) hx hb d_M_due_63 rfl (lv_at hl 2 rfl) ?_
    refine lv_iconst (pc := 64) (v := 0) hx hb d_M_due_64 (by decide) ?_
    refine lv_iconst (pc := 65) (v := 1) hx hb d_M_due_65 (by decide) ?_
    refine ro_V (pc := 66) (As := [.int 0, .int 1]) (rest := []) hx hb hml hl.1 hown hts (c_M_has l D cI cR ad h hk f md tm al ln od 0 (by decide) 1) g_M_57 ⟨Nat.le_of_ble_eq_true rfl, Nat.le_of_ble_eq_true rfl⟩ (va_recv hX.1 hP (ci := 2) (q0 := 0) rfl rfl) (wc_P hP [0, 1] rfl) hX hE rfl (Nat.le_of_ble_eq_true rfl) ⟨Nat.zero_le _, Nat.zero_le _⟩ d_M_due_66 ?_
    refine lv_if_eq (pc := 69) (tgt := 76) hx hb d_M_due_69 (by decide) (fun c_16 => ?_) (fun c_16 => ?_)
    · refine lv_iconst (pc := 76) (v := 0) hx hb d_M_due_76 (by decide) ?_
      refine lv_istore_n (pc := 77) (lv' := [(3, .int 0), (2, .int (firF (((f 24) &&& (f 21)) &&& ((f 20) ^^^ (-1))) 10 2 6)), (1, .int (firF ((tellsF f tm al ln 7) &&& (f 1)) 9 1 5)), (0, .ref h)]) hx hb d_M_due_77 rfl hl (by decide) rfl (fun ls hl => ?_)
      refine lv_iload_n (pc := 78) hx hb d_M_due_78 rfl (lv_at hl 0 rfl) ?_
      refine lv_if_eq (pc := 79) (tgt := 103) hx hb d_M_due_79 (by decide) (fun c_17 => ?_) (fun c_17 => absurd rfl c_17)
      refine lv_aload_n (pc := 103) hx hb d_M_due_103 rfl (lv_at hl 3 rfl) ?_
      refine va_get (pc := 104) (D := D) (ci := 2) (v := .ref hk) (C := cn_M) (T := fT_M) (N := 6) hx hb hts in_M hown hX.1 hP 0 rfl rfl 0 (by decide) (hts _ kf_M_7) (fun _ h9 => h9) rfl d_M_due_104 ?_
      refine lv_bipush (pc := 107) (v := 24) hx hb d_M_due_107 (by decide) ?_
      refine rd_i (pc := 109) hx hb hX hP 1 rfl 24 (by decide) (vp_in_nI (n := 24) (N := 29) (by decide) (by decide)) d_M_due_109 ?_
      refine lv_aload_n (pc := 110) hx hb d_M_due_110 rfl (lv_at hl 3 rfl) ?_
      refine va_get (pc := 111) (D := D) (ci := 2) (v := .ref hk) (C := cn_M) (T := fT_M) (N := 6) hx hb hts in_M hown hX.1 hP 0 rfl rfl 0 (by decide) (hts _ kf_M_7) (fun _ h9 => h9) rfl d_M_due_111 ?_
      refine lv_bipush (pc := 114) (v := 21) hx hb d_M_due_114 (by decide) ?_
      refine rd_i (pc := 116) hx hb hX hP 1 rfl 21 (by decide) (vp_in_nI (n := 21) (N := 29) (by decide) (by decide)) d_M_due_116 ?_
      refine lv_iand (pc := 117) hx hb d_M_due_117 ?_
      refine lv_aload_n (pc := 118) hx hb d_M_due_118 rfl (lv_at hl 3 rfl) ?_
      refine va_get (pc := 119) (D := D) (ci := 2) (v := .ref hk) (C := cn_M) (T := fT_M) (N := 6) hx hb hts in_M hown hX.1 hP 0 rfl rfl 0 (by decide) (hts _ kf_M_7) (fun _ h9 => h9) rfl d_M_due_119 ?_
      refine lv_bipush (pc := 122) (v := 20) hx hb d_M_due_122 (by decide) ?_
      refine rd_i (pc := 124) hx hb hX hP 1 rfl 20 (by decide) (vp_in_nI (n := 20) (N := 29) (by decide) (by decide)) d_M_due_124 ?_
      refine lv_iand (pc := 125) hx hb d_M_due_125 ?_
      refine lv_bipush (pc := 126) (v := 10) hx hb d_M_due_126 (by decide) ?_
      refine lv_iconst (pc := 128) (v := 2) hx hb d_M_due_128 (by decide) ?_
      refine lv_bipush (pc := 129) (v := 6) hx hb d_M_due_129 (by decide) ?_
      refine ro_S (pc := 131) (As := [.int (((f 24) &&& (f 21)) &&& (f 20)), .int 10, .int 2, .int 6]) (rest := []) (wc := []) hx hb hml hl.1 hown hts (c_M_firstOf l D cI cR ad (((f 24) &&& (f 21)) &&& (f 20)) 10 2 6) g_M_75 ⟨Nat.le_of_ble_eq_true rfl, Nat.le_of_ble_eq_true rfl⟩ (wc_P hP [] rfl) hX hE rfl (Nat.le_of_ble_eq_true rfl) ⟨Nat.zero_le _, Nat.zero_le _⟩ d_M_due_131 ?_
      refine lv_istore (pc := 134) (lv' := [(4, .int (firF (((f 24) &&& (f 21)) &&& (f 20)) 10 2 6)), (3, .int 0), (2, .int (firF (((f 24) &&& (f 21)) &&& ((f 20) ^^^ (-1))) 10 2 6)), (1, .int (firF ((tellsF f tm al ln 7) &&& (f 1)) 9 1 5)), (0, .ref h)]) hx hb d_M_due_134 hl (by decide) rfl (fun ls hl => ?_)
      refine lv_aload_n (pc := 136) hx hb d_M_due_136 rfl (lv_at hl 4 rfl) ?_
      refine va_get (pc := 137) (D := D) (ci := 2) (v := .int md) (C := cn_M) (T := fT_M) (N := 6) hx hb hts in_M hown hX.1 hP 0 rfl rfl 1 (by decide) (hts _ kf_M_16) (fun _ h9 => h9) rfl d_M_due_137 ?_
      refine lv_iconst (pc := 140) (v := 2) hx hb d_M_due_140 (by decide) ?_
      refine lv_icmp_eq (pc := 141) (tgt := 162) hx hb d_M_due_141 (by decide) (fun c_18 => absurd (c_1.symm.trans c_18) (by decide)) (fun c_18 => ?_)
      refine lv_aload_n (pc := 144) hx hb d_M_due_144 rfl (lv_at hl 4 rfl) ?_
      refine va_get (pc := 145) (D := D) (ci := 2) (v := .int md) (C := cn_M) (T := fT_M) (N := 6) hx hb hts in_M hown hX.1 hP 0 rfl rfl 1 (by decide) (hts _ kf_M_16) (fun _ h9 => h9) rfl d_M_due_145 ?_
      refine lv_iconst (pc := 148) (v := 3) hx hb d_M_due_148 (by decide) ?_
      refine lv_icmp_ne (pc := 149) (tgt := 166) hx hb d_M_due_149 (by decide) (fun c_19 => ?_) (fun c_19 => absurd (c_1.symm.trans c_19) (by decide))
      refine lv_iconst (pc := 166) (v := 0) hx hb d_M_due_166 (by decide) ?_
      refine lv_istore (pc := 167) (lv' := [(5, .int 0), (4, .int (firF (((f 24) &&& (f 21)) &&& (f 20)) 10 2 6)), (3, .int 0), (2, .int (firF (((f 24) &&& (f 21)) &&& ((f 20) ^^^ (-1))) 10 2 6)), (1, .int (firF ((tellsF f tm al ln 7) &&& (f 1)) 9 1 5)), (0, .ref h)]) hx hb d_M_due_167 hl (by decide) rfl (fun ls hl => ?_)
      refine lv_iload (pc := 169) hx hb d_M_due_169 (lv_at hl 0 rfl) ?_
      refine lv_if_eq (pc := 171) (tgt := 190) hx hb d_M_due_171 (by decide) (fun c_20 => ?_) (fun c_20 => absurd c_17 c_20)
      refine lv_iconst (pc := 190) (v := (-1)) hx hb d_M_due_190 (by decide) ?_
      exact ro_iret (pc := 191) hx hb hr hlk hQ (by simp [dueF, c_1, bI_0.mp c_16, c_17, c_18, c_19, c_20, -Int32.xor_neg_one]) d_M_due_191
    · refine lv_iconst (pc := 72) (v := 1) hx hb d_M_due_72 (by decide) ?_
      refine lv_goto (pc := 73) (tgt := 77) hx hb d_M_due_73 (by decide) ?_
      refine lv_istore_n (pc := 77) (lv' := [(3, .int 1), (2, .int (firF (((f 24) &&& (f 21)) &&& ((f 20) ^^^ (-1))) 10 2 6)), (1, .int (firF ((tellsF f tm al ln 7) &&& (f 1)) 9 1 5)), (0, .ref h)]) hx hb d_M_due_77 rfl hl (by decide) rfl (fun ls hl => ?_)
      refine lv_iload_n (pc := 78) hx hb d_M_due_78 rfl (lv_at hl 0 rfl) ?_
      refine lv_if_eq (pc := 79) (tgt := 103) hx hb d_M_due_79 (by decide) (fun c_21 => absurd c_21 (by decide)) (fun c_21 => ?_)
      refine lv_iload_n (pc := 82) hx hb d_M_due_82 rfl (lv_at hl 2 rfl) ?_
      refine lv_iconst (pc := 83) (v := (-1)) hx hb d_M_due_83 (by decide) ?_
      refine lv_icmp_ne (pc := 84) (tgt := 92) hx hb d_M_due_84 (by decide) (fun c_22 => ?_) (fun c_22 => ?_)
      · refine lv_iload_n (pc := 92) hx hb d_M_due_92 rfl (lv_at hl 2 rfl) ?_
        refine lv_iconst (pc := 93) (v := (-1)) hx hb d_M_due_93 (by decide) ?_
        refine lv_icmp_eq (pc := 94) (tgt := 101) hx hb d_M_due_94 (by decide) (fun c_23 => absurd c_23 c_22) (fun c_23 => ?_)
        refine lv_iload_n (pc := 97) hx hb d_M_due_97 rfl (lv_at hl 2 rfl) ?_
        refine lv_goto (pc := 98) (tgt := 102) hx hb d_M_due_98 (by decide) ?_
        exact ro_iret (pc := 102) hx hb hr hlk hQ (by simp [dueF, c_1, bI_n0.mp c_16, c_21, c_22, c_23, -Int32.xor_neg_one]) d_M_due_102
      · refine lv_iload_n (pc := 87) hx hb d_M_due_87 rfl (lv_at hl 1 rfl) ?_
        refine lv_iconst (pc := 88) (v := (-1)) hx hb d_M_due_88 (by decide) ?_
        refine lv_icmp_eq (pc := 89) (tgt := 103) hx hb d_M_due_89 (by decide) (fun c_24 => ?_) (fun c_24 => ?_)
        · refine lv_aload_n (pc := 103) hx hb d_M_due_103 rfl (lv_at hl 3 rfl) ?_
          refine va_get (pc := 104) (D := D) (ci := 2) (v := .ref hk) (C := cn_M) (T := fT_M) (N := 6) hx hb hts in_M hown hX.1 hP 0 rfl rfl 0 (by decide) (hts _ kf_M_7) (fun _ h9 => h9) rfl d_M_due_104 ?_
          refine lv_bipush (pc := 107) (v := 24) hx hb d_M_due_107 (by decide) ?_
          refine rd_i (pc := 109) hx hb hX hP 1 rfl 24 (by decide) (vp_in_nI (n := 24) (N := 29) (by decide) (by decide)) d_M_due_109 ?_
          refine lv_aload_n (pc := 110) hx hb d_M_due_110 rfl (lv_at hl 3 rfl) ?_
          refine va_get (pc := 111) (D := D) (ci := 2) (v := .ref hk) (C := cn_M) (T := fT_M) (N := 6) hx hb hts in_M hown hX.1 hP 0 rfl rfl 0 (by decide) (hts _ kf_M_7) (fun _ h9 => h9) rfl d_M_due_111 ?_
          refine lv_bipush (pc := 114) (v := 21) hx hb d_M_due_114 (by decide) ?_
          refine rd_i (pc := 116) hx hb hX hP 1 rfl 21 (by decide) (vp_in_nI (n := 21) (N := 29) (by decide) (by decide)) d_M_due_116 ?_
          refine lv_iand (pc := 117) hx hb d_M_due_117 ?_
          refine lv_aload_n (pc := 118) hx hb d_M_due_118 rfl (lv_at hl 3 rfl) ?_
          refine va_get (pc := 119) (D := D) (ci := 2) (v := .ref hk) (C := cn_M) (T := fT_M) (N := 6) hx hb hts in_M hown hX.1 hP 0 rfl rfl 0 (by decide) (hts _ kf_M_7) (fun _ h9 => h9) rfl d_M_due_119 ?_
          refine lv_bipush (pc := 122) (v := 20) hx hb d_M_due_122 (by decide) ?_
          refine rd_i (pc := 124) hx hb hX hP 1 rfl 20 (by decide) (vp_in_nI (n := 20) (N := 29) (by decide) (by decide)) d_M_due_124 ?_
          refine lv_iand (pc := 125) hx hb d_M_due_125 ?_
          refine lv_bipush (pc := 126) (v := 10) hx hb d_M_due_126 (by decide) ?_
          refine lv_iconst (pc := 128) (v := 2) hx hb d_M_due_128 (by decide) ?_
          refine lv_bipush (pc := 129) (v := 6) hx hb d_M_due_129 (by decide) ?_
          refine ro_S (pc := 131) (As := [.int (((f 24) &&& (f 21)) &&& (f 20)), .int 10, .int 2, .int 6]) (rest := []) (wc := []) hx hb hml hl.1 hown hts (c_M_firstOf l D cI cR ad (((f 24) &&& (f 21)) &&& (f 20)) 10 2 6) g_M_75 ⟨Nat.le_of_ble_eq_true rfl, Nat.le_of_ble_eq_true rfl⟩ (wc_P hP [] rfl) hX hE rfl (Nat.le_of_ble_eq_true rfl) ⟨Nat.zero_le _, Nat.zero_le _⟩ d_M_due_131 ?_
          refine lv_istore (pc := 134) (lv' := [(4, .int (firF (((f 24) &&& (f 21)) &&& (f 20)) 10 2 6)), (3, .int 1), (2, .int (firF (((f 24) &&& (f 21)) &&& ((f 20) ^^^ (-1))) 10 2 6)), (1, .int (firF ((tellsF f tm al ln 7) &&& (f 1)) 9 1 5)), (0, .ref h)]) hx hb d_M_due_134 hl (by decide) rfl (fun ls hl => ?_)
          refine lv_aload_n (pc := 136) hx hb d_M_due_136 rfl (lv_at hl 4 rfl) ?_
          refine va_get (pc := 137) (D := D) (ci := 2) (v := .int md) (C := cn_M) (T := fT_M) (N := 6) hx hb hts in_M hown hX.1 hP 0 rfl rfl 1 (by decide) (hts _ kf_M_16) (fun _ h9 => h9) rfl d_M_due_137 ?_
          refine lv_iconst (pc := 140) (v := 2) hx hb d_M_due_140 (by decide) ?_
          refine lv_icmp_eq (pc := 141) (tgt := 162) hx hb d_M_due_141 (by decide) (fun c_25 => absurd (c_1.symm.trans c_25) (by decide)) (fun c_25 => ?_)
          refine lv_aload_n (pc := 144) hx hb d_M_due_144 rfl (lv_at hl 4 rfl) ?_
          refine va_get (pc := 145) (D := D) (ci := 2) (v := .int md) (C := cn_M) (T := fT_M) (N := 6) hx hb hts in_M hown hX.1 hP 0 rfl rfl 1 (by decide) (hts _ kf_M_16) (fun _ h9 => h9) rfl d_M_due_145 ?_
          refine lv_iconst (pc := 148) (v := 3) hx hb d_M_due_148 (by decide) ?_
          refine lv_icmp_ne (pc := 149) (tgt := 166) hx hb d_M_due_149 (by decide) (fun c_26 => ?_) (fun c_26 => absurd (c_1.symm.trans c_26) (by decide))
          refine lv_iconst (pc := 166) (v := 0) hx hb d_M_due_166 (by decide) ?_
          refine lv_istore (pc := 167) (lv' := [(5, .int 0), (4, .int (firF (((f 24) &&& (f 21)) &&& (f 20)) 10 2 6)), (3, .int 1), (2, .int (firF (((f 24) &&& (f 21)) &&& ((f 20) ^^^ (-1))) 10 2 6)), (1, .int (firF ((tellsF f tm al ln 7) &&& (f 1)) 9 1 5)), (0, .ref h)]) hx hb d_M_due_167 hl (by decide) rfl (fun ls hl => ?_)
          refine lv_iload (pc := 169) hx hb d_M_due_169 (lv_at hl 0 rfl) ?_
          refine lv_if_eq (pc := 171) (tgt := 190) hx hb d_M_due_171 (by decide) (fun c_27 => ?_) (fun c_27 => absurd rfl c_27)
          refine lv_iconst (pc := 190) (v := (-1)) hx hb d_M_due_190 (by decide) ?_
          exact ro_iret (pc := 191) hx hb hr hlk hQ (by simp [dueF, c_1, bI_n0.mp c_16, c_21, c_22, c_24, c_25, c_26, c_27, -Int32.xor_neg_one]) d_M_due_191
        · refine lv_iload_n (pc := 92) hx hb d_M_due_92 rfl (lv_at hl 2 rfl) ?_
          refine lv_iconst (pc := 93) (v := (-1)) hx hb d_M_due_93 (by decide) ?_
          refine lv_icmp_eq (pc := 94) (tgt := 101) hx hb d_M_due_94 (by decide) (fun c_28 => ?_) (fun c_28 => absurd c_22 c_28)
          refine lv_iload_n (pc := 101) hx hb d_M_due_101 rfl (lv_at hl 1 rfl) ?_
          exact ro_iret (pc := 102) hx hb hr hlk hQ (by simp [dueF, c_1, bI_n0.mp c_16, c_21, c_22, c_24, c_28, -Int32.xor_neg_one]) d_M_due_102
end
section
-- PLAIN LAWS of an access
theorem accR_bad {f : Nat → Int32} {md n k : Int32} (h : k < 0 ∨ 3 < k) : accR f md n k = -1 := if_pos h
theorem accR_0 {f : Nat → Int32} {md n k : Int32} (h1 : ¬ k < 0) (h2 : k ≤ 3) (h0 : k = 0) : accR f md n k = refF f md (placeF n) false := by
  unfold accR
  rw [if_neg (by rintro (h | h); exact h1 h; exact absurd h (Int32.not_lt.mpr h2)), decide_eq_false (by intro h; exact h h0)]
theorem accR_1 {f : Nat → Int32} {md n k : Int32} (h1 : ¬ k < 0) (h2 : k ≤ 3) (h0 : ¬ k = 0) : accR f md n k = refF f md (placeF n) true := by
  unfold accR
  rw [if_neg (by rintro (h | h); exact h1 h; exact absurd h (Int32.not_lt.mpr h2)), decide_eq_true h0]
theorem accO_no {f : Nat → Int32} {md : Int32} {tm al : Int64} {ln : Bool} {od n k : Int32} (h : ¬ accR f md n k = 0) : accO f md tm al ln od n k = od := if_neg h
theorem accO_yes {f : Nat → Int32} {md : Int32} {tm al : Int64} {ln : Bool} {od n k : Int32} (h : accR f md n k = 0) : accO f md tm al ln od n k = tellsF f tm al ln (atF md (placeF n)) := if_pos h
theorem accS_no {f : Nat → Int32} {md : Int32} {tm al : Int64} {ln : Bool} {n k v : Int32} (h : ¬ accR f md n k = 0) : accS f md tm al ln n k v = f := if_neg (fun q => h q.1)
theorem accS_rd {f : Nat → Int32} {md : Int32} {tm al : Int64} {ln : Bool} {n k v : Int32} (h : k = 0) : accS f md tm al ln n k v = f := if_neg (fun q => q.2 h)
theorem accS_wr {f : Nat → Int32} {md : Int32} {tm al : Int64} {ln : Bool} {n k v : Int32} (h : accR f md n k = 0) (hk : ¬ k = 0) : accS f md tm al ln n k v = writeF f (atF md (placeF n)) (valF k (tellsF f tm al ln (atF md (placeF n))) v) := if_pos ⟨h, hk⟩
theorem ref_3 (f : Nat → Int32) (md x : Int32) (w : Bool) : refF f md x w = 0 ∨ refF f md x w = 2 ∨ refF f md x w = 22 := by
  unfold refF
  split
  · exact Or.inr (Or.inl rfl)
  · split
    · exact Or.inl rfl
    · split
      · exact Or.inr (Or.inl rfl)
      · split
        · exact Or.inl rfl
        · exact Or.inr (Or.inr rfl)
theorem ref_le {f : Nat → Int32} {md x : Int32} {w : Bool} (h : refF f md x w ≤ 0) : refF f md x w = 0 := by
  rcases ref_3 f md x w with e | e | e
  · exact e
  · rw [e] at h; exact absurd h (by decide)
  · rw [e] at h; exact absurd h (by decide)
theorem ref_nle {f : Nat → Int32} {md x : Int32} {w : Bool} (h : ¬ refF f md x w ≤ 0) : ¬ refF f md x w = 0 := fun e => h (by rw [e]; decide)
theorem i_le0 {k : Int32} (h1 : ¬ k < 0) (h2 : k ≤ 0) : k = 0 := Int32.le_antisymm h2 (Int32.not_lt.mp h1)
theorem i_nle0 {k : Int32} (h : ¬ k ≤ 0) : ¬ k = 0 := fun e => h (by rw [e]; decide)
theorem ok_acc {f : Nat → Int32} {md : Int32} {tm al : Int64} {ln : Bool} {n k v : Int32} (h : okF f) : okF (accS f md tm al ln n k v) := by
  by_cases q : accR f md n k = 0 ∧ ¬ k = 0
  · rw [accS_wr q.1 q.2]
    have hk : ¬ (k < 0 ∨ 3 < k) := fun z => by rw [accR_bad z] at q; exact absurd q.1 (by decide)
    have h1 : ¬ k < 0 := fun z => hk (Or.inl z)
    have h2 : k ≤ 3 := Int32.not_lt.mp (fun z => hk (Or.inr z))
    have h3 := q.1
    rw [accR_1 h1 h2 q.2] at h3
    exact ok_write (at_in h3) h
  · rw [show accS f md tm al ln n k v = f from if_neg q]; exact h
theorem upd_zero {g : Nat → Int32} {k : Nat} (hg : ∀ j, j < k → g j = 0) : ∀ j, j < k + 1 → upd g k 0 j = 0 := by
  intro j hj
  by_cases e : j = k
  · rw [e]; exact upd_at
  · rw [upd_ne e]; exact hg j (by omega)
-- the component's own questions against the places
def refG (md : Int32) (t o e h w : Bool) : Int32 := if t = true ∧ w = true then 2 else if md = 1 ∨ t = true then 0 else if md = 0 then 2 else if md = 3 ∧ o = true ∧ (e = false ∨ h = false) then 0 else 22
theorem rg_t : ∀ i, i < 29 → ((nI i = 27 ∨ nI i = 28) ↔ tmB i = true) := by decide +kernel
theorem rg_8 : ∀ i, i < 29 → (nI i = 8 ↔ i = 8) := by decide +kernel
theorem rg_o : ∀ i, i < 29 → (nI i ≤ 8 ↔ osB i = true) := by decide +kernel
theorem ref_G {f : Nat → Int32} {md : Int32} {i : Nat} {w : Bool} (hi : i < 29) : refF f md (nI i) w = refG md (tmB i) (osB i) (decide (i = 8)) (hasF (f 18) 20) w := by
  unfold refF refG
  simp only [nI_nm1 i hi, rg_t i hi, rg_8 i hi, rg_o i hi, false_or, decide_eq_false_iff_not]
theorem hs20 (x : Int32) : bI (!decide (x &&& 1048576 = 0)) = bI (hasF x 20) := by
  by_cases h : x &&& 1048576 = 0
  · rw [(hb20 x).mp h, decide_eq_true h]; rfl
  · have h1 : hasF x 20 = true := by cases q : hasF x 20 with | true => rfl | false => exact absurd ((hb20 x).mpr q) h
    rw [h1, decide_eq_false h]; rfl
theorem hs1 (x : Int32) : bI (!decide (x &&& 2 = 0)) = bI (hasF x 1) := by
  by_cases h : x &&& 2 = 0
  · rw [(hb1 x).mp h, decide_eq_true h]; rfl
  · have h1 : hasF x 1 = true := by cases q : hasF x 1 with | true => rfl | false => exact absurd ((hb1 x).mpr q) h
    rw [h1, decide_eq_false h]; rfl
theorem pl_some {n : Int32} (h : ¬ placeF n = -1) : ∃ i, i < 29 ∧ ofF n = some i ∧ placeF n = nI i := by
  rcases pl_cases n with ⟨-, q⟩ | ⟨i, hi, q1, q2, -⟩
  · exact absurd q h
  · exact ⟨i, hi, q1, q2⟩
theorem i_27 : ∀ i, i < 29 → ¬ (nI i = 27 ∨ nI i = 28) → i < 27 := by decide +kernel
theorem at_27 {md : Int32} {i : Nat} (hi : i < 29) (h : ¬ (nI i = 27 ∨ nI i = 28)) : atN md i < 27 := by
  have := i_27 i hi h
  unfold atN
  split <;> omega
theorem of_up {n : Int32} {i : Nat} (hi : i < 29) (h8 : i ≤ 8) (hn : en_num.getD i 0 = n) : ofF (n + 256) = some (i + 9) := of_some (by omega) (by rw [← hn]; exact (at_num i hi h8).symm)
end
section
-- CONTRACTS: the reference's methods that write
set_option maxHeartbeats 4000000 in
set_option maxRecDepth 100000 in
theorem c_M_mode (l : Launch) (D : va_G) (cI cR : ClassId) (ad : Nat → Nat) (h hk : Nat) (f : Nat → Int32) (md : Int32) (tm al : Int64) (ln : Bool) (od : Int32) (x : Int32) : MU l y_M_mode b_M_mode 3 (some .int) 0 0 D cI cR ad (wM cI h hk f md tm al ln od) [.ref h, .int x] (some (.int (modeR md x))) (wM cI h hk f (modeS md x) tm al ln od) := by
  refine mu_ofW (by decide) (Nat.le_of_ble_eq_true rfl) ?_
  intro p e s m below meth c args Q ls hx hb hr hml hown hts hlk hP hX hE hl hQ hD hS
  have hown : s.vm.findClass cn_M = some m.cls := hown
  have hP : va_P D cls_ [(h, .inr (2, [.ref hk, .int md, .long tm, .long al, .int (bI ln), .int od])), (hk, .inl (cI, 29, .inl f))] s.heap := hP
  have hD : va_D _ [(h, .inr (2, [.ref hk, .int md, .long tm, .long al, .int (bI ln), .int od])), (hk, .inl (cI, 29, .inl f))] := hD
  have hl : lv_has ls 3 [(0, .ref h), (1, .int x)] := hl
  refine lv_iload_n (pc := 0) hx hb d_M_mode_0 rfl (lv_at hl 1 rfl) ?_
  refine lv_if_lt (pc := 1) (tgt := 9) hx hb d_M_mode_1 (by decide) (fun c_1 => ?_) (fun c_1 => ?_)
  · refine lv_iconst (pc := 9) (v := (-1)) hx hb d_M_mode_9 (by decide) ?_
    exact mu_iret (pc := 10) hx hb hr hlk hQ (by simp [modeR, c_1]) (by rw [show modeS md x = md by simp [modeS, c_1]]; exact hP) hS d_M_mode_10
  · refine lv_iload_n (pc := 4) hx hb d_M_mode_4 rfl (lv_at hl 1 rfl) ?_
    refine lv_iconst (pc := 5) (v := 3) hx hb d_M_mode_5 (by decide) ?_
    refine lv_icmp_le (pc := 6) (tgt := 11) hx hb d_M_mode_6 (by decide) (fun c_2 => ?_) (fun c_2 => ?_)
    · refine lv_aload_n (pc := 11) hx hb d_M_mode_11 rfl (lv_at hl 0 rfl) ?_
      refine va_get (pc := 12) (D := D) (ci := 2) (v := .int md) (C := cn_M) (T := fT_M) (N := 6) hx hb hts in_M hown hX.1 hP 0 rfl rfl 1 (by decide) (hts _ kf_M_16) (fun _ h9 => h9) rfl d_M_mode_12 ?_
      refine lv_istore_n (pc := 15) (lv' := [(2, .int md), (0, .ref h), (1, .int x)]) hx hb d_M_mode_15 rfl hl (by decide) rfl (fun ls hl => ?_)
      refine lv_aload_n (pc := 16) hx hb d_M_mode_16 rfl (lv_at hl 1 rfl) ?_
      refine lv_iload_n (pc := 17) hx hb d_M_mode_17 rfl (lv_at hl 2 rfl) ?_
      refine va_put (pc := 18) (D := D) (ci := 2) (v := .int x) (ty := .int) (C := cn_M) (T := fT_M) (N := 6) hx hb hts in_M tT_M tt_M nn_M hown hX.1 hP hD hS 0 rfl rfl 1 (by decide) (hts _ kf_M_16) (fun _ h9 => h9) rfl (by decide +kernel) rfl rfl (Nat.le_of_ble_eq_true rfl) d_M_mode_18 (fun H locs hP hD hS => ?_)
      have hP : va_P D cls_ [(h, .inr (2, [.ref hk, .int x, .long tm, .long al, .int (bI ln), .int od])), (hk, .inl (cI, 29, .inl f))] H := hP
      have hD : va_D _ [(h, .inr (2, [.ref hk, .int x, .long tm, .long al, .int (bI ln), .int od])), (hk, .inl (cI, 29, .inl f))] := hD
      refine lv_iload_n (pc := 21) hx hb d_M_mode_21 rfl (lv_at hl 0 rfl) ?_
      exact mu_iret (pc := 22) hx hb hr hlk hQ (by simp [modeR, c_1, Int32.not_lt.mpr c_2]) (by rw [show modeS md x = x by simp [modeS, c_1, Int32.not_lt.mpr c_2]]; exact hP) hS d_M_mode_22
    · refine lv_iconst (pc := 9) (v := (-1)) hx hb d_M_mode_9 (by decide) ?_
      exact mu_iret (pc := 10) hx hb hr hlk hQ (by simp [modeR, c_1, Int32.not_le.mp c_2]) (by rw [show modeS md x = md by simp [modeS, c_1, Int32.not_le.mp c_2]]; exact hP) hS d_M_mode_10
set_option maxHeartbeats 4000000 in
set_option maxRecDepth 100000 in
theorem c_M_time (l : Launch) (D : va_G) (cI cR : ClassId) (ad : Nat → Nat) (h hk : Nat) (f : Nat → Int32) (md : Int32) (tm al : Int64) (ln : Bool) (od : Int32) (t : Int64) : MU l y_M_time b_M_time 5 (some .long) 0 0 D cI cR ad (wM cI h hk f md tm al ln od) [.ref h, .long t] (some (.long (timeR tm t))) (wM cI h hk f md (timeS tm t) al ln od) := by
  refine mu_ofW (by decide) (Nat.le_of_ble_eq_true rfl) ?_
  intro p e s m below meth c args Q ls hx hb hr hml hown hts hlk hP hX hE hl hQ hD hS
  have hown : s.vm.findClass cn_M = some m.cls := hown
  have hP : va_P D cls_ [(h, .inr (2, [.ref hk, .int md, .long tm, .long al, .int (bI ln), .int od])), (hk, .inl (cI, 29, .inl f))] s.heap := hP
  have hD : va_D _ [(h, .inr (2, [.ref hk, .int md, .long tm, .long al, .int (bI ln), .int od])), (hk, .inl (cI, 29, .inl f))] := hD
  have hl : lv_has ls 5 [(0, .ref h), (1, .long t)] := hl
  refine lv_lload_n (pc := 0) hx hb d_M_time_0 rfl (lv_at hl 1 rfl) ?_
  refine lv_lconst (pc := 1) (v := 0) hx hb d_M_time_1 (by decide) ?_
  refine W.lcmp (pc := 2) hx hb d_M_time_2 ?_
  refine lv_if_ge (pc := 3) (tgt := 10) hx hb d_M_time_3 (by decide) (fun c_1 => ?_) (fun c_1 => ?_)
  · refine lv_aload_n (pc := 10) hx hb d_M_time_10 rfl (lv_at hl 0 rfl) ?_
    refine va_get (pc := 11) (D := D) (ci := 2) (v := .long tm) (C := cn_M) (T := fT_M) (N := 6) hx hb hts in_M hown hX.1 hP 0 rfl rfl 2 (by decide) (hts _ kf_M_20) (fun _ h9 => h9) rfl d_M_time_11 ?_
    refine lv_lstore_n (pc := 14) (lv' := [(3, .long tm), (0, .ref h), (1, .long t)]) hx hb d_M_time_14 rfl hl (by decide) rfl (fun ls hl => ?_)
    refine lv_aload_n (pc := 15) hx hb d_M_time_15 rfl (lv_at hl 1 rfl) ?_
    refine lv_lload_n (pc := 16) hx hb d_M_time_16 rfl (lv_at hl 2 rfl) ?_
    refine va_put (pc := 17) (D := D) (ci := 2) (v := .long t) (ty := .long) (C := cn_M) (T := fT_M) (N := 6) hx hb hts in_M tT_M tt_M nn_M hown hX.1 hP hD hS 0 rfl rfl 2 (by decide) (hts _ kf_M_20) (fun _ h9 => h9) rfl (by decide +kernel) rfl rfl (Nat.le_of_ble_eq_true rfl) d_M_time_17 (fun H locs hP hD hS => ?_)
    have hP : va_P D cls_ [(h, .inr (2, [.ref hk, .int md, .long t, .long al, .int (bI ln), .int od])), (hk, .inl (cI, 29, .inl f))] H := hP
    have hD : va_D _ [(h, .inr (2, [.ref hk, .int md, .long t, .long al, .int (bI ln), .int od])), (hk, .inl (cI, 29, .inl f))] := hD
    refine lv_lload_n (pc := 20) hx hb d_M_time_20 rfl (lv_at hl 0 rfl) ?_
    exact mu_lret (pc := 21) hx hb hr hlk hQ (by simp [timeR, c_1]) (by rw [show timeS tm t = t by simp [timeS, c_1]]; exact hP) hS d_M_time_21
  · refine lv_ldc2 (pc := 6) (v := (-1)) hx hb hown (hts _ kk_M_36) d_M_time_6 ?_
    exact mu_lret (pc := 9) hx hb hr hlk hQ (by simp [timeR, c_1]) (by rw [show timeS tm t = tm by simp [timeS, c_1]]; exact hP) hS d_M_time_9
set_option maxHeartbeats 4000000 in
set_option maxRecDepth 100000 in
theorem c_M_alarm (l : Launch) (D : va_G) (cI cR : ClassId) (ad : Nat → Nat) (h hk : Nat) (f : Nat → Int32) (md : Int32) (tm al : Int64) (ln : Bool) (od : Int32) (t : Int64) : MU l y_M_alarm b_M_alarm 5 (some .long) 0 0 D cI cR ad (wM cI h hk f md tm al ln od) [.ref h, .long t] (some (.long al)) (wM cI h hk f md tm (alarmS t) ln od) := by
  refine mu_ofW (by decide) (Nat.le_of_ble_eq_true rfl) ?_
  intro p e s m below meth c args Q ls hx hb hr hml hown hts hlk hP hX hE hl hQ hD hS
  have hown : s.vm.findClass cn_M = some m.cls := hown
  have hP : va_P D cls_ [(h, .inr (2, [.ref hk, .int md, .long tm, .long al, .int (bI ln), .int od])), (hk, .inl (cI, 29, .inl f))] s.heap := hP
  have hD : va_D _ [(h, .inr (2, [.ref hk, .int md, .long tm, .long al, .int (bI ln), .int od])), (hk, .inl (cI, 29, .inl f))] := hD
  have hl : lv_has ls 5 [(0, .ref h), (1, .long t)] := hl
  refine lv_aload_n (pc := 0) hx hb d_M_alarm_0 rfl (lv_at hl 0 rfl) ?_
  refine va_get (pc := 1) (D := D) (ci := 2) (v := .long al) (C := cn_M) (T := fT_M) (N := 6) hx hb hts in_M hown hX.1 hP 0 rfl rfl 3 (by decide) (hts _ kf_M_26) (fun _ h9 => h9) rfl d_M_alarm_1 ?_
  refine lv_lstore_n (pc := 4) (lv' := [(3, .long al), (0, .ref h), (1, .long t)]) hx hb d_M_alarm_4 rfl hl (by decide) rfl (fun ls hl => ?_)
  refine lv_aload_n (pc := 5) hx hb d_M_alarm_5 rfl (lv_at hl 1 rfl) ?_
  refine lv_lload_n (pc := 6) hx hb d_M_alarm_6 rfl (lv_at hl 2 rfl) ?_
  refine lv_lconst (pc := 7) (v := 0) hx hb d_M_alarm_7 (by decide) ?_
  refine W.lcmp (pc := 8) hx hb d_M_alarm_8 ?_
  refine lv_if_ge (pc := 9) (tgt := 18) hx hb d_M_alarm_9 (by decide) (fun c_1 => ?_) (fun c_1 => ?_)
  · refine lv_lload_n (pc := 18) hx hb d_M_alarm_18 rfl (lv_at hl 2 rfl) ?_
    refine va_put (pc := 19) (D := D) (ci := 2) (v := .long t) (ty := .long) (C := cn_M) (T := fT_M) (N := 6) hx hb hts in_M tT_M tt_M nn_M hown hX.1 hP hD hS 0 rfl rfl 3 (by decide) (hts _ kf_M_26) (fun _ h9 => h9) rfl (by decide +kernel) rfl rfl (Nat.le_of_ble_eq_true rfl) d_M_alarm_19 (fun H locs hP hD hS => ?_)
    have hP : va_P D cls_ [(h, .inr (2, [.ref hk, .int md, .long tm, .long t, .int (bI ln), .int od])), (hk, .inl (cI, 29, .inl f))] H := hP
    have hD : va_D _ [(h, .inr (2, [.ref hk, .int md, .long tm, .long t, .int (bI ln), .int od])), (hk, .inl (cI, 29, .inl f))] := hD
    refine lv_lload_n (pc := 22) hx hb d_M_alarm_22 rfl (lv_at hl 0 rfl) ?_
    exact mu_lret (pc := 23) hx hb hr hlk hQ rfl (by rw [show alarmS t = t by simp [alarmS, c_1]]; exact hP) hS d_M_alarm_23
  · refine lv_ldc2 (pc := 12) (v := 9223372036854775807) hx hb hown (hts _ kk_M_24) d_M_alarm_12 ?_
    refine lv_goto (pc := 15) (tgt := 19) hx hb d_M_alarm_15 (by decide) ?_
    refine va_put (pc := 19) (D := D) (ci := 2) (v := .long 9223372036854775807) (ty := .long) (C := cn_M) (T := fT_M) (N := 6) hx hb hts in_M tT_M tt_M nn_M hown hX.1 hP hD hS 0 rfl rfl 3 (by decide) (hts _ kf_M_26) (fun _ h9 => h9) rfl (by decide +kernel) rfl rfl (Nat.le_of_ble_eq_true rfl) d_M_alarm_19 (fun H locs hP hD hS => ?_)
    have hP : va_P D cls_ [(h, .inr (2, [.ref hk, .int md, .long tm, .long 9223372036854775807, .int (bI ln), .int od])), (hk, .inl (cI, 29, .inl f))] H := hP
    have hD : va_D _ [(h, .inr (2, [.ref hk, .int md, .long tm, .long 9223372036854775807, .int (bI ln), .int od])), (hk, .inl (cI, 29, .inl f))] := hD
    refine lv_lload_n (pc := 22) hx hb d_M_alarm_22 rfl (lv_at hl 0 rfl) ?_
    exact mu_lret (pc := 23) hx hb hr hlk hQ rfl (by rw [show alarmS t = 9223372036854775807 by simp [alarmS, c_1]]; exact hP) hS d_M_alarm_23
set_option maxHeartbeats 4000000 in
set_option maxRecDepth 100000 in
theorem c_M_line (l : Launch) (D : va_G) (cI cR : ClassId) (ad : Nat → Nat) (h hk : Nat) (f : Nat → Int32) (md : Int32) (tm al : Int64) (ln : Bool) (od : Int32) (b : Bool) : MU l y_M_line b_M_line 3 (some .boolean) 0 0 D cI cR ad (wM cI h hk f md tm al ln od) [.ref h, .int (bI b)] (some (.int (bI ln))) (wM cI h hk f md tm al b od) := by
  refine mu_ofW (by decide) (Nat.le_of_ble_eq_true rfl) ?_
  intro p e s m below meth c args Q ls hx hb hr hml hown hts hlk hP hX hE hl hQ hD hS
  have hown : s.vm.findClass cn_M = some m.cls := hown
  have hP : va_P D cls_ [(h, .inr (2, [.ref hk, .int md, .long tm, .long al, .int (bI ln), .int od])), (hk, .inl (cI, 29, .inl f))] s.heap := hP
  have hD : va_D _ [(h, .inr (2, [.ref hk, .int md, .long tm, .long al, .int (bI ln), .int od])), (hk, .inl (cI, 29, .inl f))] := hD
  have hl : lv_has ls 3 [(0, .ref h), (1, .int (bI b))] := hl
  refine lv_aload_n (pc := 0) hx hb d_M_line_0 rfl (lv_at hl 0 rfl) ?_
  refine va_get (pc := 1) (D := D) (ci := 2) (v := .int (bI ln)) (C := cn_M) (T := fT_M) (N := 6) hx hb hts in_M hown hX.1 hP 0 rfl rfl 4 (by decide) (hts _ kf_M_29) (fun _ h9 => h9) rfl d_M_line_1 ?_
  refine lv_istore_n (pc := 4) (lv' := [(2, .int (bI ln)), (0, .ref h), (1, .int (bI b))]) hx hb d_M_line_4 rfl hl (by decide) rfl (fun ls hl => ?_)
  refine lv_aload_n (pc := 5) hx hb d_M_line_5 rfl (lv_at hl 1 rfl) ?_
  refine lv_iload_n (pc := 6) hx hb d_M_line_6 rfl (lv_at hl 2 rfl) ?_
  refine va_put (pc := 7) (D := D) (ci := 2) (v := .int (bI b)) (ty := .boolean) (C := cn_M) (T := fT_M) (N := 6) hx hb hts in_M tT_M tt_M nn_M hown hX.1 hP hD hS 0 rfl rfl 4 (by decide) (hts _ kf_M_29) (fun _ h9 => h9) rfl (by decide +kernel) (bI_nar _) (bI_fit _) (Nat.le_of_ble_eq_true rfl) d_M_line_7 (fun H locs hP hD hS => ?_)
  have hP : va_P D cls_ [(h, .inr (2, [.ref hk, .int md, .long tm, .long al, .int (bI b), .int od])), (hk, .inl (cI, 29, .inl f))] H := hP
  have hD : va_D _ [(h, .inr (2, [.ref hk, .int md, .long tm, .long al, .int (bI b), .int od])), (hk, .inl (cI, 29, .inl f))] := hD
  refine lv_iload_n (pc := 10) hx hb d_M_line_10 rfl (lv_at hl 0 rfl) ?_
  exact mu_zret (pc := 11) hx hb hr hlk hQ hP hS d_M_line_11
set_option maxHeartbeats 4000000 in
set_option maxRecDepth 100000 in
theorem c_M_put (l : Launch) (D : va_G) (cI cR : ClassId) (ad : Nat → Nat) (h hk : Nat) (f : Nat → Int32) (md : Int32) (tm al : Int64) (ln : Bool) (od : Int32) (x : Int32) (j : Nat) (hj : x.toNatClampNeg = j) (hin : vp_in x 29) (b v : Int32) : MU l y_M_put b_M_put 4 none 0 0 D cI cR ad (wM cI h hk f md tm al ln od) [.ref h, .int x, .int b, .int v] none (wM cI h hk (putF f j b v) md tm al ln od) := by
  refine mu_ofW (by decide) (Nat.le_of_ble_eq_true rfl) ?_
  intro p e s m below meth c args Q ls hx hb hr hml hown hts hlk hP hX hE hl hQ hD hS
  have hown : s.vm.findClass cn_M = some m.cls := hown
  have hP : va_P D cls_ [(h, .inr (2, [.ref hk, .int md, .long tm, .long al, .int (bI ln), .int od])), (hk, .inl (cI, 29, .inl f))] s.heap := hP
  have hD : va_D _ [(h, .inr (2, [.ref hk, .int md, .long tm, .long al, .int (bI ln), .int od])), (hk, .inl (cI, 29, .inl f))] := hD
  have hl : lv_has ls 4 [(0, .ref h), (1, .int x), (2, .int b), (3, .int v)] := hl
  refine lv_aload_n (pc := 0) hx hb d_M_put_0 rfl (lv_at hl 0 rfl) ?_
  refine va_get (pc := 1) (D := D) (ci := 2) (v := .ref hk) (C := cn_M) (T := fT_M) (N := 6) hx hb hts in_M hown hX.1 hP 0 rfl rfl 0 (by decide) (hts _ kf_M_7) (fun _ h9 => h9) rfl d_M_put_1 ?_
  refine lv_iload_n (pc := 4) hx hb d_M_put_4 rfl (lv_at hl 1 rfl) ?_
  refine lv_aload_n (pc := 5) hx hb d_M_put_5 rfl (lv_at hl 0 rfl) ?_
  refine va_get (pc := 6) (D := D) (ci := 2) (v := .ref hk) (C := cn_M) (T := fT_M) (N := 6) hx hb hts in_M hown hX.1 hP 0 rfl rfl 0 (by decide) (hts _ kf_M_7) (fun _ h9 => h9) rfl d_M_put_6 ?_
  refine lv_iload_n (pc := 9) hx hb d_M_put_9 rfl (lv_at hl 1 rfl) ?_
  refine rd_i (pc := 10) hx hb hX hP 1 rfl j hj hin d_M_put_10 ?_
  refine lv_iload_n (pc := 11) hx hb d_M_put_11 rfl (lv_at hl 2 rfl) ?_
  refine lv_iconst (pc := 12) (v := (-1)) hx hb d_M_put_12 (by decide) ?_
  refine lv_ixor (pc := 13) hx hb d_M_put_13 ?_
  refine lv_iand (pc := 14) hx hb d_M_put_14 ?_
  refine lv_iload_n (pc := 15) hx hb d_M_put_15 rfl (lv_at hl 3 rfl) ?_
  refine lv_iload_n (pc := 16) hx hb d_M_put_16 rfl (lv_at hl 2 rfl) ?_
  refine lv_iand (pc := 17) hx hb d_M_put_17 ?_
  refine lv_ior (pc := 18) hx hb d_M_put_18 ?_
  refine wr_i (pc := 19) hx hb hX hP hD hS 1 rfl j hj hin d_M_put_19 (fun H locs hP hD hS => ?_)
  have hP : va_P D cls_ [(h, .inr (2, [.ref hk, .int md, .long tm, .long al, .int (bI ln), .int od])), (hk, .inl (cI, 29, .inl (upd f j (((f j) &&& (b ^^^ (-1))) ||| (v &&& b)))))] H := hP
  have hD : va_D _ [(h, .inr (2, [.ref hk, .int md, .long tm, .long al, .int (bI ln), .int od])), (hk, .inl (cI, 29, .inl (upd f j (((f j) &&& (b ^^^ (-1))) ||| (v &&& b)))))] := hD
  exact mu_vret (pc := 20) hx hb hr hlk hQ hP hS d_M_put_20
set_option maxHeartbeats 4000000 in
set_option maxRecDepth 100000 in
theorem c_M_write (l : Launch) (D : va_G) (cI cR : ClassId) (ad : Nat → Nat) (h hk : Nat) (f : Nat → Int32) (md : Int32) (tm al : Int64) (ln : Bool) (od : Int32) (x : Int32) (hin : vp_in x 29) (v : Int32) : MU l y_M_write b_M_write 3 none 1 23 D cI cR ad (wM cI h hk f md tm al ln od) [.ref h, .int x, .int v] none (wM cI h hk (writeF f x v) md tm al ln od) := by
  obtain ⟨k, hk9, rfl⟩ := vp_in_of hin (by decide)
  refine mu_ofW (by decide) (Nat.le_of_ble_eq_true rfl) ?_
  intro p e s m below meth c args Q ls hx hb hr hml hown hts hlk hP hX hE hl hQ hD hS
  have hown : s.vm.findClass cn_M = some m.cls := hown
  have hP : va_P D cls_ [(h, .inr (2, [.ref hk, .int md, .long tm, .long al, .int (bI ln), .int od])), (hk, .inl (cI, 29, .inl f))] s.heap := hP
  have hD : va_D _ [(h, .inr (2, [.ref hk, .int md, .long tm, .long al, .int (bI ln), .int od])), (hk, .inl (cI, 29, .inl f))] := hD
  have hl : lv_has ls 3 [(0, .ref h), (1, .int (nI k)), (2, .int v)] := hl
  refine lv_iload_n (pc := 0) hx hb d_M_write_0 rfl (lv_at hl 1 rfl) ?_
  refine lv_bipush (pc := 1) (v := 10) hx hb d_M_write_1 (by decide) ?_
  refine lv_icmp_ne (pc := 3) (tgt := 29) hx hb d_M_write_3 (by decide) (fun c_1 => ?_) (fun c_1 => ?_)
  · refine lv_iload_n (pc := 29) hx hb d_M_write_29 rfl (lv_at hl 1 rfl) ?_
    refine lv_bipush (pc := 30) (v := 16) hx hb d_M_write_30 (by decide) ?_
    refine lv_icmp_ne (pc := 32) (tgt := 56) hx hb d_M_write_32 (by decide) (fun c_2 => ?_) (fun c_2 => ?_)
    · refine lv_iload_n (pc := 56) hx hb d_M_write_56 rfl (lv_at hl 1 rfl) ?_
      refine lv_bipush (pc := 57) (v := 23) hx hb d_M_write_57 (by decide) ?_
      refine lv_icmp_ne (pc := 59) (tgt := 73) hx hb d_M_write_59 (by decide) (fun c_3 => ?_) (fun c_3 => ?_)
      · refine lv_aload_n (pc := 73) hx hb d_M_write_73 rfl (lv_at hl 0 rfl) ?_
        refine lv_iload_n (pc := 74) hx hb d_M_write_74 rfl (lv_at hl 1 rfl) ?_
        refine lv_iconst (pc := 75) (v := (-1)) hx hb d_M_write_75 (by decide) ?_
        refine lv_iload_n (pc := 76) hx hb d_M_write_76 rfl (lv_at hl 2 rfl) ?_
        refine lv_iload_n (pc := 77) hx hb d_M_write_77 rfl (lv_at hl 1 rfl) ?_
        refine ro_S (pc := 78) (As := [.int (nI k)]) (rest := [.int v, .int (-1), .int (nI k), .ref h]) (wc := []) hx hb hml hl.1 hown hts (c_M_maskOf l D cI cR ad k hk9) g_M_54 ⟨Nat.le_of_ble_eq_true rfl, Nat.le_of_ble_eq_true rfl⟩ (wc_P hP [] rfl) hX (hE.ro hS) rfl (Nat.le_of_ble_eq_true rfl) ⟨Nat.zero_le _, Nat.zero_le _⟩ d_M_write_78 ?_
        refine lv_iand (pc := 81) hx hb d_M_write_81 ?_
        refine mu_V (pc := 82) (As := [.int (nI k), .int (-1), .int (v &&& (maskF (nI k)))]) (rest := []) hx hb hml hl.1 hown hts (c_M_put l D cI cR ad h hk f md tm al ln od (nI k) k (nI_clamp (by omega)) (vp_in_nI hk9 (by decide)) (-1) (v &&& (maskF (nI k)))) g_M_50 ⟨Nat.le_of_ble_eq_true rfl, Nat.le_of_ble_eq_true rfl⟩ (va_recv hX.1 hP (ci := 2) (q0 := 0) rfl rfl) hP hD hS hX hE [0, 1] (by decide) rfl rfl rfl (Nat.le_of_ble_eq_true rfl) ⟨Nat.zero_le _, Nat.zero_le _⟩ d_M_write_82 (fun H locs hP hD hS => ?_)
        have hP : va_P D cls_ [(h, .inr (2, [.ref hk, .int md, .long tm, .long al, .int (bI ln), .int od])), (hk, .inl (cI, 29, .inl (putF f k (-1) (v &&& (maskF (nI k))))))] H := hP
        have hD : va_D _ [(h, .inr (2, [.ref hk, .int md, .long tm, .long al, .int (bI ln), .int od])), (hk, .inl (cI, 29, .inl (putF f k (-1) (v &&& (maskF (nI k))))))] := hD
        refine W.eq (g2 := F0 m 85 ls []) rfl ?_
        exact mu_vret (pc := 85) hx hb hr hlk hQ (by simpa only [writeF, if_neg c_1, if_neg c_2, if_neg c_3, nI_clamp (show k < 2 ^ 31 by omega)] using hP) hS d_M_write_85
      · refine lv_aload_n (pc := 62) hx hb d_M_write_62 rfl (lv_at hl 0 rfl) ?_
        refine lv_bipush (pc := 63) (v := 24) hx hb d_M_write_63 (by decide) ?_
        refine lv_iconst (pc := 65) (v := 4) hx hb d_M_write_65 (by decide) ?_
        refine lv_iload_n (pc := 66) hx hb d_M_write_66 rfl (lv_at hl 2 rfl) ?_
        refine mu_V (pc := 67) (As := [.int 24, .int 4, .int v]) (rest := []) hx hb hml hl.1 hown hts (c_M_put l D cI cR ad h hk f md tm al ln od 24 24 (by decide) (vp_in_nI (n := 24) (N := 29) (by decide) (by decide)) 4 v) g_M_50 ⟨Nat.le_of_ble_eq_true rfl, Nat.le_of_ble_eq_true rfl⟩ (va_recv hX.1 hP (ci := 2) (q0 := 0) rfl rfl) hP hD hS hX hE [0, 1] (by decide) rfl rfl rfl (Nat.le_of_ble_eq_true rfl) ⟨Nat.zero_le _, Nat.zero_le _⟩ d_M_write_67 (fun H locs hP hD hS => ?_)
        have hP : va_P D cls_ [(h, .inr (2, [.ref hk, .int md, .long tm, .long al, .int (bI ln), .int od])), (hk, .inl (cI, 29, .inl (putF f 24 4 v)))] H := hP
        have hD : va_D _ [(h, .inr (2, [.ref hk, .int md, .long tm, .long al, .int (bI ln), .int od])), (hk, .inl (cI, 29, .inl (putF f 24 4 v)))] := hD
        refine W.eq (g2 := F0 m 70 ls []) rfl ?_
        refine lv_goto (pc := 70) (tgt := 85) hx hb d_M_write_70 (by decide) ?_
        exact mu_vret (pc := 85) hx hb hr hlk hQ (by simpa only [writeF, if_neg c_1, if_neg c_2, if_pos c_3, nI_clamp (show k < 2 ^ 31 by omega)] using hP) hS d_M_write_85
    · refine lv_aload_n (pc := 35) hx hb d_M_write_35 rfl (lv_at hl 0 rfl) ?_
      refine lv_bipush (pc := 36) (v := 24) hx hb d_M_write_36 (by decide) ?_
      refine lv_aload_n (pc := 38) hx hb d_M_write_38 rfl (lv_at hl 0 rfl) ?_
      refine va_get (pc := 39) (D := D) (ci := 2) (v := .ref hk) (C := cn_M) (T := fT_M) (N := 6) hx hb hts in_M hown hX.1 hP 0 rfl rfl 0 (by decide) (hts _ kf_M_7) (fun _ h9 => h9) rfl d_M_write_39 ?_
      refine lv_bipush (pc := 42) (v := 20) hx hb d_M_write_42 (by decide) ?_
      refine rd_i (pc := 44) hx hb hX hP 1 rfl 20 (by decide) (vp_in_nI (n := 20) (N := 29) (by decide) (by decide)) d_M_write_44 ?_
      refine lv_iconst (pc := 45) (v := 4) hx hb d_M_write_45 (by decide) ?_
      refine lv_iand (pc := 46) hx hb d_M_write_46 ?_
      refine lv_iload_n (pc := 47) hx hb d_M_write_47 rfl (lv_at hl 2 rfl) ?_
      refine lv_iconst (pc := 48) (v := 1) hx hb d_M_write_48 (by decide) ?_
      refine lv_ishl (pc := 49) hx hb d_M_write_49 ?_
      refine mu_V (pc := 50) (As := [.int 24, .int ((f 20) &&& 4), .int (v <<< ((1 : Int32) &&& 31))]) (rest := []) hx hb hml hl.1 hown hts (c_M_put l D cI cR ad h hk f md tm al ln od 24 24 (by decide) (vp_in_nI (n := 24) (N := 29) (by decide) (by decide)) ((f 20) &&& 4) (v <<< ((1 : Int32) &&& 31))) g_M_50 ⟨Nat.le_of_ble_eq_true rfl, Nat.le_of_ble_eq_true rfl⟩ (va_recv hX.1 hP (ci := 2) (q0 := 0) rfl rfl) hP hD hS hX hE [0, 1] (by decide) rfl rfl rfl (Nat.le_of_ble_eq_true rfl) ⟨Nat.zero_le _, Nat.zero_le _⟩ d_M_write_50 (fun H locs hP hD hS => ?_)
      have hP : va_P D cls_ [(h, .inr (2, [.ref hk, .int md, .long tm, .long al, .int (bI ln), .int od])), (hk, .inl (cI, 29, .inl (putF f 24 ((f 20) &&& 4) (v <<< ((1 : Int32) &&& 31)))))] H := hP
      have hD : va_D _ [(h, .inr (2, [.ref hk, .int md, .long tm, .long al, .int (bI ln), .int od])), (hk, .inl (cI, 29, .inl (putF f 24 ((f 20) &&& 4) (v <<< ((1 : Int32) &&& 31)))))] := hD
      refine W.eq (g2 := F0 m 53 ls []) rfl ?_
      refine lv_goto (pc := 53) (tgt := 85) hx hb d_M_write_53 (by decide) ?_
      exact mu_vret (pc := 85) hx hb hr hlk hQ (by simpa only [writeF, if_neg c_1, if_pos c_2, nI_clamp (show k < 2 ^ 31 by omega)] using hP) hS d_M_write_85
  · refine lv_aload_n (pc := 6) hx hb d_M_write_6 rfl (lv_at hl 0 rfl) ?_
    refine lv_bipush (pc := 7) (v := 21) hx hb d_M_write_7 (by decide) ?_
    refine lv_aload_n (pc := 9) hx hb d_M_write_9 rfl (lv_at hl 0 rfl) ?_
    refine va_get (pc := 10) (D := D) (ci := 2) (v := .ref hk) (C := cn_M) (T := fT_M) (N := 6) hx hb hts in_M hown hX.1 hP 0 rfl rfl 0 (by decide) (hts _ kf_M_7) (fun _ h9 => h9) rfl d_M_write_10 ?_
    refine lv_bipush (pc := 13) (v := 20) hx hb d_M_write_13 (by decide) ?_
    refine rd_i (pc := 15) hx hb hX hP 1 rfl 20 (by decide) (vp_in_nI (n := 20) (N := 29) (by decide) (by decide)) d_M_write_15 ?_
    refine lv_sipush (pc := 16) (v := 1092) hx hb d_M_write_16 (by decide) ?_
    refine lv_iand (pc := 19) hx hb d_M_write_19 ?_
    refine lv_iload_n (pc := 20) hx hb d_M_write_20 rfl (lv_at hl 2 rfl) ?_
    refine lv_iconst (pc := 21) (v := 1) hx hb d_M_write_21 (by decide) ?_
    refine lv_ishl (pc := 22) hx hb d_M_write_22 ?_
    refine mu_V (pc := 23) (As := [.int 21, .int ((f 20) &&& 1092), .int (v <<< ((1 : Int32) &&& 31))]) (rest := []) hx hb hml hl.1 hown hts (c_M_put l D cI cR ad h hk f md tm al ln od 21 21 (by decide) (vp_in_nI (n := 21) (N := 29) (by decide) (by decide)) ((f 20) &&& 1092) (v <<< ((1 : Int32) &&& 31))) g_M_50 ⟨Nat.le_of_ble_eq_true rfl, Nat.le_of_ble_eq_true rfl⟩ (va_recv hX.1 hP (ci := 2) (q0 := 0) rfl rfl) hP hD hS hX hE [0, 1] (by decide) rfl rfl rfl (Nat.le_of_ble_eq_true rfl) ⟨Nat.zero_le _, Nat.zero_le _⟩ d_M_write_23 (fun H locs hP hD hS => ?_)
    have hP : va_P D cls_ [(h, .inr (2, [.ref hk, .int md, .long tm, .long al, .int (bI ln), .int od])), (hk, .inl (cI, 29, .inl (putF f 21 ((f 20) &&& 1092) (v <<< ((1 : Int32) &&& 31)))))] H := hP
    have hD : va_D _ [(h, .inr (2, [.ref hk, .int md, .long tm, .long al, .int (bI ln), .int od])), (hk, .inl (cI, 29, .inl (putF f 21 ((f 20) &&& 1092) (v <<< ((1 : Int32) &&& 31)))))] := hD
    refine W.eq (g2 := F0 m 26 ls []) rfl ?_
    refine lv_goto (pc := 26) (tgt := 85) hx hb d_M_write_26 (by decide) ?_
    exact mu_vret (pc := 85) hx hb hr hlk hQ (by simpa only [writeF, if_pos c_1, nI_clamp (show k < 2 ^ 31 by omega)] using hP) hS d_M_write_85
set_option maxHeartbeats 4000000 in
set_option maxRecDepth 100000 in
theorem c_M_access (l : Launch) (D : va_G) (cI cR : ClassId) (ad : Nat → Nat) (h hk : Nat) (f : Nat → Int32) (md : Int32) (tm al : Int64) (ln : Bool) (od : Int32) (n k v : Int32) : MU l y_M_access b_M_access 7 (some .int) 2 46 D cI cR ad (wM cI h hk f md tm al ln od) [.ref h, .int n, .int k, .int v] (some (.int (accR f md n k))) (wM cI h hk (accS f md tm al ln n k v) md tm al ln (accO f md tm al ln od n k)) := by
  refine mu_ofW (by decide) (Nat.le_of_ble_eq_true rfl) ?_
  intro p e s m below meth c args Q ls hx hb hr hml hown hts hlk hP hX hE hl hQ hD hS
  have hown : s.vm.findClass cn_M = some m.cls := hown
  have hP : va_P D cls_ [(h, .inr (2, [.ref hk, .int md, .long tm, .long al, .int (bI ln), .int od])), (hk, .inl (cI, 29, .inl f))] s.heap := hP
  have hD : va_D _ [(h, .inr (2, [.ref hk, .int md, .long tm, .long al, .int (bI ln), .int od])), (hk, .inl (cI, 29, .inl f))] := hD
  have hl : lv_has ls 7 [(0, .ref h), (1, .int n), (2, .int k), (3, .int v)] := hl
  refine lv_iload_n (pc := 0) hx hb d_M_access_0 rfl (lv_at hl 2 rfl) ?_
  refine lv_if_lt (pc := 1) (tgt := 9) hx hb d_M_access_1 (by decide) (fun c_1 => ?_) (fun c_1 => ?_)
  · refine lv_iconst (pc := 9) (v := (-1)) hx hb d_M_access_9 (by decide) ?_
    have hbad : accR f md n k = -1 := accR_bad (Or.inl c_1)
    have hne : ¬ accR f md n k = 0 := by rw [hbad]; decide
    exact mu_iret (pc := 10) hx hb hr hlk hQ hbad.symm (by rw [accS_no hne, accO_no hne]; exact hP) hS d_M_access_10
  · refine lv_iload_n (pc := 4) hx hb d_M_access_4 rfl (lv_at hl 2 rfl) ?_
    refine lv_iconst (pc := 5) (v := 3) hx hb d_M_access_5 (by decide) ?_
    refine lv_icmp_le (pc := 6) (tgt := 11) hx hb d_M_access_6 (by decide) (fun c_2 => ?_) (fun c_2 => ?_)
    · refine lv_iload_n (pc := 11) hx hb d_M_access_11 rfl (lv_at hl 1 rfl) ?_
      refine ro_S (pc := 12) (As := [.int n]) (rest := []) (wc := []) hx hb hml hl.1 hown hts (c_M_placeOf l D cI cR ad n) g_M_61 ⟨Nat.le_of_ble_eq_true rfl, Nat.le_of_ble_eq_true rfl⟩ (wc_P hP [] rfl) hX (hE.ro hS) rfl (Nat.le_of_ble_eq_true rfl) ⟨Nat.zero_le _, Nat.zero_le _⟩ d_M_access_12 ?_
      refine lv_istore (pc := 15) (lv' := [(4, .int (placeF n)), (0, .ref h), (1, .int n), (2, .int k), (3, .int v)]) hx hb d_M_access_15 hl (by decide) rfl (fun ls hl => ?_)
      refine lv_aload_n (pc := 17) hx hb d_M_access_17 rfl (lv_at hl 1 rfl) ?_
      refine lv_iload (pc := 18) hx hb d_M_access_18 (lv_at hl 0 rfl) ?_
      refine lv_iload_n (pc := 20) hx hb d_M_access_20 rfl (lv_at hl 3 rfl) ?_
      refine lv_if_le (pc := 21) (tgt := 28) hx hb d_M_access_21 (by decide) (fun c_3 => ?_) (fun c_3 => ?_)
      · have hk0 : k = 0 := i_le0 c_1 c_3
        have eR : accR f md n k = refF f md (placeF n) false := accR_0 c_1 c_2 hk0
        refine lv_iconst (pc := 28) (v := 0) hx hb d_M_access_28 (by decide) ?_
        refine ro_V (pc := 29) (As := [.int (placeF n), .int 0]) (rest := []) hx hb hml hl.1 hown hts (c_M_refusal l D cI cR ad h hk f md tm al ln od (placeF n) false) g_M_64 ⟨Nat.le_of_ble_eq_true rfl, Nat.le_of_ble_eq_true rfl⟩ (va_recv hX.1 hP (ci := 2) (q0 := 0) rfl rfl) (wc_P hP [0, 1] rfl) hX (hE.ro hS) rfl (Nat.le_of_ble_eq_true rfl) ⟨Nat.zero_le _, Nat.zero_le _⟩ d_M_access_29 ?_
        refine lv_istore (pc := 32) (lv' := [(5, .int (refF f md (placeF n) false)), (4, .int (placeF n)), (0, .ref h), (1, .int n), (2, .int k), (3, .int v)]) hx hb d_M_access_32 hl (by decide) rfl (fun ls hl => ?_)
        refine lv_iload (pc := 34) hx hb d_M_access_34 (lv_at hl 0 rfl) ?_
        refine lv_if_le (pc := 36) (tgt := 42) hx hb d_M_access_36 (by decide) (fun c_4 => ?_) (fun c_4 => ?_)
        · have hr0 : refF f md (placeF n) false = 0 := ref_le c_4
          refine lv_aload_n (pc := 42) hx hb d_M_access_42 rfl (lv_at hl 2 rfl) ?_
          refine va_get (pc := 43) (D := D) (ci := 2) (v := .int md) (C := cn_M) (T := fT_M) (N := 6) hx hb hts in_M hown hX.1 hP 0 rfl rfl 1 (by decide) (hts _ kf_M_16) (fun _ h9 => h9) rfl d_M_access_43 ?_
          refine lv_iconst (pc := 46) (v := 3) hx hb d_M_access_46 (by decide) ?_
          refine lv_icmp_ne (pc := 47) (tgt := 65) hx hb d_M_access_47 (by decide) (fun c_5 => ?_) (fun c_5 => ?_)
          · refine lv_iload (pc := 65) hx hb d_M_access_65 (lv_at hl 1 rfl) ?_
            refine top_eq (pc := 67) (y := atF md (placeF n)) (by simp [atF, c_5]) ?_
            refine lv_istore (pc := 67) (lv' := [(6, .int (atF md (placeF n))), (5, .int (refF f md (placeF n) false)), (4, .int (placeF n)), (0, .ref h), (1, .int n), (2, .int k), (3, .int v)]) hx hb d_M_access_67 hl (by decide) rfl (fun ls hl => ?_)
            refine lv_aload_n (pc := 69) hx hb d_M_access_69 rfl (lv_at hl 3 rfl) ?_
            refine lv_aload_n (pc := 70) hx hb d_M_access_70 rfl (lv_at hl 3 rfl) ?_
            refine lv_iload (pc := 71) hx hb d_M_access_71 (lv_at hl 0 rfl) ?_
            refine ro_V (pc := 73) (As := [.int (atF md (placeF n))]) (rest := [.ref h]) hx hb hml hl.1 hown hts (c_M_tells l D cI cR ad h hk f md tm al ln od (atF md (placeF n)) (at_in hr0)) g_M_68 ⟨Nat.le_of_ble_eq_true rfl, Nat.le_of_ble_eq_true rfl⟩ (va_recv hX.1 hP (ci := 2) (q0 := 0) rfl rfl) (wc_P hP [0, 1] rfl) hX (hE.ro hS) rfl (Nat.le_of_ble_eq_true rfl) ⟨Nat.zero_le _, Nat.zero_le _⟩ d_M_access_73 ?_
            refine va_put (pc := 76) (D := D) (ci := 2) (v := .int (tellsF f tm al ln (atF md (placeF n)))) (ty := .int) (C := cn_M) (T := fT_M) (N := 6) hx hb hts in_M tT_M tt_M nn_M hown hX.1 hP hD hS 0 rfl rfl 5 (by decide) (hts _ kf_M_33) (fun _ h9 => h9) rfl (by decide +kernel) rfl rfl (Nat.le_of_ble_eq_true rfl) d_M_access_76 (fun H locs hP hD hS => ?_)
            have hP : va_P D cls_ [(h, .inr (2, [.ref hk, .int md, .long tm, .long al, .int (bI ln), .int (tellsF f tm al ln (atF md (placeF n)))])), (hk, .inl (cI, 29, .inl f))] H := hP
            have hD : va_D _ [(h, .inr (2, [.ref hk, .int md, .long tm, .long al, .int (bI ln), .int (tellsF f tm al ln (atF md (placeF n)))])), (hk, .inl (cI, 29, .inl f))] := hD
            refine lv_iload_n (pc := 79) hx hb d_M_access_79 rfl (lv_at hl 5 rfl) ?_
            refine lv_if_le (pc := 80) (tgt := 120) hx hb d_M_access_80 (by decide) (fun c_6 => ?_) (fun c_6 => absurd c_3 c_6)
            refine lv_iconst (pc := 120) (v := 0) hx hb d_M_access_120 (by decide) ?_
            have h00 : accR f md n k = 0 := eR.trans hr0
            exact mu_iret (pc := 121) hx hb hr hlk hQ h00.symm (by rw [accO_yes h00, accS_rd hk0]; exact hP) hS d_M_access_121
          · refine lv_iload (pc := 50) hx hb d_M_access_50 (lv_at hl 1 rfl) ?_
            refine lv_bipush (pc := 52) (v := 8) hx hb d_M_access_52 (by decide) ?_
            refine lv_icmp_gt (pc := 54) (tgt := 65) hx hb d_M_access_54 (by decide) (fun c_7 => ?_) (fun c_7 => ?_)
            · refine lv_iload (pc := 65) hx hb d_M_access_65 (lv_at hl 1 rfl) ?_
              refine top_eq (pc := 67) (y := atF md (placeF n)) (by simp [atF, c_5, Int32.not_le.mpr c_7]) ?_
              refine lv_istore (pc := 67) (lv' := [(6, .int (atF md (placeF n))), (5, .int (refF f md (placeF n) false)), (4, .int (placeF n)), (0, .ref h), (1, .int n), (2, .int k), (3, .int v)]) hx hb d_M_access_67 hl (by decide) rfl (fun ls hl => ?_)
              refine lv_aload_n (pc := 69) hx hb d_M_access_69 rfl (lv_at hl 3 rfl) ?_
              refine lv_aload_n (pc := 70) hx hb d_M_access_70 rfl (lv_at hl 3 rfl) ?_
              refine lv_iload (pc := 71) hx hb d_M_access_71 (lv_at hl 0 rfl) ?_
              refine ro_V (pc := 73) (As := [.int (atF md (placeF n))]) (rest := [.ref h]) hx hb hml hl.1 hown hts (c_M_tells l D cI cR ad h hk f md tm al ln od (atF md (placeF n)) (at_in hr0)) g_M_68 ⟨Nat.le_of_ble_eq_true rfl, Nat.le_of_ble_eq_true rfl⟩ (va_recv hX.1 hP (ci := 2) (q0 := 0) rfl rfl) (wc_P hP [0, 1] rfl) hX (hE.ro hS) rfl (Nat.le_of_ble_eq_true rfl) ⟨Nat.zero_le _, Nat.zero_le _⟩ d_M_access_73 ?_
              refine va_put (pc := 76) (D := D) (ci := 2) (v := .int (tellsF f tm al ln (atF md (placeF n)))) (ty := .int) (C := cn_M) (T := fT_M) (N := 6) hx hb hts in_M tT_M tt_M nn_M hown hX.1 hP hD hS 0 rfl rfl 5 (by decide) (hts _ kf_M_33) (fun _ h9 => h9) rfl (by decide +kernel) rfl rfl (Nat.le_of_ble_eq_true rfl) d_M_access_76 (fun H locs hP hD hS => ?_)
              have hP : va_P D cls_ [(h, .inr (2, [.ref hk, .int md, .long tm, .long al, .int (bI ln), .int (tellsF f tm al ln (atF md (placeF n)))])), (hk, .inl (cI, 29, .inl f))] H := hP
              have hD : va_D _ [(h, .inr (2, [.ref hk, .int md, .long tm, .long al, .int (bI ln), .int (tellsF f tm al ln (atF md (placeF n)))])), (hk, .inl (cI, 29, .inl f))] := hD
              refine lv_iload_n (pc := 79) hx hb d_M_access_79 rfl (lv_at hl 5 rfl) ?_
              refine lv_if_le (pc := 80) (tgt := 120) hx hb d_M_access_80 (by decide) (fun c_8 => ?_) (fun c_8 => absurd c_3 c_8)
              refine lv_iconst (pc := 120) (v := 0) hx hb d_M_access_120 (by decide) ?_
              have h00 : accR f md n k = 0 := eR.trans hr0
              exact mu_iret (pc := 121) hx hb hr hlk hQ h00.symm (by rw [accO_yes h00, accS_rd hk0]; exact hP) hS d_M_access_121
            · refine lv_iload (pc := 57) hx hb d_M_access_57 (lv_at hl 1 rfl) ?_
              refine lv_bipush (pc := 59) (v := 9) hx hb d_M_access_59 (by decide) ?_
              refine lv_iadd (pc := 61) hx hb d_M_access_61 ?_
              refine lv_goto (pc := 62) (tgt := 67) hx hb d_M_access_62 (by decide) ?_
              refine top_eq (pc := 67) (y := atF md (placeF n)) (by simp [atF, c_5, Int32.not_lt.mp c_7]) ?_
              refine lv_istore (pc := 67) (lv' := [(6, .int (atF md (placeF n))), (5, .int (refF f md (placeF n) false)), (4, .int (placeF n)), (0, .ref h), (1, .int n), (2, .int k), (3, .int v)]) hx hb d_M_access_67 hl (by decide) rfl (fun ls hl => ?_)
              refine lv_aload_n (pc := 69) hx hb d_M_access_69 rfl (lv_at hl 3 rfl) ?_
              refine lv_aload_n (pc := 70) hx hb d_M_access_70 rfl (lv_at hl 3 rfl) ?_
              refine lv_iload (pc := 71) hx hb d_M_access_71 (lv_at hl 0 rfl) ?_
              refine ro_V (pc := 73) (As := [.int (atF md (placeF n))]) (rest := [.ref h]) hx hb hml hl.1 hown hts (c_M_tells l D cI cR ad h hk f md tm al ln od (atF md (placeF n)) (at_in hr0)) g_M_68 ⟨Nat.le_of_ble_eq_true rfl, Nat.le_of_ble_eq_true rfl⟩ (va_recv hX.1 hP (ci := 2) (q0 := 0) rfl rfl) (wc_P hP [0, 1] rfl) hX (hE.ro hS) rfl (Nat.le_of_ble_eq_true rfl) ⟨Nat.zero_le _, Nat.zero_le _⟩ d_M_access_73 ?_
              refine va_put (pc := 76) (D := D) (ci := 2) (v := .int (tellsF f tm al ln (atF md (placeF n)))) (ty := .int) (C := cn_M) (T := fT_M) (N := 6) hx hb hts in_M tT_M tt_M nn_M hown hX.1 hP hD hS 0 rfl rfl 5 (by decide) (hts _ kf_M_33) (fun _ h9 => h9) rfl (by decide +kernel) rfl rfl (Nat.le_of_ble_eq_true rfl) d_M_access_76 (fun H locs hP hD hS => ?_)
              have hP : va_P D cls_ [(h, .inr (2, [.ref hk, .int md, .long tm, .long al, .int (bI ln), .int (tellsF f tm al ln (atF md (placeF n)))])), (hk, .inl (cI, 29, .inl f))] H := hP
              have hD : va_D _ [(h, .inr (2, [.ref hk, .int md, .long tm, .long al, .int (bI ln), .int (tellsF f tm al ln (atF md (placeF n)))])), (hk, .inl (cI, 29, .inl f))] := hD
              refine lv_iload_n (pc := 79) hx hb d_M_access_79 rfl (lv_at hl 5 rfl) ?_
              refine lv_if_le (pc := 80) (tgt := 120) hx hb d_M_access_80 (by decide) (fun c_9 => ?_) (fun c_9 => absurd c_3 c_9)
              refine lv_iconst (pc := 120) (v := 0) hx hb d_M_access_120 (by decide) ?_
              have h00 : accR f md n k = 0 := eR.trans hr0
              exact mu_iret (pc := 121) hx hb hr hlk hQ h00.symm (by rw [accO_yes h00, accS_rd hk0]; exact hP) hS d_M_access_121
        · refine lv_iload (pc := 39) hx hb d_M_access_39 (lv_at hl 0 rfl) ?_
          have hne : ¬ accR f md n k = 0 := by rw [eR]; exact ref_nle c_4
          exact mu_iret (pc := 41) hx hb hr hlk hQ eR.symm (by rw [accS_no hne, accO_no hne]; exact hP) hS d_M_access_41
      · have hk1 : ¬ k = 0 := i_nle0 c_3
        have eR : accR f md n k = refF f md (placeF n) true := accR_1 c_1 c_2 hk1
        refine lv_iconst (pc := 24) (v := 1) hx hb d_M_access_24 (by decide) ?_
        refine lv_goto (pc := 25) (tgt := 29) hx hb d_M_access_25 (by decide) ?_
        refine ro_V (pc := 29) (As := [.int (placeF n), .int 1]) (rest := []) hx hb hml hl.1 hown hts (c_M_refusal l D cI cR ad h hk f md tm al ln od (placeF n) true) g_M_64 ⟨Nat.le_of_ble_eq_true rfl, Nat.le_of_ble_eq_true rfl⟩ (va_recv hX.1 hP (ci := 2) (q0 := 0) rfl rfl) (wc_P hP [0, 1] rfl) hX (hE.ro hS) rfl (Nat.le_of_ble_eq_true rfl) ⟨Nat.zero_le _, Nat.zero_le _⟩ d_M_access_29 ?_
        refine lv_istore (pc := 32) (lv' := [(5, .int (refF f md (placeF n) true)), (4, .int (placeF n)), (0, .ref h), (1, .int n), (2, .int k), (3, .int v)]) hx hb d_M_access_32 hl (by decide) rfl (fun ls hl => ?_)
        refine lv_iload (pc := 34) hx hb d_M_access_34 (lv_at hl 0 rfl) ?_
        refine lv_if_le (pc := 36) (tgt := 42) hx hb d_M_access_36 (by decide) (fun c_10 => ?_) (fun c_10 => ?_)
        · have hr0 : refF f md (placeF n) true = 0 := ref_le c_10
          refine lv_aload_n (pc := 42) hx hb d_M_access_42 rfl (lv_at hl 2 rfl) ?_
          refine va_get (pc := 43) (D := D) (ci := 2) (v := .int md) (C := cn_M) (T := fT_M) (N := 6) hx hb hts in_M hown hX.1 hP 0 rfl rfl 1 (by decide) (hts _ kf_M_16) (fun _ h9 => h9) rfl d_M_access_43 ?_
          refine lv_iconst (pc := 46) (v := 3) hx hb d_M_access_46 (by decide) ?_
          refine lv_icmp_ne (pc := 47) (tgt := 65) hx hb d_M_access_47 (by decide) (fun c_11 => ?_) (fun c_11 => ?_)
          · refine lv_iload (pc := 65) hx hb d_M_access_65 (lv_at hl 1 rfl) ?_
            refine top_eq (pc := 67) (y := atF md (placeF n)) (by simp [atF, c_11]) ?_
            refine lv_istore (pc := 67) (lv' := [(6, .int (atF md (placeF n))), (5, .int (refF f md (placeF n) true)), (4, .int (placeF n)), (0, .ref h), (1, .int n), (2, .int k), (3, .int v)]) hx hb d_M_access_67 hl (by decide) rfl (fun ls hl => ?_)
            refine lv_aload_n (pc := 69) hx hb d_M_access_69 rfl (lv_at hl 3 rfl) ?_
            refine lv_aload_n (pc := 70) hx hb d_M_access_70 rfl (lv_at hl 3 rfl) ?_
            refine lv_iload (pc := 71) hx hb d_M_access_71 (lv_at hl 0 rfl) ?_
            refine ro_V (pc := 73) (As := [.int (atF md (placeF n))]) (rest := [.ref h]) hx hb hml hl.1 hown hts (c_M_tells l D cI cR ad h hk f md tm al ln od (atF md (placeF n)) (at_in hr0)) g_M_68 ⟨Nat.le_of_ble_eq_true rfl, Nat.le_of_ble_eq_true rfl⟩ (va_recv hX.1 hP (ci := 2) (q0 := 0) rfl rfl) (wc_P hP [0, 1] rfl) hX (hE.ro hS) rfl (Nat.le_of_ble_eq_true rfl) ⟨Nat.zero_le _, Nat.zero_le _⟩ d_M_access_73 ?_
            refine va_put (pc := 76) (D := D) (ci := 2) (v := .int (tellsF f tm al ln (atF md (placeF n)))) (ty := .int) (C := cn_M) (T := fT_M) (N := 6) hx hb hts in_M tT_M tt_M nn_M hown hX.1 hP hD hS 0 rfl rfl 5 (by decide) (hts _ kf_M_33) (fun _ h9 => h9) rfl (by decide +kernel) rfl rfl (Nat.le_of_ble_eq_true rfl) d_M_access_76 (fun H locs hP hD hS => ?_)
            have hP : va_P D cls_ [(h, .inr (2, [.ref hk, .int md, .long tm, .long al, .int (bI ln), .int (tellsF f tm al ln (atF md (placeF n)))])), (hk, .inl (cI, 29, .inl f))] H := hP
            have hD : va_D _ [(h, .inr (2, [.ref hk, .int md, .long tm, .long al, .int (bI ln), .int (tellsF f tm al ln (atF md (placeF n)))])), (hk, .inl (cI, 29, .inl f))] := hD
            refine lv_iload_n (pc := 79) hx hb d_M_access_79 rfl (lv_at hl 5 rfl) ?_
            refine lv_if_le (pc := 80) (tgt := 120) hx hb d_M_access_80 (by decide) (fun c_12 => absurd c_12 c_3) (fun c_12 => ?_)
            refine lv_aload_n (pc := 83) hx hb d_M_access_83 rfl (lv_at hl 3 rfl) ?_
            refine lv_iload (pc := 84) hx hb d_M_access_84 (lv_at hl 0 rfl) ?_
            refine lv_iload_n (pc := 86) hx hb d_M_access_86 rfl (lv_at hl 5 rfl) ?_
            refine lv_iconst (pc := 87) (v := 1) hx hb d_M_access_87 (by decide) ?_
            refine lv_icmp_ne (pc := 88) (tgt := 95) hx hb d_M_access_88 (by decide) (fun c_13 => ?_) (fun c_13 => ?_)
            · refine lv_iload_n (pc := 95) hx hb d_M_access_95 rfl (lv_at hl 5 rfl) ?_
              refine lv_iconst (pc := 96) (v := 2) hx hb d_M_access_96 (by decide) ?_
              refine lv_icmp_ne (pc := 97) (tgt := 109) hx hb d_M_access_97 (by decide) (fun c_14 => ?_) (fun c_14 => ?_)
              · refine lv_aload_n (pc := 109) hx hb d_M_access_109 rfl (lv_at hl 3 rfl) ?_
                refine va_get (pc := 110) (D := D) (ci := 2) (v := .int (tellsF f tm al ln (atF md (placeF n)))) (C := cn_M) (T := fT_M) (N := 6) hx hb hts in_M hown hX.1 hP 0 rfl rfl 5 (by decide) (hts _ kf_M_33) (fun _ h9 => h9) rfl d_M_access_110 ?_
                refine lv_iload_n (pc := 113) hx hb d_M_access_113 rfl (lv_at hl 6 rfl) ?_
                refine lv_iconst (pc := 114) (v := (-1)) hx hb d_M_access_114 (by decide) ?_
                refine lv_ixor (pc := 115) hx hb d_M_access_115 ?_
                refine lv_iand (pc := 116) hx hb d_M_access_116 ?_
                refine top_eq (pc := 117) (y := valF k (tellsF f tm al ln (atF md (placeF n))) v) (by simp only [valF, if_neg c_13, if_neg c_14]) ?_
                refine mu_V (pc := 117) (As := [.int (atF md (placeF n)), .int (valF k (tellsF f tm al ln (atF md (placeF n))) v)]) (rest := []) hx hb hml hl.1 hown hts (c_M_write l D cI cR ad h hk f md tm al ln (tellsF f tm al ln (atF md (placeF n))) (atF md (placeF n)) (at_in hr0) (valF k (tellsF f tm al ln (atF md (placeF n))) v)) g_M_71 ⟨Nat.le_of_ble_eq_true rfl, Nat.le_of_ble_eq_true rfl⟩ (va_recv hX.1 hP (ci := 2) (q0 := 0) rfl rfl) hP hD hS hX hE [0, 1] (by decide) rfl rfl rfl (Nat.le_of_ble_eq_true rfl) ⟨Nat.zero_le _, Nat.zero_le _⟩ d_M_access_117 (fun H locs hP hD hS => ?_)
                have hP : va_P D cls_ [(h, .inr (2, [.ref hk, .int md, .long tm, .long al, .int (bI ln), .int (tellsF f tm al ln (atF md (placeF n)))])), (hk, .inl (cI, 29, .inl (writeF f (atF md (placeF n)) (valF k (tellsF f tm al ln (atF md (placeF n))) v))))] H := hP
                have hD : va_D _ [(h, .inr (2, [.ref hk, .int md, .long tm, .long al, .int (bI ln), .int (tellsF f tm al ln (atF md (placeF n)))])), (hk, .inl (cI, 29, .inl (writeF f (atF md (placeF n)) (valF k (tellsF f tm al ln (atF md (placeF n))) v))))] := hD
                refine W.eq (g2 := F0 m 120 ls []) rfl ?_
                refine lv_iconst (pc := 120) (v := 0) hx hb d_M_access_120 (by decide) ?_
                have h00 : accR f md n k = 0 := eR.trans hr0
                exact mu_iret (pc := 121) hx hb hr hlk hQ h00.symm (by rw [accO_yes h00, accS_wr h00 hk1]; exact hP) hS d_M_access_121
              · refine lv_aload_n (pc := 100) hx hb d_M_access_100 rfl (lv_at hl 3 rfl) ?_
                refine va_get (pc := 101) (D := D) (ci := 2) (v := .int (tellsF f tm al ln (atF md (placeF n)))) (C := cn_M) (T := fT_M) (N := 6) hx hb hts in_M hown hX.1 hP 0 rfl rfl 5 (by decide) (hts _ kf_M_33) (fun _ h9 => h9) rfl d_M_access_101 ?_
                refine lv_iload_n (pc := 104) hx hb d_M_access_104 rfl (lv_at hl 6 rfl) ?_
                refine lv_ior (pc := 105) hx hb d_M_access_105 ?_
                refine lv_goto (pc := 106) (tgt := 117) hx hb d_M_access_106 (by decide) ?_
                refine top_eq (pc := 117) (y := valF k (tellsF f tm al ln (atF md (placeF n))) v) (by simp only [valF, if_neg c_13, if_pos c_14]) ?_
                refine mu_V (pc := 117) (As := [.int (atF md (placeF n)), .int (valF k (tellsF f tm al ln (atF md (placeF n))) v)]) (rest := []) hx hb hml hl.1 hown hts (c_M_write l D cI cR ad h hk f md tm al ln (tellsF f tm al ln (atF md (placeF n))) (atF md (placeF n)) (at_in hr0) (valF k (tellsF f tm al ln (atF md (placeF n))) v)) g_M_71 ⟨Nat.le_of_ble_eq_true rfl, Nat.le_of_ble_eq_true rfl⟩ (va_recv hX.1 hP (ci := 2) (q0 := 0) rfl rfl) hP hD hS hX hE [0, 1] (by decide) rfl rfl rfl (Nat.le_of_ble_eq_true rfl) ⟨Nat.zero_le _, Nat.zero_le _⟩ d_M_access_117 (fun H locs hP hD hS => ?_)
                have hP : va_P D cls_ [(h, .inr (2, [.ref hk, .int md, .long tm, .long al, .int (bI ln), .int (tellsF f tm al ln (atF md (placeF n)))])), (hk, .inl (cI, 29, .inl (writeF f (atF md (placeF n)) (valF k (tellsF f tm al ln (atF md (placeF n))) v))))] H := hP
                have hD : va_D _ [(h, .inr (2, [.ref hk, .int md, .long tm, .long al, .int (bI ln), .int (tellsF f tm al ln (atF md (placeF n)))])), (hk, .inl (cI, 29, .inl (writeF f (atF md (placeF n)) (valF k (tellsF f tm al ln (atF md (placeF n))) v))))] := hD
                refine W.eq (g2 := F0 m 120 ls []) rfl ?_
                refine lv_iconst (pc := 120) (v := 0) hx hb d_M_access_120 (by decide) ?_
                have h00 : accR f md n k = 0 := eR.trans hr0
                exact mu_iret (pc := 121) hx hb hr hlk hQ h00.symm (by rw [accO_yes h00, accS_wr h00 hk1]; exact hP) hS d_M_access_121
            · refine lv_iload_n (pc := 91) hx hb d_M_access_91 rfl (lv_at hl 6 rfl) ?_
              refine lv_goto (pc := 92) (tgt := 117) hx hb d_M_access_92 (by decide) ?_
              refine top_eq (pc := 117) (y := valF k (tellsF f tm al ln (atF md (placeF n))) v) (by simp only [valF, if_pos c_13]) ?_
              refine mu_V (pc := 117) (As := [.int (atF md (placeF n)), .int (valF k (tellsF f tm al ln (atF md (placeF n))) v)]) (rest := []) hx hb hml hl.1 hown hts (c_M_write l D cI cR ad h hk f md tm al ln (tellsF f tm al ln (atF md (placeF n))) (atF md (placeF n)) (at_in hr0) (valF k (tellsF f tm al ln (atF md (placeF n))) v)) g_M_71 ⟨Nat.le_of_ble_eq_true rfl, Nat.le_of_ble_eq_true rfl⟩ (va_recv hX.1 hP (ci := 2) (q0 := 0) rfl rfl) hP hD hS hX hE [0, 1] (by decide) rfl rfl rfl (Nat.le_of_ble_eq_true rfl) ⟨Nat.zero_le _, Nat.zero_le _⟩ d_M_access_117 (fun H locs hP hD hS => ?_)
              have hP : va_P D cls_ [(h, .inr (2, [.ref hk, .int md, .long tm, .long al, .int (bI ln), .int (tellsF f tm al ln (atF md (placeF n)))])), (hk, .inl (cI, 29, .inl (writeF f (atF md (placeF n)) (valF k (tellsF f tm al ln (atF md (placeF n))) v))))] H := hP
              have hD : va_D _ [(h, .inr (2, [.ref hk, .int md, .long tm, .long al, .int (bI ln), .int (tellsF f tm al ln (atF md (placeF n)))])), (hk, .inl (cI, 29, .inl (writeF f (atF md (placeF n)) (valF k (tellsF f tm al ln (atF md (placeF n))) v))))] := hD
              refine W.eq (g2 := F0 m 120 ls []) rfl ?_
              refine lv_iconst (pc := 120) (v := 0) hx hb d_M_access_120 (by decide) ?_
              have h00 : accR f md n k = 0 := eR.trans hr0
              exact mu_iret (pc := 121) hx hb hr hlk hQ h00.symm (by rw [accO_yes h00, accS_wr h00 hk1]; exact hP) hS d_M_access_121
          · refine lv_iload (pc := 50) hx hb d_M_access_50 (lv_at hl 1 rfl) ?_
            refine lv_bipush (pc := 52) (v := 8) hx hb d_M_access_52 (by decide) ?_
            refine lv_icmp_gt (pc := 54) (tgt := 65) hx hb d_M_access_54 (by decide) (fun c_15 => ?_) (fun c_15 => ?_)
            · refine lv_iload (pc := 65) hx hb d_M_access_65 (lv_at hl 1 rfl) ?_
              refine top_eq (pc := 67) (y := atF md (placeF n)) (by simp [atF, c_11, Int32.not_le.mpr c_15]) ?_
              refine lv_istore (pc := 67) (lv' := [(6, .int (atF md (placeF n))), (5, .int (refF f md (placeF n) true)), (4, .int (placeF n)), (0, .ref h), (1, .int n), (2, .int k), (3, .int v)]) hx hb d_M_access_67 hl (by decide) rfl (fun ls hl => ?_)
              refine lv_aload_n (pc := 69) hx hb d_M_access_69 rfl (lv_at hl 3 rfl) ?_
              refine lv_aload_n (pc := 70) hx hb d_M_access_70 rfl (lv_at hl 3 rfl) ?_
              refine lv_iload (pc := 71) hx hb d_M_access_71 (lv_at hl 0 rfl) ?_
              refine ro_V (pc := 73) (As := [.int (atF md (placeF n))]) (rest := [.ref h]) hx hb hml hl.1 hown hts (c_M_tells l D cI cR ad h hk f md tm al ln od (atF md (placeF n)) (at_in hr0)) g_M_68 ⟨Nat.le_of_ble_eq_true rfl, Nat.le_of_ble_eq_true rfl⟩ (va_recv hX.1 hP (ci := 2) (q0 := 0) rfl rfl) (wc_P hP [0, 1] rfl) hX (hE.ro hS) rfl (Nat.le_of_ble_eq_true rfl) ⟨Nat.zero_le _, Nat.zero_le _⟩ d_M_access_73 ?_
              refine va_put (pc := 76) (D := D) (ci := 2) (v := .int (tellsF f tm al ln (atF md (placeF n)))) (ty := .int) (C := cn_M) (T := fT_M) (N := 6) hx hb hts in_M tT_M tt_M nn_M hown hX.1 hP hD hS 0 rfl rfl 5 (by decide) (hts _ kf_M_33) (fun _ h9 => h9) rfl (by decide +kernel) rfl rfl (Nat.le_of_ble_eq_true rfl) d_M_access_76 (fun H locs hP hD hS => ?_)
              have hP : va_P D cls_ [(h, .inr (2, [.ref hk, .int md, .long tm, .long al, .int (bI ln), .int (tellsF f tm al ln (atF md (placeF n)))])), (hk, .inl (cI, 29, .inl f))] H := hP
              have hD : va_D _ [(h, .inr (2, [.ref hk, .int md, .long tm, .long al, .int (bI ln), .int (tellsF f tm al ln (atF md (placeF n)))])), (hk, .inl (cI, 29, .inl f))] := hD
              refine lv_iload_n (pc := 79) hx hb d_M_access_79 rfl (lv_at hl 5 rfl) ?_
              refine lv_if_le (pc := 80) (tgt := 120) hx hb d_M_access_80 (by decide) (fun c_16 => absurd c_16 c_3) (fun c_16 => ?_)
              refine lv_aload_n (pc := 83) hx hb d_M_access_83 rfl (lv_at hl 3 rfl) ?_
              refine lv_iload (pc := 84) hx hb d_M_access_84 (lv_at hl 0 rfl) ?_
              refine lv_iload_n (pc := 86) hx hb d_M_access_86 rfl (lv_at hl 5 rfl) ?_
              refine lv_iconst (pc := 87) (v := 1) hx hb d_M_access_87 (by decide) ?_
              refine lv_icmp_ne (pc := 88) (tgt := 95) hx hb d_M_access_88 (by decide) (fun c_17 => ?_) (fun c_17 => ?_)
              · refine lv_iload_n (pc := 95) hx hb d_M_access_95 rfl (lv_at hl 5 rfl) ?_
                refine lv_iconst (pc := 96) (v := 2) hx hb d_M_access_96 (by decide) ?_
                refine lv_icmp_ne (pc := 97) (tgt := 109) hx hb d_M_access_97 (by decide) (fun c_18 => ?_) (fun c_18 => ?_)
                · refine lv_aload_n (pc := 109) hx hb d_M_access_109 rfl (lv_at hl 3 rfl) ?_
                  refine va_get (pc := 110) (D := D) (ci := 2) (v := .int (tellsF f tm al ln (atF md (placeF n)))) (C := cn_M) (T := fT_M) (N := 6) hx hb hts in_M hown hX.1 hP 0 rfl rfl 5 (by decide) (hts _ kf_M_33) (fun _ h9 => h9) rfl d_M_access_110 ?_
                  refine lv_iload_n (pc := 113) hx hb d_M_access_113 rfl (lv_at hl 6 rfl) ?_
                  refine lv_iconst (pc := 114) (v := (-1)) hx hb d_M_access_114 (by decide) ?_
                  refine lv_ixor (pc := 115) hx hb d_M_access_115 ?_
                  refine lv_iand (pc := 116) hx hb d_M_access_116 ?_
                  refine top_eq (pc := 117) (y := valF k (tellsF f tm al ln (atF md (placeF n))) v) (by simp only [valF, if_neg c_17, if_neg c_18]) ?_
                  refine mu_V (pc := 117) (As := [.int (atF md (placeF n)), .int (valF k (tellsF f tm al ln (atF md (placeF n))) v)]) (rest := []) hx hb hml hl.1 hown hts (c_M_write l D cI cR ad h hk f md tm al ln (tellsF f tm al ln (atF md (placeF n))) (atF md (placeF n)) (at_in hr0) (valF k (tellsF f tm al ln (atF md (placeF n))) v)) g_M_71 ⟨Nat.le_of_ble_eq_true rfl, Nat.le_of_ble_eq_true rfl⟩ (va_recv hX.1 hP (ci := 2) (q0 := 0) rfl rfl) hP hD hS hX hE [0, 1] (by decide) rfl rfl rfl (Nat.le_of_ble_eq_true rfl) ⟨Nat.zero_le _, Nat.zero_le _⟩ d_M_access_117 (fun H locs hP hD hS => ?_)
                  have hP : va_P D cls_ [(h, .inr (2, [.ref hk, .int md, .long tm, .long al, .int (bI ln), .int (tellsF f tm al ln (atF md (placeF n)))])), (hk, .inl (cI, 29, .inl (writeF f (atF md (placeF n)) (valF k (tellsF f tm al ln (atF md (placeF n))) v))))] H := hP
                  have hD : va_D _ [(h, .inr (2, [.ref hk, .int md, .long tm, .long al, .int (bI ln), .int (tellsF f tm al ln (atF md (placeF n)))])), (hk, .inl (cI, 29, .inl (writeF f (atF md (placeF n)) (valF k (tellsF f tm al ln (atF md (placeF n))) v))))] := hD
                  refine W.eq (g2 := F0 m 120 ls []) rfl ?_
                  refine lv_iconst (pc := 120) (v := 0) hx hb d_M_access_120 (by decide) ?_
                  have h00 : accR f md n k = 0 := eR.trans hr0
                  exact mu_iret (pc := 121) hx hb hr hlk hQ h00.symm (by rw [accO_yes h00, accS_wr h00 hk1]; exact hP) hS d_M_access_121
                · refine lv_aload_n (pc := 100) hx hb d_M_access_100 rfl (lv_at hl 3 rfl) ?_
                  refine va_get (pc := 101) (D := D) (ci := 2) (v := .int (tellsF f tm al ln (atF md (placeF n)))) (C := cn_M) (T := fT_M) (N := 6) hx hb hts in_M hown hX.1 hP 0 rfl rfl 5 (by decide) (hts _ kf_M_33) (fun _ h9 => h9) rfl d_M_access_101 ?_
                  refine lv_iload_n (pc := 104) hx hb d_M_access_104 rfl (lv_at hl 6 rfl) ?_
                  refine lv_ior (pc := 105) hx hb d_M_access_105 ?_
                  refine lv_goto (pc := 106) (tgt := 117) hx hb d_M_access_106 (by decide) ?_
                  refine top_eq (pc := 117) (y := valF k (tellsF f tm al ln (atF md (placeF n))) v) (by simp only [valF, if_neg c_17, if_pos c_18]) ?_
                  refine mu_V (pc := 117) (As := [.int (atF md (placeF n)), .int (valF k (tellsF f tm al ln (atF md (placeF n))) v)]) (rest := []) hx hb hml hl.1 hown hts (c_M_write l D cI cR ad h hk f md tm al ln (tellsF f tm al ln (atF md (placeF n))) (atF md (placeF n)) (at_in hr0) (valF k (tellsF f tm al ln (atF md (placeF n))) v)) g_M_71 ⟨Nat.le_of_ble_eq_true rfl, Nat.le_of_ble_eq_true rfl⟩ (va_recv hX.1 hP (ci := 2) (q0 := 0) rfl rfl) hP hD hS hX hE [0, 1] (by decide) rfl rfl rfl (Nat.le_of_ble_eq_true rfl) ⟨Nat.zero_le _, Nat.zero_le _⟩ d_M_access_117 (fun H locs hP hD hS => ?_)
                  have hP : va_P D cls_ [(h, .inr (2, [.ref hk, .int md, .long tm, .long al, .int (bI ln), .int (tellsF f tm al ln (atF md (placeF n)))])), (hk, .inl (cI, 29, .inl (writeF f (atF md (placeF n)) (valF k (tellsF f tm al ln (atF md (placeF n))) v))))] H := hP
                  have hD : va_D _ [(h, .inr (2, [.ref hk, .int md, .long tm, .long al, .int (bI ln), .int (tellsF f tm al ln (atF md (placeF n)))])), (hk, .inl (cI, 29, .inl (writeF f (atF md (placeF n)) (valF k (tellsF f tm al ln (atF md (placeF n))) v))))] := hD
                  refine W.eq (g2 := F0 m 120 ls []) rfl ?_
                  refine lv_iconst (pc := 120) (v := 0) hx hb d_M_access_120 (by decide) ?_
                  have h00 : accR f md n k = 0 := eR.trans hr0
                  exact mu_iret (pc := 121) hx hb hr hlk hQ h00.symm (by rw [accO_yes h00, accS_wr h00 hk1]; exact hP) hS d_M_access_121
              · refine lv_iload_n (pc := 91) hx hb d_M_access_91 rfl (lv_at hl 6 rfl) ?_
                refine lv_goto (pc := 92) (tgt := 117) hx hb d_M_access_92 (by decide) ?_
                refine top_eq (pc := 117) (y := valF k (tellsF f tm al ln (atF md (placeF n))) v) (by simp only [valF, if_pos c_17]) ?_
                refine mu_V (pc := 117) (As := [.int (atF md (placeF n)), .int (valF k (tellsF f tm al ln (atF md (placeF n))) v)]) (rest := []) hx hb hml hl.1 hown hts (c_M_write l D cI cR ad h hk f md tm al ln (tellsF f tm al ln (atF md (placeF n))) (atF md (placeF n)) (at_in hr0) (valF k (tellsF f tm al ln (atF md (placeF n))) v)) g_M_71 ⟨Nat.le_of_ble_eq_true rfl, Nat.le_of_ble_eq_true rfl⟩ (va_recv hX.1 hP (ci := 2) (q0 := 0) rfl rfl) hP hD hS hX hE [0, 1] (by decide) rfl rfl rfl (Nat.le_of_ble_eq_true rfl) ⟨Nat.zero_le _, Nat.zero_le _⟩ d_M_access_117 (fun H locs hP hD hS => ?_)
                have hP : va_P D cls_ [(h, .inr (2, [.ref hk, .int md, .long tm, .long al, .int (bI ln), .int (tellsF f tm al ln (atF md (placeF n)))])), (hk, .inl (cI, 29, .inl (writeF f (atF md (placeF n)) (valF k (tellsF f tm al ln (atF md (placeF n))) v))))] H := hP
                have hD : va_D _ [(h, .inr (2, [.ref hk, .int md, .long tm, .long al, .int (bI ln), .int (tellsF f tm al ln (atF md (placeF n)))])), (hk, .inl (cI, 29, .inl (writeF f (atF md (placeF n)) (valF k (tellsF f tm al ln (atF md (placeF n))) v))))] := hD
                refine W.eq (g2 := F0 m 120 ls []) rfl ?_
                refine lv_iconst (pc := 120) (v := 0) hx hb d_M_access_120 (by decide) ?_
                have h00 : accR f md n k = 0 := eR.trans hr0
                exact mu_iret (pc := 121) hx hb hr hlk hQ h00.symm (by rw [accO_yes h00, accS_wr h00 hk1]; exact hP) hS d_M_access_121
            · refine lv_iload (pc := 57) hx hb d_M_access_57 (lv_at hl 1 rfl) ?_
              refine lv_bipush (pc := 59) (v := 9) hx hb d_M_access_59 (by decide) ?_
              refine lv_iadd (pc := 61) hx hb d_M_access_61 ?_
              refine lv_goto (pc := 62) (tgt := 67) hx hb d_M_access_62 (by decide) ?_
              refine top_eq (pc := 67) (y := atF md (placeF n)) (by simp [atF, c_11, Int32.not_lt.mp c_15]) ?_
              refine lv_istore (pc := 67) (lv' := [(6, .int (atF md (placeF n))), (5, .int (refF f md (placeF n) true)), (4, .int (placeF n)), (0, .ref h), (1, .int n), (2, .int k), (3, .int v)]) hx hb d_M_access_67 hl (by decide) rfl (fun ls hl => ?_)
              refine lv_aload_n (pc := 69) hx hb d_M_access_69 rfl (lv_at hl 3 rfl) ?_
              refine lv_aload_n (pc := 70) hx hb d_M_access_70 rfl (lv_at hl 3 rfl) ?_
              refine lv_iload (pc := 71) hx hb d_M_access_71 (lv_at hl 0 rfl) ?_
              refine ro_V (pc := 73) (As := [.int (atF md (placeF n))]) (rest := [.ref h]) hx hb hml hl.1 hown hts (c_M_tells l D cI cR ad h hk f md tm al ln od (atF md (placeF n)) (at_in hr0)) g_M_68 ⟨Nat.le_of_ble_eq_true rfl, Nat.le_of_ble_eq_true rfl⟩ (va_recv hX.1 hP (ci := 2) (q0 := 0) rfl rfl) (wc_P hP [0, 1] rfl) hX (hE.ro hS) rfl (Nat.le_of_ble_eq_true rfl) ⟨Nat.zero_le _, Nat.zero_le _⟩ d_M_access_73 ?_
              refine va_put (pc := 76) (D := D) (ci := 2) (v := .int (tellsF f tm al ln (atF md (placeF n)))) (ty := .int) (C := cn_M) (T := fT_M) (N := 6) hx hb hts in_M tT_M tt_M nn_M hown hX.1 hP hD hS 0 rfl rfl 5 (by decide) (hts _ kf_M_33) (fun _ h9 => h9) rfl (by decide +kernel) rfl rfl (Nat.le_of_ble_eq_true rfl) d_M_access_76 (fun H locs hP hD hS => ?_)
              have hP : va_P D cls_ [(h, .inr (2, [.ref hk, .int md, .long tm, .long al, .int (bI ln), .int (tellsF f tm al ln (atF md (placeF n)))])), (hk, .inl (cI, 29, .inl f))] H := hP
              have hD : va_D _ [(h, .inr (2, [.ref hk, .int md, .long tm, .long al, .int (bI ln), .int (tellsF f tm al ln (atF md (placeF n)))])), (hk, .inl (cI, 29, .inl f))] := hD
              refine lv_iload_n (pc := 79) hx hb d_M_access_79 rfl (lv_at hl 5 rfl) ?_
              refine lv_if_le (pc := 80) (tgt := 120) hx hb d_M_access_80 (by decide) (fun c_19 => absurd c_19 c_3) (fun c_19 => ?_)
              refine lv_aload_n (pc := 83) hx hb d_M_access_83 rfl (lv_at hl 3 rfl) ?_
              refine lv_iload (pc := 84) hx hb d_M_access_84 (lv_at hl 0 rfl) ?_
              refine lv_iload_n (pc := 86) hx hb d_M_access_86 rfl (lv_at hl 5 rfl) ?_
              refine lv_iconst (pc := 87) (v := 1) hx hb d_M_access_87 (by decide) ?_
              refine lv_icmp_ne (pc := 88) (tgt := 95) hx hb d_M_access_88 (by decide) (fun c_20 => ?_) (fun c_20 => ?_)
              · refine lv_iload_n (pc := 95) hx hb d_M_access_95 rfl (lv_at hl 5 rfl) ?_
                refine lv_iconst (pc := 96) (v := 2) hx hb d_M_access_96 (by decide) ?_
                refine lv_icmp_ne (pc := 97) (tgt := 109) hx hb d_M_access_97 (by decide) (fun c_21 => ?_) (fun c_21 => ?_)
                · refine lv_aload_n (pc := 109) hx hb d_M_access_109 rfl (lv_at hl 3 rfl) ?_
                  refine va_get (pc := 110) (D := D) (ci := 2) (v := .int (tellsF f tm al ln (atF md (placeF n)))) (C := cn_M) (T := fT_M) (N := 6) hx hb hts in_M hown hX.1 hP 0 rfl rfl 5 (by decide) (hts _ kf_M_33) (fun _ h9 => h9) rfl d_M_access_110 ?_
                  refine lv_iload_n (pc := 113) hx hb d_M_access_113 rfl (lv_at hl 6 rfl) ?_
                  refine lv_iconst (pc := 114) (v := (-1)) hx hb d_M_access_114 (by decide) ?_
                  refine lv_ixor (pc := 115) hx hb d_M_access_115 ?_
                  refine lv_iand (pc := 116) hx hb d_M_access_116 ?_
                  refine top_eq (pc := 117) (y := valF k (tellsF f tm al ln (atF md (placeF n))) v) (by simp only [valF, if_neg c_20, if_neg c_21]) ?_
                  refine mu_V (pc := 117) (As := [.int (atF md (placeF n)), .int (valF k (tellsF f tm al ln (atF md (placeF n))) v)]) (rest := []) hx hb hml hl.1 hown hts (c_M_write l D cI cR ad h hk f md tm al ln (tellsF f tm al ln (atF md (placeF n))) (atF md (placeF n)) (at_in hr0) (valF k (tellsF f tm al ln (atF md (placeF n))) v)) g_M_71 ⟨Nat.le_of_ble_eq_true rfl, Nat.le_of_ble_eq_true rfl⟩ (va_recv hX.1 hP (ci := 2) (q0 := 0) rfl rfl) hP hD hS hX hE [0, 1] (by decide) rfl rfl rfl (Nat.le_of_ble_eq_true rfl) ⟨Nat.zero_le _, Nat.zero_le _⟩ d_M_access_117 (fun H locs hP hD hS => ?_)
                  have hP : va_P D cls_ [(h, .inr (2, [.ref hk, .int md, .long tm, .long al, .int (bI ln), .int (tellsF f tm al ln (atF md (placeF n)))])), (hk, .inl (cI, 29, .inl (writeF f (atF md (placeF n)) (valF k (tellsF f tm al ln (atF md (placeF n))) v))))] H := hP
                  have hD : va_D _ [(h, .inr (2, [.ref hk, .int md, .long tm, .long al, .int (bI ln), .int (tellsF f tm al ln (atF md (placeF n)))])), (hk, .inl (cI, 29, .inl (writeF f (atF md (placeF n)) (valF k (tellsF f tm al ln (atF md (placeF n))) v))))] := hD
                  refine W.eq (g2 := F0 m 120 ls []) rfl ?_
                  refine lv_iconst (pc := 120) (v := 0) hx hb d_M_access_120 (by decide) ?_
                  have h00 : accR f md n k = 0 := eR.trans hr0
                  exact mu_iret (pc := 121) hx hb hr hlk hQ h00.symm (by rw [accO_yes h00, accS_wr h00 hk1]; exact hP) hS d_M_access_121
                · refine lv_aload_n (pc := 100) hx hb d_M_access_100 rfl (lv_at hl 3 rfl) ?_
                  refine va_get (pc := 101) (D := D) (ci := 2) (v := .int (tellsF f tm al ln (atF md (placeF n)))) (C := cn_M) (T := fT_M) (N := 6) hx hb hts in_M hown hX.1 hP 0 rfl rfl 5 (by decide) (hts _ kf_M_33) (fun _ h9 => h9) rfl d_M_access_101 ?_
                  refine lv_iload_n (pc := 104) hx hb d_M_access_104 rfl (lv_at hl 6 rfl) ?_
                  refine lv_ior (pc := 105) hx hb d_M_access_105 ?_
                  refine lv_goto (pc := 106) (tgt := 117) hx hb d_M_access_106 (by decide) ?_
                  refine top_eq (pc := 117) (y := valF k (tellsF f tm al ln (atF md (placeF n))) v) (by simp only [valF, if_neg c_20, if_pos c_21]) ?_
                  refine mu_V (pc := 117) (As := [.int (atF md (placeF n)), .int (valF k (tellsF f tm al ln (atF md (placeF n))) v)]) (rest := []) hx hb hml hl.1 hown hts (c_M_write l D cI cR ad h hk f md tm al ln (tellsF f tm al ln (atF md (placeF n))) (atF md (placeF n)) (at_in hr0) (valF k (tellsF f tm al ln (atF md (placeF n))) v)) g_M_71 ⟨Nat.le_of_ble_eq_true rfl, Nat.le_of_ble_eq_true rfl⟩ (va_recv hX.1 hP (ci := 2) (q0 := 0) rfl rfl) hP hD hS hX hE [0, 1] (by decide) rfl rfl rfl (Nat.le_of_ble_eq_true rfl) ⟨Nat.zero_le _, Nat.zero_le _⟩ d_M_access_117 (fun H locs hP hD hS => ?_)
                  have hP : va_P D cls_ [(h, .inr (2, [.ref hk, .int md, .long tm, .long al, .int (bI ln), .int (tellsF f tm al ln (atF md (placeF n)))])), (hk, .inl (cI, 29, .inl (writeF f (atF md (placeF n)) (valF k (tellsF f tm al ln (atF md (placeF n))) v))))] H := hP
                  have hD : va_D _ [(h, .inr (2, [.ref hk, .int md, .long tm, .long al, .int (bI ln), .int (tellsF f tm al ln (atF md (placeF n)))])), (hk, .inl (cI, 29, .inl (writeF f (atF md (placeF n)) (valF k (tellsF f tm al ln (atF md (placeF n))) v))))] := hD
                  refine W.eq (g2 := F0 m 120 ls []) rfl ?_
                  refine lv_iconst (pc := 120) (v := 0) hx hb d_M_access_120 (by decide) ?_
                  have h00 : accR f md n k = 0 := eR.trans hr0
                  exact mu_iret (pc := 121) hx hb hr hlk hQ h00.symm (by rw [accO_yes h00, accS_wr h00 hk1]; exact hP) hS d_M_access_121
              · refine lv_iload_n (pc := 91) hx hb d_M_access_91 rfl (lv_at hl 6 rfl) ?_
                refine lv_goto (pc := 92) (tgt := 117) hx hb d_M_access_92 (by decide) ?_
                refine top_eq (pc := 117) (y := valF k (tellsF f tm al ln (atF md (placeF n))) v) (by simp only [valF, if_pos c_20]) ?_
                refine mu_V (pc := 117) (As := [.int (atF md (placeF n)), .int (valF k (tellsF f tm al ln (atF md (placeF n))) v)]) (rest := []) hx hb hml hl.1 hown hts (c_M_write l D cI cR ad h hk f md tm al ln (tellsF f tm al ln (atF md (placeF n))) (atF md (placeF n)) (at_in hr0) (valF k (tellsF f tm al ln (atF md (placeF n))) v)) g_M_71 ⟨Nat.le_of_ble_eq_true rfl, Nat.le_of_ble_eq_true rfl⟩ (va_recv hX.1 hP (ci := 2) (q0 := 0) rfl rfl) hP hD hS hX hE [0, 1] (by decide) rfl rfl rfl (Nat.le_of_ble_eq_true rfl) ⟨Nat.zero_le _, Nat.zero_le _⟩ d_M_access_117 (fun H locs hP hD hS => ?_)
                have hP : va_P D cls_ [(h, .inr (2, [.ref hk, .int md, .long tm, .long al, .int (bI ln), .int (tellsF f tm al ln (atF md (placeF n)))])), (hk, .inl (cI, 29, .inl (writeF f (atF md (placeF n)) (valF k (tellsF f tm al ln (atF md (placeF n))) v))))] H := hP
                have hD : va_D _ [(h, .inr (2, [.ref hk, .int md, .long tm, .long al, .int (bI ln), .int (tellsF f tm al ln (atF md (placeF n)))])), (hk, .inl (cI, 29, .inl (writeF f (atF md (placeF n)) (valF k (tellsF f tm al ln (atF md (placeF n))) v))))] := hD
                refine W.eq (g2 := F0 m 120 ls []) rfl ?_
                refine lv_iconst (pc := 120) (v := 0) hx hb d_M_access_120 (by decide) ?_
                have h00 : accR f md n k = 0 := eR.trans hr0
                exact mu_iret (pc := 121) hx hb hr hlk hQ h00.symm (by rw [accO_yes h00, accS_wr h00 hk1]; exact hP) hS d_M_access_121
        · refine lv_iload (pc := 39) hx hb d_M_access_39 (lv_at hl 0 rfl) ?_
          have hne : ¬ accR f md n k = 0 := by rw [eR]; exact ref_nle c_10
          exact mu_iret (pc := 41) hx hb hr hlk hQ eR.symm (by rw [accS_no hne, accO_no hne]; exact hP) hS d_M_access_41
    · refine lv_iconst (pc := 9) (v := (-1)) hx hb d_M_access_9 (by decide) ?_
      have hbad : accR f md n k = -1 := accR_bad (Or.inr (Int32.not_le.mp c_2))
      have hne : ¬ accR f md n k = 0 := by rw [hbad]; decide
      exact mu_iret (pc := 10) hx hb hr hlk hQ hbad.symm (by rw [accS_no hne, accO_no hne]; exact hP) hS d_M_access_10
set_option maxHeartbeats 4000000 in
set_option maxRecDepth 100000 in
theorem c_M_begin (l : Launch) (D : va_G) (cI cR : ClassId) (ad : Nat → Nat) (h hk : Nat) (f : Nat → Int32) (md : Int32) (tm al : Int64) (ln : Bool) (od : Int32)  : MU l y_M_begin b_M_begin 2 none 0 0 D cI cR ad (wM cI h hk f md tm al ln od) [.ref h] none (wM cI h hk (fun _ => 0) 1 0 9223372036854775807 false 0) := by
  refine mu_ofW (by decide) (Nat.le_of_ble_eq_true rfl) ?_
  intro p e s m below meth c args Q ls hx hb hr hml hown hts hlk hP hX hE hl hQ hD hS
  have hown : s.vm.findClass cn_M = some m.cls := hown
  have hP : va_P D cls_ [(h, .inr (2, [.ref hk, .int md, .long tm, .long al, .int (bI ln), .int od])), (hk, .inl (cI, 29, .inl f))] s.heap := hP
  have hD : va_D _ [(h, .inr (2, [.ref hk, .int md, .long tm, .long al, .int (bI ln), .int od])), (hk, .inl (cI, 29, .inl f))] := hD
  have hl : lv_has ls 2 [(0, .ref h)] := hl
  have loop : ∀ (n k : Nat) (g : Nat → Int32) (H : Heap) (locs : List Loc) (ls : Array Slot), k ≤ 29 → 30 ≤ k + n → (∀ j, j < k → g j = 0) → va_P D cls_ [(h, .inr (2, [.ref hk, .int md, .long tm, .long al, .int (bI ln), .int od])), (hk, .inl (cI, 29, .inl g))] H → va_D (wA (wM cI h hk f md tm al ln od)) [(h, .inr (2, [.ref hk, .int md, .long tm, .long al, .int (bI ln), .int od])), (hk, .inl (cI, 29, .inl g))] → va_S (wA (wM cI h hk f md tm al ln od)) s.heap H locs → lv_has ls 2 [(0, .ref h), (1, .int (nI k))] → W p l e (rmz 0 0) s m args below meth c H locs 0 0 Q (F0 m 2 ls []) := by
    intro n
    induction n with
    | zero => intro k g H locs ls h1 h2; exact absurd h2 (by omega)
    | succ n ih =>
      intro k g H locs ls h1 h2 hg hP hD hS hl
      refine lv_iload_n (pc := 2) hx hb d_M_begin_2 rfl (lv_at hl 1 rfl) ?_
      refine lv_bipush (pc := 3) (v := 29) hx hb d_M_begin_3 (by decide) ?_
      refine lv_icmp_ge (pc := 5) (tgt := 21) hx hb d_M_begin_5 (by decide) (fun c_1 => ?_) (fun c_1 => ?_)
      · have hk9 : k = 29 := by have h9 := (nI_leI (a := 29) (b := k) (by decide) (by omega)).mp c_1; omega
        have hP := w_upto hP (q0 := 1) (g := fun _ => 0) rfl (fun j hj => hg j (by omega))
        have hD := va_D.set (p := 1) (e := .inl (cI, 29, .inl (fun _ => 0))) hD rfl
        have hP : va_P D cls_ [(h, .inr (2, [.ref hk, .int md, .long tm, .long al, .int (bI ln), .int od])), (hk, .inl (cI, 29, .inl (fun _ => 0)))] H := hP
        have hD : va_D _ [(h, .inr (2, [.ref hk, .int md, .long tm, .long al, .int (bI ln), .int od])), (hk, .inl (cI, 29, .inl (fun _ => 0)))] := hD
        refine lv_aload_n (pc := 21) hx hb d_M_begin_21 rfl (lv_at hl 0 rfl) ?_
        refine lv_iconst (pc := 22) (v := 1) hx hb d_M_begin_22 (by decide) ?_
        refine va_put (pc := 23) (D := D) (ci := 2) (v := .int 1) (ty := .int) (C := cn_M) (T := fT_M) (N := 6) hx hb hts in_M tT_M tt_M nn_M hown hX.1 hP hD hS 0 rfl rfl 1 (by decide) (hts _ kf_M_16) (fun _ h9 => h9) rfl (by decide +kernel) rfl rfl (Nat.le_of_ble_eq_true rfl) d_M_begin_23 (fun H locs hP hD hS => ?_)
        have hP : va_P D cls_ [(h, .inr (2, [.ref hk, .int 1, .long tm, .long al, .int (bI ln), .int od])), (hk, .inl (cI, 29, .inl (fun _ => 0)))] H := hP
        have hD : va_D _ [(h, .inr (2, [.ref hk, .int 1, .long tm, .long al, .int (bI ln), .int od])), (hk, .inl (cI, 29, .inl (fun _ => 0)))] := hD
        refine lv_aload_n (pc := 26) hx hb d_M_begin_26 rfl (lv_at hl 0 rfl) ?_
        refine lv_lconst (pc := 27) (v := 0) hx hb d_M_begin_27 (by decide) ?_
        refine va_put (pc := 28) (D := D) (ci := 2) (v := .long 0) (ty := .long) (C := cn_M) (T := fT_M) (N := 6) hx hb hts in_M tT_M tt_M nn_M hown hX.1 hP hD hS 0 rfl rfl 2 (by decide) (hts _ kf_M_20) (fun _ h9 => h9) rfl (by decide +kernel) rfl rfl (Nat.le_of_ble_eq_true rfl) d_M_begin_28 (fun H locs hP hD hS => ?_)
        have hP : va_P D cls_ [(h, .inr (2, [.ref hk, .int 1, .long 0, .long al, .int (bI ln), .int od])), (hk, .inl (cI, 29, .inl (fun _ => 0)))] H := hP
        have hD : va_D _ [(h, .inr (2, [.ref hk, .int 1, .long 0, .long al, .int (bI ln), .int od])), (hk, .inl (cI, 29, .inl (fun _ => 0)))] := hD
        refine lv_aload_n (pc := 31) hx hb d_M_begin_31 rfl (lv_at hl 0 rfl) ?_
        refine lv_ldc2 (pc := 32) (v := 9223372036854775807) hx hb hown (hts _ kk_M_24) d_M_begin_32 ?_
        refine va_put (pc := 35) (D := D) (ci := 2) (v := .long 9223372036854775807) (ty := .long) (C := cn_M) (T := fT_M) (N := 6) hx hb hts in_M tT_M tt_M nn_M hown hX.1 hP hD hS 0 rfl rfl 3 (by decide) (hts _ kf_M_26) (fun _ h9 => h9) rfl (by decide +kernel) rfl rfl (Nat.le_of_ble_eq_true rfl) d_M_begin_35 (fun H locs hP hD hS => ?_)
        have hP : va_P D cls_ [(h, .inr (2, [.ref hk, .int 1, .long 0, .long 9223372036854775807, .int (bI ln), .int od])), (hk, .inl (cI, 29, .inl (fun _ => 0)))] H := hP
        have hD : va_D _ [(h, .inr (2, [.ref hk, .int 1, .long 0, .long 9223372036854775807, .int (bI ln), .int od])), (hk, .inl (cI, 29, .inl (fun _ => 0)))] := hD
        refine lv_aload_n (pc := 38) hx hb d_M_begin_38 rfl (lv_at hl 0 rfl) ?_
        refine lv_iconst (pc := 39) (v := 0) hx hb d_M_begin_39 (by decide) ?_
        refine va_put (pc := 40) (D := D) (ci := 2) (v := .int (bI false)) (ty := .boolean) (C := cn_M) (T := fT_M) (N := 6) hx hb hts in_M tT_M tt_M nn_M hown hX.1 hP hD hS 0 rfl rfl 4 (by decide) (hts _ kf_M_29) (fun _ h9 => h9) rfl (by decide +kernel) (bI_nar _) (bI_fit _) (Nat.le_of_ble_eq_true rfl) d_M_begin_40 (fun H locs hP hD hS => ?_)
        have hP : va_P D cls_ [(h, .inr (2, [.ref hk, .int 1, .long 0, .long 9223372036854775807, .int (bI false), .int od])), (hk, .inl (cI, 29, .inl (fun _ => 0)))] H := hP
        have hD : va_D _ [(h, .inr (2, [.ref hk, .int 1, .long 0, .long 9223372036854775807, .int (bI false), .int od])), (hk, .inl (cI, 29, .inl (fun _ => 0)))] := hD
        refine lv_aload_n (pc := 43) hx hb d_M_begin_43 rfl (lv_at hl 0 rfl) ?_
        refine lv_iconst (pc := 44) (v := 0) hx hb d_M_begin_44 (by decide) ?_
        refine va_put (pc := 45) (D := D) (ci := 2) (v := .int 0) (ty := .int) (C := cn_M) (T := fT_M) (N := 6) hx hb hts in_M tT_M tt_M nn_M hown hX.1 hP hD hS 0 rfl rfl 5 (by decide) (hts _ kf_M_33) (fun _ h9 => h9) rfl (by decide +kernel) rfl rfl (Nat.le_of_ble_eq_true rfl) d_M_begin_45 (fun H locs hP hD hS => ?_)
        have hP : va_P D cls_ [(h, .inr (2, [.ref hk, .int 1, .long 0, .long 9223372036854775807, .int (bI false), .int 0])), (hk, .inl (cI, 29, .inl (fun _ => 0)))] H := hP
        have hD : va_D _ [(h, .inr (2, [.ref hk, .int 1, .long 0, .long 9223372036854775807, .int (bI false), .int 0])), (hk, .inl (cI, 29, .inl (fun _ => 0)))] := hD
        exact mu_vret (pc := 48) hx hb hr hlk hQ hP hS d_M_begin_48
      · have hlt : k < 29 := by
          rcases Nat.lt_or_ge k 29 with q | q
          · exact q
          · exact absurd ((nI_leI (a := 29) (b := k) (by decide) (by omega)).mpr q) c_1
        refine lv_aload_n (pc := 8) hx hb d_M_begin_8 rfl (lv_at hl 0 rfl) ?_
        refine va_get (pc := 9) (D := D) (ci := 2) (v := .ref hk) (C := cn_M) (T := fT_M) (N := 6) hx hb hts in_M hown hX.1 hP 0 rfl rfl 0 (by decide) (hts _ kf_M_7) (fun _ h9 => h9) rfl d_M_begin_9 ?_
        refine lv_iload_n (pc := 12) hx hb d_M_begin_12 rfl (lv_at hl 1 rfl) ?_
        refine lv_iconst (pc := 13) (v := 0) hx hb d_M_begin_13 (by decide) ?_
        refine wr_i (pc := 14) hx hb hX hP hD hS 1 rfl k (nI_clamp (by omega)) (vp_in_nI hlt (by decide)) d_M_begin_14 (fun H locs hP hD hS => ?_)
        have hP : va_P D cls_ [(h, .inr (2, [.ref hk, .int md, .long tm, .long al, .int (bI ln), .int od])), (hk, .inl (cI, 29, .inl (upd g k 0)))] H := hP
        have hD : va_D _ [(h, .inr (2, [.ref hk, .int md, .long tm, .long al, .int (bI ln), .int od])), (hk, .inl (cI, 29, .inl (upd g k 0)))] := hD
        refine lv_iinc (pc := 15) (v := (nI k) + 1) (lv' := [(1, .int ((nI k) + 1)), (0, .ref h)]) hx hb d_M_begin_15 hl (k := 1) rfl rfl (by decide) rfl (fun ls hl => ?_)
        refine lv_goto (pc := 18) (tgt := 2) hx hb d_M_begin_18 (by decide) ?_
        exact ih (k + 1) (upd g k 0) H locs ls (by omega) (by omega) (upd_zero hg) hP hD hS (by rw [← nI_1]; exact lv_sub hl [1, 0] rfl)
  refine lv_iconst (pc := 0) (v := 0) hx hb d_M_begin_0 (by decide) ?_
  refine lv_istore_n (pc := 1) (lv' := [(1, .int 0), (0, .ref h)]) hx hb d_M_begin_1 rfl hl (by decide) rfl (fun ls hl => ?_)
  exact loop 30 0 f s.heap [] ls (by decide) (by decide) (fun j hj => absurd hj (Nat.not_lt_zero j)) hP hD hS (lv_sub hl [1, 0] rfl)
end
section
-- CONTRACTS: the registers' methods that only read
set_option maxHeartbeats 4000000 in
set_option maxRecDepth 100000 in
theorem c_C_has (l : Launch) (D : va_G) (cI cR : ClassId) (ad : Nat → Nat) (h ha hv : Nat) (f : Nat → Int32) (md : Int32) (tm al : Int64) (ln : Bool) (i : Nat) (hi : i < 29) (b : Int32) : RO l y_C_has b_C_has 3 (some .boolean) 1 20 D cI cR ad (wC cI cR ad h ha hv f md tm al ln) [.ref h, .ref (ad i), .int b] (.int (bI (!decide (f i &&& b = 0)))) := by
  refine ro_ofW (by decide) (Nat.le_of_ble_eq_true rfl) ?_
  intro p e s m below meth c args Q ls hx hb hr hml hown hts hlk hP hX hE hl hQ
  have hown : s.vm.findClass cn_C = some m.cls := hown
  have hP : va_P D cls_ [(h, .inr (0, [.ref ha, .ref hv, .int md, .long tm, .long al, .int (bI ln)])), (ha, .inl (cR, 29, .inr (.inr (.inr (.inr (gA ad)))))), (hv, .inl (cI, 29, .inl f))] s.heap := hP
  have hl : lv_has ls 3 [(0, .ref h), (1, .ref (ad i)), (2, .int b)] := hl
  refine lv_aload_n (pc := 0) hx hb d_C_has_0 rfl (lv_at hl 0 rfl) ?_
  refine va_get (pc := 1) (D := D) (ci := 0) (v := .ref hv) (C := cn_C) (T := fT_C) (N := 6) hx hb hts in_C hown hX.1 hP 0 rfl rfl 1 (by decide) (hts _ kf_C_19) (fun _ h9 => h9) rfl d_C_has_1 ?_
  refine lv_aload_n (pc := 4) hx hb d_C_has_4 rfl (lv_at hl 1 rfl) ?_
  refine ro_ord (pc := 5) hx hb hml hl.1 hown hts hE hX hi ⟨Nat.le_of_ble_eq_true rfl, Nat.le_of_ble_eq_true rfl⟩ (Nat.le_of_ble_eq_true rfl) ⟨Nat.zero_le _, Nat.zero_le _⟩ d_C_has_5 ?_
  refine rd_i (pc := 8) hx hb hX hP 2 rfl i (nI_clamp (by omega)) (vp_in_nI hi (by decide)) d_C_has_8 ?_
  refine lv_iload_n (pc := 9) hx hb d_C_has_9 rfl (lv_at hl 2 rfl) ?_
  refine lv_iand (pc := 10) hx hb d_C_has_10 ?_
  refine lv_if_eq (pc := 11) (tgt := 18) hx hb d_C_has_11 (by decide) (fun c_1 => ?_) (fun c_1 => ?_)
  · refine lv_iconst (pc := 18) (v := 0) hx hb d_C_has_18 (by decide) ?_
    exact ro_zret (pc := 19) (v := false) hx hb hr hlk hQ (by rw [decide_eq_true c_1]; rfl) rfl d_C_has_19
  · refine lv_iconst (pc := 14) (v := 1) hx hb d_C_has_14 (by decide) ?_
    refine lv_goto (pc := 15) (tgt := 19) hx hb d_C_has_15 (by decide) ?_
    exact ro_zret (pc := 19) (v := true) hx hb hr hlk hQ (by rw [decide_eq_false c_1]; rfl) rfl d_C_has_19
set_option maxHeartbeats 4000000 in
set_option maxRecDepth 100000 in
theorem c_C_raw (l : Launch) (D : va_G) (cI cR : ClassId) (ad : Nat → Nat) (h ha hv : Nat) (f : Nat → Int32) (md : Int32) (tm al : Int64) (ln : Bool) (i : Nat) (hi : i < 29) : RO l y_C_raw b_C_raw 2 (some .int) 1 20 D cI cR ad (wC cI cR ad h ha hv f md tm al ln) [.ref h, .ref (ad i)] (.int (f i)) := by
  refine ro_ofW (by decide) (Nat.le_of_ble_eq_true rfl) ?_
  intro p e s m below meth c args Q ls hx hb hr hml hown hts hlk hP hX hE hl hQ
  have hown : s.vm.findClass cn_C = some m.cls := hown
  have hP : va_P D cls_ [(h, .inr (0, [.ref ha, .ref hv, .int md, .long tm, .long al, .int (bI ln)])), (ha, .inl (cR, 29, .inr (.inr (.inr (.inr (gA ad)))))), (hv, .inl (cI, 29, .inl f))] s.heap := hP
  have hl : lv_has ls 2 [(0, .ref h), (1, .ref (ad i))] := hl
  refine lv_aload_n (pc := 0) hx hb d_C_raw_0 rfl (lv_at hl 0 rfl) ?_
  refine va_get (pc := 1) (D := D) (ci := 0) (v := .ref hv) (C := cn_C) (T := fT_C) (N := 6) hx hb hts in_C hown hX.1 hP 0 rfl rfl 1 (by decide) (hts _ kf_C_19) (fun _ h9 => h9) rfl d_C_raw_1 ?_
  refine lv_aload_n (pc := 4) hx hb d_C_raw_4 rfl (lv_at hl 1 rfl) ?_
  refine ro_ord (pc := 5) hx hb hml hl.1 hown hts hE hX hi ⟨Nat.le_of_ble_eq_true rfl, Nat.le_of_ble_eq_true rfl⟩ (Nat.le_of_ble_eq_true rfl) ⟨Nat.zero_le _, Nat.zero_le _⟩ d_C_raw_5 ?_
  refine rd_i (pc := 8) hx hb hX hP 2 rfl i (nI_clamp (by omega)) (vp_in_nI hi (by decide)) d_C_raw_8 ?_
  exact ro_iret (pc := 9) hx hb hr hlk hQ rfl d_C_raw_9
set_option maxHeartbeats 4000000 in
set_option maxRecDepth 100000 in
theorem c_C_get (l : Launch) (D : va_G) (cI cR : ClassId) (ad : Nat → Nat) (h ha hv : Nat) (f : Nat → Int32) (md : Int32) (tm al : Int64) (ln : Bool) (i : Nat) (hi : i < 29) : RO l y_C_get b_C_get 2 (some .int) 2 41 D cI cR ad (wC cI cR ad h ha hv f md tm al ln) [.ref h, .ref (ad i)] (.int (tellsF f tm al ln (nI i))) := by
  refine ro_ofW (by decide) (Nat.le_of_ble_eq_true rfl) ?_
  intro p e s m below meth c args Q ls hx hb hr hml hown hts hlk hP hX hE hl hQ
  have hown : s.vm.findClass cn_C = some m.cls := hown
  have hP : va_P D cls_ [(h, .inr (0, [.ref ha, .ref hv, .int md, .long tm, .long al, .int (bI ln)])), (ha, .inl (cR, 29, .inr (.inr (.inr (.inr (gA ad)))))), (hv, .inl (cI, 29, .inl f))] s.heap := hP
  have hl : lv_has ls 2 [(0, .ref h), (1, .ref (ad i))] := hl
  refine lv_aload_n (pc := 0) hx hb d_C_get_0 rfl (lv_at hl 1 rfl) ?_
  refine ro_ord (pc := 1) hx hb hml hl.1 hown hts hE hX hi ⟨Nat.le_of_ble_eq_true rfl, Nat.le_of_ble_eq_true rfl⟩ (Nat.le_of_ble_eq_true rfl) ⟨Nat.zero_le _, Nat.zero_le _⟩ d_C_get_1 ?_
  by_cases c_1 : nI i = 7
  · refine lv_lookup (pc := 4) (off := 60) (tgt := 64) hx hb d_C_get_4 (by decide) (by rw [c_1]; rfl) (by decide) ?_
    refine lv_aload_n (pc := 64) hx hb d_C_get_64 rfl (lv_at hl 0 rfl) ?_
    refine lv_aload_n (pc := 65) hx hb d_C_get_65 rfl (lv_at hl 1 rfl) ?_
    refine ro_V (pc := 66) (As := [.ref (ad i)]) (rest := []) hx hb hml hl.1 hown hts (c_C_raw l D cI cR ad h ha hv f md tm al ln i hi) g_C_74 ⟨Nat.le_of_ble_eq_true rfl, Nat.le_of_ble_eq_true rfl⟩ (va_recv hX.1 hP (ci := 0) (q0 := 0) rfl rfl) (wc_P hP [0, 1, 2] rfl) hX hE rfl (Nat.le_of_ble_eq_true rfl) ⟨Nat.zero_le _, Nat.zero_le _⟩ d_C_get_66 ?_
    refine lv_aload_n (pc := 69) hx hb d_C_get_69 rfl (lv_at hl 0 rfl) ?_
    refine va_get (pc := 70) (D := D) (ci := 0) (v := .long tm) (C := cn_C) (T := fT_C) (N := 6) hx hb hts in_C hown hX.1 hP 0 rfl rfl 3 (by decide) (hts _ kf_C_29) (fun _ h9 => h9) rfl d_C_get_70 ?_
    refine lv_aload_n (pc := 73) hx hb d_C_get_73 rfl (lv_at hl 0 rfl) ?_
    refine va_get (pc := 74) (D := D) (ci := 0) (v := .long al) (C := cn_C) (T := fT_C) (N := 6) hx hb hts in_C hown hX.1 hP 0 rfl rfl 4 (by decide) (hts _ kf_C_37) (fun _ h9 => h9) rfl d_C_get_74 ?_
    refine W.lcmp (pc := 77) hx hb d_C_get_77 ?_
    refine lv_if_lt (pc := 78) (tgt := 86) hx hb d_C_get_78 (by decide) (fun c_2 => ?_) (fun c_2 => ?_)
    · refine lv_iconst (pc := 86) (v := 0) hx hb d_C_get_86 (by decide) ?_
      refine lv_ior (pc := 87) hx hb d_C_get_87 ?_
      refine lv_aload_n (pc := 88) hx hb d_C_get_88 rfl (lv_at hl 0 rfl) ?_
      refine va_get (pc := 89) (D := D) (ci := 0) (v := .int (bI ln)) (C := cn_C) (T := fT_C) (N := 6) hx hb hts in_C hown hX.1 hP 0 rfl rfl 5 (by decide) (hts _ kf_C_40) (fun _ h9 => h9) rfl d_C_get_89 ?_
      refine lv_if_eq (pc := 92) (tgt := 101) hx hb d_C_get_92 (by decide) (fun c_3 => ?_) (fun c_3 => ?_)
      · refine lv_iconst (pc := 101) (v := 0) hx hb d_C_get_101 (by decide) ?_
        refine lv_ior (pc := 102) hx hb d_C_get_102 ?_
        have e9 : i = 7 := (nI_eq (a := i) (b := 7) (by omega) (by decide)).mp c_1
        exact ro_iret (pc := 103) hx hb hr hlk hQ (by simp only [tellsF, if_pos c_1, if_pos c_2, if_pos c_3]; rw [e9]) d_C_get_103
      · refine lv_sipush (pc := 95) (v := 512) hx hb d_C_get_95 (by decide) ?_
        refine lv_goto (pc := 98) (tgt := 102) hx hb d_C_get_98 (by decide) ?_
        refine lv_ior (pc := 102) hx hb d_C_get_102 ?_
        have e9 : i = 7 := (nI_eq (a := i) (b := 7) (by omega) (by decide)).mp c_1
        exact ro_iret (pc := 103) hx hb hr hlk hQ (by simp only [tellsF, if_pos c_1, if_pos c_2, if_neg c_3]; rw [e9]) d_C_get_103
    · refine lv_bipush (pc := 81) (v := 32) hx hb d_C_get_81 (by decide) ?_
      refine lv_goto (pc := 83) (tgt := 87) hx hb d_C_get_83 (by decide) ?_
      refine lv_ior (pc := 87) hx hb d_C_get_87 ?_
      refine lv_aload_n (pc := 88) hx hb d_C_get_88 rfl (lv_at hl 0 rfl) ?_
      refine va_get (pc := 89) (D := D) (ci := 0) (v := .int (bI ln)) (C := cn_C) (T := fT_C) (N := 6) hx hb hts in_C hown hX.1 hP 0 rfl rfl 5 (by decide) (hts _ kf_C_40) (fun _ h9 => h9) rfl d_C_get_89 ?_
      refine lv_if_eq (pc := 92) (tgt := 101) hx hb d_C_get_92 (by decide) (fun c_4 => ?_) (fun c_4 => ?_)
      · refine lv_iconst (pc := 101) (v := 0) hx hb d_C_get_101 (by decide) ?_
        refine lv_ior (pc := 102) hx hb d_C_get_102 ?_
        have e9 : i = 7 := (nI_eq (a := i) (b := 7) (by omega) (by decide)).mp c_1
        exact ro_iret (pc := 103) hx hb hr hlk hQ (by simp only [tellsF, if_pos c_1, if_neg c_2, if_pos c_4]; rw [e9]) d_C_get_103
      · refine lv_sipush (pc := 95) (v := 512) hx hb d_C_get_95 (by decide) ?_
        refine lv_goto (pc := 98) (tgt := 102) hx hb d_C_get_98 (by decide) ?_
        refine lv_ior (pc := 102) hx hb d_C_get_102 ?_
        have e9 : i = 7 := (nI_eq (a := i) (b := 7) (by omega) (by decide)).mp c_1
        exact ro_iret (pc := 103) hx hb hr hlk hQ (by simp only [tellsF, if_pos c_1, if_neg c_2, if_neg c_4]; rw [e9]) d_C_get_103
  by_cases c_5 : nI i = 10
  · refine lv_lookup (pc := 4) (off := 126) (tgt := 130) hx hb d_C_get_4 (by decide) (by rw [c_5]; rfl) (by decide) ?_
    refine lv_aload_n (pc := 130) hx hb d_C_get_130 rfl (lv_at hl 0 rfl) ?_
    refine en_gets (pc := 131) hx hb hE va_S.rf hown 21 (by decide) (hts _ kf_C_84) d_C_get_131 ?_
    refine ro_V (pc := 134) (As := [.ref (ad 21)]) (rest := []) hx hb hml hl.1 hown hts (c_C_raw l D cI cR ad h ha hv f md tm al ln 21 (by decide)) g_C_74 ⟨Nat.le_of_ble_eq_true rfl, Nat.le_of_ble_eq_true rfl⟩ (va_recv hX.1 hP (ci := 0) (q0 := 0) rfl rfl) (wc_P hP [0, 1, 2] rfl) hX hE rfl (Nat.le_of_ble_eq_true rfl) ⟨Nat.zero_le _, Nat.zero_le _⟩ d_C_get_134 ?_
    refine lv_aload_n (pc := 137) hx hb d_C_get_137 rfl (lv_at hl 0 rfl) ?_
    refine en_gets (pc := 138) hx hb hE va_S.rf hown 20 (by decide) (hts _ kf_C_81) d_C_get_138 ?_
    refine ro_V (pc := 141) (As := [.ref (ad 20)]) (rest := [.int (f 21)]) hx hb hml hl.1 hown hts (c_C_raw l D cI cR ad h ha hv f md tm al ln 20 (by decide)) g_C_74 ⟨Nat.le_of_ble_eq_true rfl, Nat.le_of_ble_eq_true rfl⟩ (va_recv hX.1 hP (ci := 0) (q0 := 0) rfl rfl) (wc_P hP [0, 1, 2] rfl) hX hE rfl (Nat.le_of_ble_eq_true rfl) ⟨Nat.zero_le _, Nat.zero_le _⟩ d_C_get_141 ?_
    refine lv_iand (pc := 144) hx hb d_C_get_144 ?_
    refine lv_iconst (pc := 145) (v := 1) hx hb d_C_get_145 (by decide) ?_
    refine lv_ishr (pc := 146) hx hb d_C_get_146 ?_
    exact ro_iret (pc := 147) hx hb hr hlk hQ (by simp only [tellsF, if_neg c_1, if_pos c_5]) d_C_get_147
  by_cases c_6 : nI i = 16
  · refine lv_lookup (pc := 4) (off := 108) (tgt := 112) hx hb d_C_get_4 (by decide) (by rw [c_6]; rfl) (by decide) ?_
    refine lv_aload_n (pc := 112) hx hb d_C_get_112 rfl (lv_at hl 0 rfl) ?_
    refine en_gets (pc := 113) hx hb hE va_S.rf hown 24 (by decide) (hts _ kf_C_78) d_C_get_113 ?_
    refine ro_V (pc := 116) (As := [.ref (ad 24)]) (rest := []) hx hb hml hl.1 hown hts (c_C_raw l D cI cR ad h ha hv f md tm al ln 24 (by decide)) g_C_74 ⟨Nat.le_of_ble_eq_true rfl, Nat.le_of_ble_eq_true rfl⟩ (va_recv hX.1 hP (ci := 0) (q0 := 0) rfl rfl) (wc_P hP [0, 1, 2] rfl) hX hE rfl (Nat.le_of_ble_eq_true rfl) ⟨Nat.zero_le _, Nat.zero_le _⟩ d_C_get_116 ?_
    refine lv_aload_n (pc := 119) hx hb d_C_get_119 rfl (lv_at hl 0 rfl) ?_
    refine en_gets (pc := 120) hx hb hE va_S.rf hown 20 (by decide) (hts _ kf_C_81) d_C_get_120 ?_
    refine ro_V (pc := 123) (As := [.ref (ad 20)]) (rest := [.int (f 24)]) hx hb hml hl.1 hown hts (c_C_raw l D cI cR ad h ha hv f md tm al ln 20 (by decide)) g_C_74 ⟨Nat.le_of_ble_eq_true rfl, Nat.le_of_ble_eq_true rfl⟩ (va_recv hX.1 hP (ci := 0) (q0 := 0) rfl rfl) (wc_P hP [0, 1, 2] rfl) hX hE rfl (Nat.le_of_ble_eq_true rfl) ⟨Nat.zero_le _, Nat.zero_le _⟩ d_C_get_123 ?_
    refine lv_iand (pc := 126) hx hb d_C_get_126 ?_
    refine lv_iconst (pc := 127) (v := 1) hx hb d_C_get_127 (by decide) ?_
    refine lv_ishr (pc := 128) hx hb d_C_get_128 ?_
    exact ro_iret (pc := 129) hx hb hr hlk hQ (by simp only [tellsF, if_neg c_1, if_neg c_5, if_pos c_6]) d_C_get_129
  by_cases c_7 : nI i = 23
  · refine lv_lookup (pc := 4) (off := 100) (tgt := 104) hx hb d_C_get_4 (by decide) (by rw [c_7]; rfl) (by decide) ?_
    refine lv_aload_n (pc := 104) hx hb d_C_get_104 rfl (lv_at hl 0 rfl) ?_
    refine en_gets (pc := 105) hx hb hE va_S.rf hown 24 (by decide) (hts _ kf_C_78) d_C_get_105 ?_
    refine ro_V (pc := 108) (As := [.ref (ad 24)]) (rest := []) hx hb hml hl.1 hown hts (c_C_raw l D cI cR ad h ha hv f md tm al ln 24 (by decide)) g_C_74 ⟨Nat.le_of_ble_eq_true rfl, Nat.le_of_ble_eq_true rfl⟩ (va_recv hX.1 hP (ci := 0) (q0 := 0) rfl rfl) (wc_P hP [0, 1, 2] rfl) hX hE rfl (Nat.le_of_ble_eq_true rfl) ⟨Nat.zero_le _, Nat.zero_le _⟩ d_C_get_108 ?_
    exact ro_iret (pc := 111) hx hb hr hlk hQ (by simp only [tellsF, if_neg c_1, if_neg c_5, if_neg c_6, if_pos c_7]) d_C_get_111
  by_cases c_8 : nI i = 27
  · refine lv_lookup (pc := 4) (off := 144) (tgt := 148) hx hb d_C_get_4 (by decide) (by rw [c_8]; rfl) (by decide) ?_
    refine lv_aload_n (pc := 148) hx hb d_C_get_148 rfl (lv_at hl 0 rfl) ?_
    refine va_get (pc := 149) (D := D) (ci := 0) (v := .long tm) (C := cn_C) (T := fT_C) (N := 6) hx hb hts in_C hown hX.1 hP 0 rfl rfl 3 (by decide) (hts _ kf_C_29) (fun _ h9 => h9) rfl d_C_get_149 ?_
    refine lv_l2i (pc := 152) (v := tm.toInt32) hx hb d_C_get_152 rfl ?_
    exact ro_iret (pc := 153) hx hb hr hlk hQ (by simp only [tellsF, if_neg c_1, if_neg c_5, if_neg c_6, if_neg c_7, if_pos c_8]) d_C_get_153
  by_cases c_9 : nI i = 28
  · refine lv_lookup (pc := 4) (off := 150) (tgt := 154) hx hb d_C_get_4 (by decide) (by rw [c_9]; rfl) (by decide) ?_
    refine lv_aload_n (pc := 154) hx hb d_C_get_154 rfl (lv_at hl 0 rfl) ?_
    refine va_get (pc := 155) (D := D) (ci := 0) (v := .long tm) (C := cn_C) (T := fT_C) (N := 6) hx hb hts in_C hown hX.1 hP 0 rfl rfl 3 (by decide) (hts _ kf_C_29) (fun _ h9 => h9) rfl d_C_get_155 ?_
    refine lv_bipush (pc := 158) (v := 32) hx hb d_C_get_158 (by decide) ?_
    refine lv_lushr (pc := 160) (v := (tm.toUInt64 >>> ((32 : Int32).toInt64.toUInt64 &&& Int64.toUInt64 63)).toInt64) hx hb d_C_get_160 rfl ?_
    refine lv_l2i (pc := 161) (v := ((tm.toUInt64 >>> ((32 : Int32).toInt64.toUInt64 &&& Int64.toUInt64 63)).toInt64).toInt32) hx hb d_C_get_161 rfl ?_
    exact ro_iret (pc := 162) hx hb hr hlk hQ (by simp only [tellsF, if_neg c_1, if_neg c_5, if_neg c_6, if_neg c_7, if_neg c_8, if_pos c_9]; exact sh32 tm) d_C_get_162
  refine lv_lookup (pc := 4) (off := 159) (tgt := 163) hx hb d_C_get_4 (by decide) (show Op.lookupswitch.offset [(7, 60), (10, 126), (16, 108), (23, 100), (27, 144), (28, 150)] 159 (Int32.toInt (nI i)) = 159 by rw [lv_osw c_1 (by decide), lv_osw c_5 (by decide), lv_osw c_6 (by decide), lv_osw c_7 (by decide), lv_osw c_8 (by decide), lv_osw c_9 (by decide)]; rfl) (by decide) ?_
  refine lv_aload_n (pc := 163) hx hb d_C_get_163 rfl (lv_at hl 0 rfl) ?_
  refine lv_aload_n (pc := 164) hx hb d_C_get_164 rfl (lv_at hl 1 rfl) ?_
  refine ro_V (pc := 165) (As := [.ref (ad i)]) (rest := []) hx hb hml hl.1 hown hts (c_C_raw l D cI cR ad h ha hv f md tm al ln i hi) g_C_74 ⟨Nat.le_of_ble_eq_true rfl, Nat.le_of_ble_eq_true rfl⟩ (va_recv hX.1 hP (ci := 0) (q0 := 0) rfl rfl) (wc_P hP [0, 1, 2] rfl) hX hE rfl (Nat.le_of_ble_eq_true rfl) ⟨Nat.zero_le _, Nat.zero_le _⟩ d_C_get_165 ?_
  exact ro_iret (pc := 168) hx hb hr hlk hQ (by simp only [tellsF, if_neg c_1, if_neg c_5, if_neg c_6, if_neg c_7, if_neg c_8, if_neg c_9, nI_clamp (show i < 2 ^ 31 by omega)]) d_C_get_168
set_option maxHeartbeats 4000000 in
set_option maxRecDepth 100000 in
theorem c_C_of (l : Launch) (D : va_G) (cI cR : ClassId) (ad : Nat → Nat) (h ha hv : Nat) (f : Nat → Int32) (md : Int32) (tm al : Int64) (ln : Bool) (n : Int32) : RO l y_C_of b_C_of 4 (some (.object "ControlFile$Control")) 0 0 D cI cR ad (wC cI cR ad h ha hv f md tm al ln) [.ref h, .int n] (va_re ad (ofF n)) := by
  refine ro_ofW (by decide) (Nat.le_of_ble_eq_true rfl) ?_
  intro p e s m below meth c args Q ls hx hb hr hml hown hts hlk hP hX hE hl hQ
  have hown : s.vm.findClass cn_C = some m.cls := hown
  have hP : va_P D cls_ [(h, .inr (0, [.ref ha, .ref hv, .int md, .long tm, .long al, .int (bI ln)])), (ha, .inl (cR, 29, .inr (.inr (.inr (.inr (gA ad)))))), (hv, .inl (cI, 29, .inl f))] s.heap := hP
  have hl : lv_has ls 4 [(0, .ref h), (1, .int n)] := hl
  have loop : ∀ (N k : Nat) (ls : Array Slot), k ≤ 29 → 30 ≤ k + N → (∀ j, j < k → ¬ en_num.getD j 0 = n) → lv_has ls 4 [(0, .ref h), (1, .int n), (2, .null), (3, .int (nI k))] → W p l e (rmz 0 0) s m args below meth c s.heap [] 0 0 Q (F0 m 4 ls []) := by
    intro N
    induction N with
    | zero => intro k ls h1 h2; exact absurd h2 (by omega)
    | succ N ih =>
      intro k ls h1 h2 hno hl
      refine lv_iload_n (pc := 4) hx hb d_C_of_4 rfl (lv_at hl 3 rfl) ?_
      refine lv_aload_n (pc := 5) hx hb d_C_of_5 rfl (lv_at hl 0 rfl) ?_
      refine va_get (pc := 6) (D := D) (ci := 0) (v := .ref ha) (C := cn_C) (T := fT_C) (N := 6) hx hb hts in_C hown hX.1 hP 0 rfl rfl 0 (by decide) (hts _ kf_C_13) (fun _ h9 => h9) rfl d_C_of_6 ?_
      refine va_alen (pc := 9) (v := 29) hx hb hX.1 hP 1 1 rfl rfl rfl d_C_of_9 ?_
      refine lv_icmp_ge (pc := 10) (tgt := 47) hx hb d_C_of_10 (by decide) (fun c_1 => ?_) (fun c_1 => ?_)
      · refine lv_aload_nN (pc := 47) hx hb d_C_of_47 rfl (lv_at hl 2 rfl) ?_
        have hk9 : k = 29 := by have h9 := (nI_leI (a := 29) (b := k) (by decide) (by omega)).mp c_1; omega
        exact ro_aret (pc := 48) hx hb hr (Or.inl ⟨_, rfl⟩) (Or.inl rfl) hlk hQ (by rw [of_none (fun j hj => hno j (by omega))]; rfl) d_C_of_48
      · refine lv_aload_nN (pc := 13) hx hb d_C_of_13 rfl (lv_at hl 2 rfl) ?_
        refine lv_ifnonnullN (pc := 14) hx hb d_C_of_14 ?_
        have hlt : k < 29 := by
          rcases Nat.lt_or_ge k 29 with q | q
          · exact q
          · exact absurd ((nI_leI (a := 29) (b := k) (by decide) (by omega)).mpr q) c_1
        refine lv_aload_n (pc := 17) hx hb d_C_of_17 rfl (lv_at hl 0 rfl) ?_
        refine va_get (pc := 18) (D := D) (ci := 0) (v := .ref ha) (C := cn_C) (T := fT_C) (N := 6) hx hb hts in_C hown hX.1 hP 0 rfl rfl 0 (by decide) (hts _ kf_C_13) (fun _ h9 => h9) rfl d_C_of_18 ?_
        refine lv_iload_n (pc := 21) hx hb d_C_of_21 rfl (lv_at hl 3 rfl) ?_
        refine rd_a (pc := 22) hx hb hX hP 1 rfl k (nI_clamp (by omega)) (vp_in_nI hlt (by decide)) d_C_of_22 ?_
        refine en_getN (pc := 23) hx hb hE hlt va_S.rf hown 1 rfl (hX.nw 5 rfl rfl) d_C_of_23 ?_
        refine lv_iload_n (pc := 26) hx hb d_C_of_26 rfl (lv_at hl 1 rfl) ?_
        refine lv_icmp_ne (pc := 27) (tgt := 39) hx hb d_C_of_27 (by decide) (fun c_2 => ?_) (fun c_2 => ?_)
        · refine lv_null (pc := 39) hx hb d_C_of_39 ?_
          refine lv_astore_nN (pc := 40) (lv' := [(2, .null), (0, .ref h), (1, .int n), (3, .int (nI k))]) hx hb d_C_of_40 rfl hl (by decide) rfl (fun ls hl => ?_)
          refine lv_iinc (pc := 41) (v := (nI k) + 1) (lv' := [(3, .int ((nI k) + 1)), (2, .null), (0, .ref h), (1, .int n)]) hx hb d_C_of_41 hl (k := 3) rfl rfl (by decide) rfl (fun ls hl => ?_)
          refine lv_goto (pc := 44) (tgt := 4) hx hb d_C_of_44 (by decide) ?_
          exact ih (k + 1) ls (by omega) (by omega) (fun j hj => by rcases Nat.lt_or_ge j k with q | q; exact hno j q; rw [show j = k by omega]; exact c_2) (by rw [← nI_1]; exact lv_sub hl [2, 3, 1, 0] rfl)
        · refine lv_aload_n (pc := 30) hx hb d_C_of_30 rfl (lv_at hl 0 rfl) ?_
          refine va_get (pc := 31) (D := D) (ci := 0) (v := .ref ha) (C := cn_C) (T := fT_C) (N := 6) hx hb hts in_C hown hX.1 hP 0 rfl rfl 0 (by decide) (hts _ kf_C_13) (fun _ h9 => h9) rfl d_C_of_31 ?_
          refine lv_iload_n (pc := 34) hx hb d_C_of_34 rfl (lv_at hl 3 rfl) ?_
          refine rd_a (pc := 35) hx hb hX hP 1 rfl k (nI_clamp (by omega)) (vp_in_nI hlt (by decide)) d_C_of_35 ?_
          refine lv_goto (pc := 36) (tgt := 40) hx hb d_C_of_36 (by decide) ?_
          refine lv_astore_n (pc := 40) (lv' := [(2, .ref (ad k)), (0, .ref h), (1, .int n), (3, .int (nI k))]) hx hb d_C_of_40 rfl hl (by decide) rfl (fun ls hl => ?_)
          refine lv_iinc (pc := 41) (v := (nI k) + 1) (lv' := [(3, .int ((nI k) + 1)), (2, .ref (ad k)), (0, .ref h), (1, .int n)]) hx hb d_C_of_41 hl (k := 3) rfl rfl (by decide) rfl (fun ls hl => ?_)
          refine lv_goto (pc := 44) (tgt := 4) hx hb d_C_of_44 (by decide) ?_
          refine lv_iload_n (pc := 4) hx hb d_C_of_4 rfl (lv_at hl 0 rfl) ?_
          refine lv_aload_n (pc := 5) hx hb d_C_of_5 rfl (lv_at hl 2 rfl) ?_
          refine va_get (pc := 6) (D := D) (ci := 0) (v := .ref ha) (C := cn_C) (T := fT_C) (N := 6) hx hb hts in_C hown hX.1 hP 0 rfl rfl 0 (by decide) (hts _ kf_C_13) (fun _ h9 => h9) rfl d_C_of_6 ?_
          refine va_alen (pc := 9) (v := 29) hx hb hX.1 hP 1 1 rfl rfl rfl d_C_of_9 ?_
          refine lv_icmp_ge (pc := 10) (tgt := 47) hx hb d_C_of_10 (by decide) (fun c_3 => ?_) (fun c_3 => ?_)
          · refine lv_aload_n (pc := 47) hx hb d_C_of_47 rfl (lv_at hl 1 rfl) ?_
            exact ro_aret (pc := 48) hx hb hr (Or.inl ⟨_, rfl⟩) (Or.inr ⟨_, rfl⟩) hlk hQ (by rw [of_some hlt c_2]; rfl) d_C_of_48
          · refine lv_aload_n (pc := 13) hx hb d_C_of_13 rfl (lv_at hl 1 rfl) ?_
            refine lv_ifnonnull (pc := 14) (tgt := 47) hx hb d_C_of_14 (by decide) ?_
            refine lv_aload_n (pc := 47) hx hb d_C_of_47 rfl (lv_at hl 1 rfl) ?_
            exact ro_aret (pc := 48) hx hb hr (Or.inl ⟨_, rfl⟩) (Or.inr ⟨_, rfl⟩) hlk hQ (by rw [of_some hlt c_2]; rfl) d_C_of_48
  refine lv_null (pc := 0) hx hb d_C_of_0 ?_
  refine lv_astore_nN (pc := 1) (lv' := [(2, .null), (0, .ref h), (1, .int n)]) hx hb d_C_of_1 rfl hl (by decide) rfl (fun ls hl => ?_)
  refine lv_iconst (pc := 2) (v := 0) hx hb d_C_of_2 (by decide) ?_
  refine lv_istore_n (pc := 3) (lv' := [(3, .int 0), (2, .null), (0, .ref h), (1, .int n)]) hx hb d_C_of_3 rfl hl (by decide) rfl (fun ls hl => ?_)
  exact loop 30 0 ls (by decide) (by decide) (fun j hj => absurd hj (Nat.not_lt_zero j)) (lv_sub hl [2, 3, 1, 0] rfl)
set_option maxHeartbeats 4000000 in
set_option maxRecDepth 100000 in
theorem c_C_meant (l : Launch) (D : va_G) (cI cR : ClassId) (ad : Nat → Nat) (h ha hv : Nat) (f : Nat → Int32) (md : Int32) (tm al : Int64) (ln : Bool) (n : Int32) (i : Nat) (hof : ofF n = some i) : RO l y_C_meant b_C_meant 3 (some (.object "ControlFile$Control")) 1 23 D cI cR ad (wC cI cR ad h ha hv f md tm al ln) [.ref h, .int n] (.ref (ad (atN md i))) := by
  refine ro_ofW (by decide) (Nat.le_of_ble_eq_true rfl) ?_
  intro p e s m below meth c args Q ls hx hb hr hml hown hts hlk hP hX hE hl hQ
  have hown : s.vm.findClass cn_C = some m.cls := hown
  have hP : va_P D cls_ [(h, .inr (0, [.ref ha, .ref hv, .int md, .long tm, .long al, .int (bI ln)])), (ha, .inl (cR, 29, .inr (.inr (.inr (.inr (gA ad)))))), (hv, .inl (cI, 29, .inl f))] s.heap := hP
  have hl : lv_has ls 3 [(0, .ref h), (1, .int n)] := hl
  obtain ⟨hi, hpl, hnum⟩ := pl_of_some hof
  refine lv_aload_n (pc := 0) hx hb d_C_meant_0 rfl (lv_at hl 0 rfl) ?_
  refine lv_iload_n (pc := 1) hx hb d_C_meant_1 rfl (lv_at hl 1 rfl) ?_
  refine ro_V (pc := 2) (As := [.int n]) (rest := []) hx hb hml hl.1 hown hts (c_C_of l D cI cR ad h ha hv f md tm al ln n) g_C_47 ⟨Nat.le_of_ble_eq_true rfl, Nat.le_of_ble_eq_true rfl⟩ (va_recv hX.1 hP (ci := 0) (q0 := 0) rfl rfl) (wc_P hP [0, 1, 2] rfl) hX hE rfl (Nat.le_of_ble_eq_true rfl) ⟨Nat.zero_le _, Nat.zero_le _⟩ d_C_meant_2 ?_
  refine top_eqv (y := .ref (ad i)) (by rw [hof]; rfl) ?_
  refine lv_astore_n (pc := 5) (lv' := [(2, .ref (ad i)), (0, .ref h), (1, .int n)]) hx hb d_C_meant_5 rfl hl (by decide) rfl (fun ls hl => ?_)
  refine lv_aload_n (pc := 6) hx hb d_C_meant_6 rfl (lv_at hl 0 rfl) ?_
  refine lv_ifnull (pc := 7) hx hb d_C_meant_7 ?_
  refine lv_aload_n (pc := 10) hx hb d_C_meant_10 rfl (lv_at hl 1 rfl) ?_
  refine va_get (pc := 11) (D := D) (ci := 0) (v := .int md) (C := cn_C) (T := fT_C) (N := 6) hx hb hts in_C hown hX.1 hP 0 rfl rfl 2 (by decide) (hts _ kf_C_25) (fun _ h9 => h9) rfl d_C_meant_11 ?_
  refine lv_iconst (pc := 14) (v := 3) hx hb d_C_meant_14 (by decide) ?_
  refine lv_icmp_ne (pc := 15) (tgt := 37) hx hb d_C_meant_15 (by decide) (fun c_1 => ?_) (fun c_1 => ?_)
  · refine lv_aload_n (pc := 37) hx hb d_C_meant_37 rfl (lv_at hl 0 rfl) ?_
    exact ro_aret (pc := 38) hx hb hr (Or.inl ⟨_, rfl⟩) (Or.inr ⟨_, rfl⟩) hlk hQ (by simp [atN, c_1]) d_C_meant_38
  · refine lv_aload_n (pc := 18) hx hb d_C_meant_18 rfl (lv_at hl 0 rfl) ?_
    refine ro_V (pc := 19) (As := []) (rest := []) hx hb hml hl.1 hown hts (c_E_isOfS l D cI cR ad i hi) g_C_51 ⟨Nat.le_of_ble_eq_true rfl, Nat.le_of_ble_eq_true rfl⟩ (en_recv hE hi) (wc_P hP [] rfl) hX hE rfl (Nat.le_of_ble_eq_true rfl) ⟨Nat.zero_le _, Nat.zero_le _⟩ d_C_meant_19 ?_
    refine lv_if_eq (pc := 22) (tgt := 37) hx hb d_C_meant_22 (by decide) (fun c_2 => ?_) (fun c_2 => ?_)
    · refine lv_aload_n (pc := 37) hx hb d_C_meant_37 rfl (lv_at hl 0 rfl) ?_
      exact ro_aret (pc := 38) hx hb hr (Or.inl ⟨_, rfl⟩) (Or.inr ⟨_, rfl⟩) hlk hQ (by simp [atN, c_1, of_decide_eq_false (bI_0.mp c_2)]) d_C_meant_38
    · have hle : i ≤ 8 := of_decide_eq_true (bI_n0.mp c_2)
      refine lv_aload_n (pc := 25) hx hb d_C_meant_25 rfl (lv_at hl 1 rfl) ?_
      refine lv_iload_n (pc := 26) hx hb d_C_meant_26 rfl (lv_at hl 2 rfl) ?_
      refine lv_sipush (pc := 27) (v := 256) hx hb d_C_meant_27 (by decide) ?_
      refine lv_iadd (pc := 30) hx hb d_C_meant_30 ?_
      refine ro_V (pc := 31) (As := [.int (n + 256)]) (rest := []) hx hb hml hl.1 hown hts (c_C_of l D cI cR ad h ha hv f md tm al ln (n + 256)) g_C_47 ⟨Nat.le_of_ble_eq_true rfl, Nat.le_of_ble_eq_true rfl⟩ (va_recv hX.1 hP (ci := 0) (q0 := 0) rfl rfl) (wc_P hP [0, 1, 2] rfl) hX hE rfl (Nat.le_of_ble_eq_true rfl) ⟨Nat.zero_le _, Nat.zero_le _⟩ d_C_meant_31 ?_
      refine top_eqv (y := .ref (ad (i + 9))) (by rw [of_up hi hle hnum]; rfl) ?_
      refine lv_goto (pc := 34) (tgt := 38) hx hb d_C_meant_34 (by decide) ?_
      exact ro_aret (pc := 38) hx hb hr (Or.inl ⟨_, rfl⟩) (Or.inr ⟨_, rfl⟩) hlk hQ (by simp [atN, c_1, hle]) d_C_meant_38
set_option maxHeartbeats 4000000 in
set_option maxRecDepth 100000 in
theorem c_C_refuses (l : Launch) (D : va_G) (cI cR : ClassId) (ad : Nat → Nat) (h ha hv : Nat) (f : Nat → Int32) (md : Int32) (tm al : Int64) (ln : Bool) (n : Int32) (w : Bool) : RO l y_C_refuses b_C_refuses 5 (some .int) 2 42 D cI cR ad (wC cI cR ad h ha hv f md tm al ln) [.ref h, .int n, .int (bI w)] (.int (refF f md (placeF n) w)) := by
  refine ro_ofW (by decide) (Nat.le_of_ble_eq_true rfl) ?_
  intro p e s m below meth c args Q ls hx hb hr hml hown hts hlk hP hX hE hl hQ
  have hown : s.vm.findClass cn_C = some m.cls := hown
  have hP : va_P D cls_ [(h, .inr (0, [.ref ha, .ref hv, .int md, .long tm, .long al, .int (bI ln)])), (ha, .inl (cR, 29, .inr (.inr (.inr (.inr (gA ad)))))), (hv, .inl (cI, 29, .inl f))] s.heap := hP
  have hl : lv_has ls 5 [(0, .ref h), (1, .int n), (2, .int (bI w))] := hl
  refine lv_aload_n (pc := 0) hx hb d_C_refuses_0 rfl (lv_at hl 0 rfl) ?_
  refine lv_iload_n (pc := 1) hx hb d_C_refuses_1 rfl (lv_at hl 1 rfl) ?_
  refine ro_V (pc := 2) (As := [.int n]) (rest := []) hx hb hml hl.1 hown hts (c_C_of l D cI cR ad h ha hv f md tm al ln n) g_C_47 ⟨Nat.le_of_ble_eq_true rfl, Nat.le_of_ble_eq_true rfl⟩ (va_recv hX.1 hP (ci := 0) (q0 := 0) rfl rfl) (wc_P hP [0, 1, 2] rfl) hX hE rfl (Nat.le_of_ble_eq_true rfl) ⟨Nat.zero_le _, Nat.zero_le _⟩ d_C_refuses_2 ?_
  cases hof : ofF n with
  | none =>
    refine top_eqv (y := .null) rfl ?_
    have hpl := pl_of_none hof
    refine lv_astore_nN (pc := 5) (lv' := [(3, .null), (0, .ref h), (1, .int n), (2, .int (bI w))]) hx hb d_C_refuses_5 rfl hl (by decide) rfl (fun ls hl => ?_)
    refine lv_aload_nN (pc := 6) hx hb d_C_refuses_6 rfl (lv_at hl 0 rfl) ?_
    refine lv_ifnullN (pc := 7) (tgt := 21) hx hb d_C_refuses_7 (by decide) ?_
    refine lv_iconst (pc := 21) (v := 2) hx hb d_C_refuses_21 (by decide) ?_
    exact ro_iret (pc := 22) hx hb hr hlk hQ (by rw [hpl]; simp [refF]) d_C_refuses_22
  | some i =>
    refine top_eqv (y := .ref (ad i)) rfl ?_
    obtain ⟨hi, hpl, hnum⟩ := pl_of_some hof
    refine lv_astore_n (pc := 5) (lv' := [(3, .ref (ad i)), (0, .ref h), (1, .int n), (2, .int (bI w))]) hx hb d_C_refuses_5 rfl hl (by decide) rfl (fun ls hl => ?_)
    refine lv_aload_n (pc := 6) hx hb d_C_refuses_6 rfl (lv_at hl 0 rfl) ?_
    refine lv_ifnull (pc := 7) hx hb d_C_refuses_7 ?_
    refine lv_iload_n (pc := 10) hx hb d_C_refuses_10 rfl (lv_at hl 3 rfl) ?_
    refine lv_if_eq (pc := 11) (tgt := 23) hx hb d_C_refuses_11 (by decide) (fun c_1 => ?_) (fun c_1 => ?_)
    · refine lv_aload_n (pc := 23) hx hb d_C_refuses_23 rfl (lv_at hl 1 rfl) ?_
      refine va_get (pc := 24) (D := D) (ci := 0) (v := .int md) (C := cn_C) (T := fT_C) (N := 6) hx hb hts in_C hown hX.1 hP 0 rfl rfl 2 (by decide) (hts _ kf_C_25) (fun _ h9 => h9) rfl d_C_refuses_24 ?_
      refine lv_iconst (pc := 27) (v := 1) hx hb d_C_refuses_27 (by decide) ?_
      refine lv_icmp_eq (pc := 28) (tgt := 38) hx hb d_C_refuses_28 (by decide) (fun c_2 => ?_) (fun c_2 => ?_)
      · refine lv_iconst (pc := 38) (v := 0) hx hb d_C_refuses_38 (by decide) ?_
        exact ro_iret (pc := 39) hx hb hr hlk hQ (by rw [hpl, ref_G hi]; simp [refG, bI_0.mp c_1, c_2]) d_C_refuses_39
      · refine lv_aload_n (pc := 31) hx hb d_C_refuses_31 rfl (lv_at hl 0 rfl) ?_
        refine ro_V (pc := 32) (As := []) (rest := []) hx hb hml hl.1 hown hts (c_E_isTime l D cI cR ad i hi) g_C_55 ⟨Nat.le_of_ble_eq_true rfl, Nat.le_of_ble_eq_true rfl⟩ (en_recv hE hi) (wc_P hP [] rfl) hX hE rfl (Nat.le_of_ble_eq_true rfl) ⟨Nat.zero_le _, Nat.zero_le _⟩ d_C_refuses_32 ?_
        refine lv_if_eq (pc := 35) (tgt := 40) hx hb d_C_refuses_35 (by decide) (fun c_3 => ?_) (fun c_3 => ?_)
        · refine lv_aload_n (pc := 40) hx hb d_C_refuses_40 rfl (lv_at hl 1 rfl) ?_
          refine va_get (pc := 41) (D := D) (ci := 0) (v := .int md) (C := cn_C) (T := fT_C) (N := 6) hx hb hts in_C hown hX.1 hP 0 rfl rfl 2 (by decide) (hts _ kf_C_25) (fun _ h9 => h9) rfl d_C_refuses_41 ?_
          refine lv_if_ne (pc := 44) (tgt := 49) hx hb d_C_refuses_44 (by decide) (fun c_4 => ?_) (fun c_4 => ?_)
          · refine lv_aload_n (pc := 49) hx hb d_C_refuses_49 rfl (lv_at hl 0 rfl) ?_
            refine en_gets (pc := 50) hx hb hE va_S.rf hown 8 (by decide) (hts _ kf_C_58) d_C_refuses_50 ?_
            refine lv_acmp_ne (pc := 53) (rx := some (ad i)) (ry := some (ad 8)) (tgt := 72) hx hb d_C_refuses_53 (by decide) (fun c_5 => ?_) (fun c_5 => ?_)
            · refine lv_iconst (pc := 72) (v := 0) hx hb d_C_refuses_72 (by decide) ?_
              refine lv_istore (pc := 73) (lv' := [(4, .int 0), (3, .ref (ad i)), (0, .ref h), (1, .int n), (2, .int (bI w))]) hx hb d_C_refuses_73 hl (by decide) rfl (fun ls hl => ?_)
              refine lv_aload_n (pc := 75) hx hb d_C_refuses_75 rfl (lv_at hl 2 rfl) ?_
              refine va_get (pc := 76) (D := D) (ci := 0) (v := .int md) (C := cn_C) (T := fT_C) (N := 6) hx hb hts in_C hown hX.1 hP 0 rfl rfl 2 (by decide) (hts _ kf_C_25) (fun _ h9 => h9) rfl d_C_refuses_76 ?_
              refine lv_iconst (pc := 79) (v := 3) hx hb d_C_refuses_79 (by decide) ?_
              refine lv_icmp_ne (pc := 80) (tgt := 99) hx hb d_C_refuses_80 (by decide) (fun c_6 => ?_) (fun c_6 => ?_)
              · refine lv_bipush (pc := 99) (v := 22) hx hb d_C_refuses_99 (by decide) ?_
                have h8 : decide (i = 8) = false := decide_eq_false (fun e9 => c_5 (by rw [e9]))
                exact ro_iret (pc := 101) hx hb hr hlk hQ (by rw [hpl, ref_G hi, h8]; simp [refG, bI_0.mp c_1, c_2, bI_0.mp c_3, c_4, c_6]) d_C_refuses_101
              · refine lv_aload_n (pc := 83) hx hb d_C_refuses_83 rfl (lv_at hl 1 rfl) ?_
                refine ro_V (pc := 84) (As := []) (rest := []) hx hb hml hl.1 hown hts (c_E_isOfS l D cI cR ad i hi) g_C_51 ⟨Nat.le_of_ble_eq_true rfl, Nat.le_of_ble_eq_true rfl⟩ (en_recv hE hi) (wc_P hP [] rfl) hX hE rfl (Nat.le_of_ble_eq_true rfl) ⟨Nat.zero_le _, Nat.zero_le _⟩ d_C_refuses_84 ?_
                refine lv_if_eq (pc := 87) (tgt := 99) hx hb d_C_refuses_87 (by decide) (fun c_7 => ?_) (fun c_7 => ?_)
                · refine lv_bipush (pc := 99) (v := 22) hx hb d_C_refuses_99 (by decide) ?_
                  have h8 : decide (i = 8) = false := decide_eq_false (fun e9 => c_5 (by rw [e9]))
                  exact ro_iret (pc := 101) hx hb hr hlk hQ (by rw [hpl, ref_G hi, h8]; simp [refG, bI_0.mp c_1, c_2, bI_0.mp c_3, c_4, c_6, bI_0.mp c_7]) d_C_refuses_101
                · refine lv_iload (pc := 90) hx hb d_C_refuses_90 (lv_at hl 0 rfl) ?_
                  refine lv_if_ne (pc := 92) (tgt := 99) hx hb d_C_refuses_92 (by decide) (fun c_8 => absurd rfl c_8) (fun c_8 => ?_)
                  refine lv_iconst (pc := 95) (v := 0) hx hb d_C_refuses_95 (by decide) ?_
                  refine lv_goto (pc := 96) (tgt := 101) hx hb d_C_refuses_96 (by decide) ?_
                  have h8 : decide (i = 8) = false := decide_eq_false (fun e9 => c_5 (by rw [e9]))
                  exact ro_iret (pc := 101) hx hb hr hlk hQ (by rw [hpl, ref_G hi, h8]; simp [refG, bI_0.mp c_1, c_2, bI_0.mp c_3, c_4, c_6, bI_n0.mp c_7, c_8]) d_C_refuses_101
            · refine lv_aload_n (pc := 56) hx hb d_C_refuses_56 rfl (lv_at hl 1 rfl) ?_
              refine en_gets (pc := 57) hx hb hE va_S.rf hown 18 (by decide) (hts _ kf_C_62) d_C_refuses_57 ?_
              refine lv_ldc (pc := 60) (v := 1048576) hx hb hown (hts _ kk_C_65) d_C_refuses_60 ?_
              refine ro_V (pc := 62) (As := [.ref (ad 18), .int 1048576]) (rest := []) hx hb hml hl.1 hown hts (c_C_has l D cI cR ad h ha hv f md tm al ln 18 (by decide) 1048576) g_C_66 ⟨Nat.le_of_ble_eq_true rfl, Nat.le_of_ble_eq_true rfl⟩ (va_recv hX.1 hP (ci := 0) (q0 := 0) rfl rfl) (wc_P hP [0, 1, 2] rfl) hX hE rfl (Nat.le_of_ble_eq_true rfl) ⟨Nat.zero_le _, Nat.zero_le _⟩ d_C_refuses_62 ?_
              refine top_eq (y := bI (hasF (f 18) 20)) (hs20 _) ?_
              refine lv_if_eq (pc := 65) (tgt := 72) hx hb d_C_refuses_65 (by decide) (fun c_9 => ?_) (fun c_9 => ?_)
              · refine lv_iconst (pc := 72) (v := 0) hx hb d_C_refuses_72 (by decide) ?_
                refine lv_istore (pc := 73) (lv' := [(4, .int 0), (3, .ref (ad i)), (0, .ref h), (1, .int n), (2, .int (bI w))]) hx hb d_C_refuses_73 hl (by decide) rfl (fun ls hl => ?_)
                refine lv_aload_n (pc := 75) hx hb d_C_refuses_75 rfl (lv_at hl 2 rfl) ?_
                refine va_get (pc := 76) (D := D) (ci := 0) (v := .int md) (C := cn_C) (T := fT_C) (N := 6) hx hb hts in_C hown hX.1 hP 0 rfl rfl 2 (by decide) (hts _ kf_C_25) (fun _ h9 => h9) rfl d_C_refuses_76 ?_
                refine lv_iconst (pc := 79) (v := 3) hx hb d_C_refuses_79 (by decide) ?_
                refine lv_icmp_ne (pc := 80) (tgt := 99) hx hb d_C_refuses_80 (by decide) (fun c_10 => ?_) (fun c_10 => ?_)
                · refine lv_bipush (pc := 99) (v := 22) hx hb d_C_refuses_99 (by decide) ?_
                  have h8 : decide (i = 8) = true := decide_eq_true (en_inj hE hi (by decide) (Option.some.inj c_5))
                  exact ro_iret (pc := 101) hx hb hr hlk hQ (by rw [hpl, ref_G hi, h8]; simp [refG, bI_0.mp c_1, c_2, bI_0.mp c_3, c_4, bI_0.mp c_9, c_10]) d_C_refuses_101
                · refine lv_aload_n (pc := 83) hx hb d_C_refuses_83 rfl (lv_at hl 1 rfl) ?_
                  refine ro_V (pc := 84) (As := []) (rest := []) hx hb hml hl.1 hown hts (c_E_isOfS l D cI cR ad i hi) g_C_51 ⟨Nat.le_of_ble_eq_true rfl, Nat.le_of_ble_eq_true rfl⟩ (en_recv hE hi) (wc_P hP [] rfl) hX hE rfl (Nat.le_of_ble_eq_true rfl) ⟨Nat.zero_le _, Nat.zero_le _⟩ d_C_refuses_84 ?_
                  refine lv_if_eq (pc := 87) (tgt := 99) hx hb d_C_refuses_87 (by decide) (fun c_11 => ?_) (fun c_11 => ?_)
                  · refine lv_bipush (pc := 99) (v := 22) hx hb d_C_refuses_99 (by decide) ?_
                    have h8 : decide (i = 8) = true := decide_eq_true (en_inj hE hi (by decide) (Option.some.inj c_5))
                    exact ro_iret (pc := 101) hx hb hr hlk hQ (by rw [hpl, ref_G hi, h8]; simp [refG, bI_0.mp c_1, c_2, bI_0.mp c_3, c_4, bI_0.mp c_9, c_10, bI_0.mp c_11]) d_C_refuses_101
                  · refine lv_iload (pc := 90) hx hb d_C_refuses_90 (lv_at hl 0 rfl) ?_
                    refine lv_if_ne (pc := 92) (tgt := 99) hx hb d_C_refuses_92 (by decide) (fun c_12 => absurd rfl c_12) (fun c_12 => ?_)
                    refine lv_iconst (pc := 95) (v := 0) hx hb d_C_refuses_95 (by decide) ?_
                    refine lv_goto (pc := 96) (tgt := 101) hx hb d_C_refuses_96 (by decide) ?_
                    have h8 : decide (i = 8) = true := decide_eq_true (en_inj hE hi (by decide) (Option.some.inj c_5))
                    exact ro_iret (pc := 101) hx hb hr hlk hQ (by rw [hpl, ref_G hi, h8]; simp [refG, bI_0.mp c_1, c_2, bI_0.mp c_3, c_4, bI_0.mp c_9, c_10, bI_n0.mp c_11, c_12]) d_C_refuses_101
              · refine lv_iconst (pc := 68) (v := 1) hx hb d_C_refuses_68 (by decide) ?_
                refine lv_goto (pc := 69) (tgt := 73) hx hb d_C_refuses_69 (by decide) ?_
                refine lv_istore (pc := 73) (lv' := [(4, .int 1), (3, .ref (ad i)), (0, .ref h), (1, .int n), (2, .int (bI w))]) hx hb d_C_refuses_73 hl (by decide) rfl (fun ls hl => ?_)
                refine lv_aload_n (pc := 75) hx hb d_C_refuses_75 rfl (lv_at hl 2 rfl) ?_
                refine va_get (pc := 76) (D := D) (ci := 0) (v := .int md) (C := cn_C) (T := fT_C) (N := 6) hx hb hts in_C hown hX.1 hP 0 rfl rfl 2 (by decide) (hts _ kf_C_25) (fun _ h9 => h9) rfl d_C_refuses_76 ?_
                refine lv_iconst (pc := 79) (v := 3) hx hb d_C_refuses_79 (by decide) ?_
                refine lv_icmp_ne (pc := 80) (tgt := 99) hx hb d_C_refuses_80 (by decide) (fun c_13 => ?_) (fun c_13 => ?_)
                · refine lv_bipush (pc := 99) (v := 22) hx hb d_C_refuses_99 (by decide) ?_
                  have h8 : decide (i = 8) = true := decide_eq_true (en_inj hE hi (by decide) (Option.some.inj c_5))
                  exact ro_iret (pc := 101) hx hb hr hlk hQ (by rw [hpl, ref_G hi, h8]; simp [refG, bI_0.mp c_1, c_2, bI_0.mp c_3, c_4, bI_n0.mp c_9, c_13]) d_C_refuses_101
                · refine lv_aload_n (pc := 83) hx hb d_C_refuses_83 rfl (lv_at hl 1 rfl) ?_
                  refine ro_V (pc := 84) (As := []) (rest := []) hx hb hml hl.1 hown hts (c_E_isOfS l D cI cR ad i hi) g_C_51 ⟨Nat.le_of_ble_eq_true rfl, Nat.le_of_ble_eq_true rfl⟩ (en_recv hE hi) (wc_P hP [] rfl) hX hE rfl (Nat.le_of_ble_eq_true rfl) ⟨Nat.zero_le _, Nat.zero_le _⟩ d_C_refuses_84 ?_
                  refine lv_if_eq (pc := 87) (tgt := 99) hx hb d_C_refuses_87 (by decide) (fun c_14 => ?_) (fun c_14 => ?_)
                  · refine lv_bipush (pc := 99) (v := 22) hx hb d_C_refuses_99 (by decide) ?_
                    have h8 : decide (i = 8) = true := decide_eq_true (en_inj hE hi (by decide) (Option.some.inj c_5))
                    exact ro_iret (pc := 101) hx hb hr hlk hQ (by rw [hpl, ref_G hi, h8]; simp [refG, bI_0.mp c_1, c_2, bI_0.mp c_3, c_4, bI_n0.mp c_9, c_13, bI_0.mp c_14]) d_C_refuses_101
                  · refine lv_iload (pc := 90) hx hb d_C_refuses_90 (lv_at hl 0 rfl) ?_
                    refine lv_if_ne (pc := 92) (tgt := 99) hx hb d_C_refuses_92 (by decide) (fun c_15 => ?_) (fun c_15 => absurd c_15 (by decide))
                    refine lv_bipush (pc := 99) (v := 22) hx hb d_C_refuses_99 (by decide) ?_
                    have h8 : decide (i = 8) = true := decide_eq_true (en_inj hE hi (by decide) (Option.some.inj c_5))
                    exact ro_iret (pc := 101) hx hb hr hlk hQ (by rw [hpl, ref_G hi, h8]; simp [refG, bI_0.mp c_1, c_2, bI_0.mp c_3, c_4, bI_n0.mp c_9, c_13, bI_n0.mp c_14, c_15]) d_C_refuses_101
          · refine lv_iconst (pc := 47) (v := 2) hx hb d_C_refuses_47 (by decide) ?_
            exact ro_iret (pc := 48) hx hb hr hlk hQ (by rw [hpl, ref_G hi]; simp [refG, bI_0.mp c_1, c_2, bI_0.mp c_3, c_4]) d_C_refuses_48
        · refine lv_iconst (pc := 38) (v := 0) hx hb d_C_refuses_38 (by decide) ?_
          exact ro_iret (pc := 39) hx hb hr hlk hQ (by rw [hpl, ref_G hi]; simp [refG, bI_0.mp c_1, c_2, bI_n0.mp c_3]) d_C_refuses_39
    · refine lv_aload_n (pc := 14) hx hb d_C_refuses_14 rfl (lv_at hl 0 rfl) ?_
      refine ro_V (pc := 15) (As := []) (rest := []) hx hb hml hl.1 hown hts (c_E_isTime l D cI cR ad i hi) g_C_55 ⟨Nat.le_of_ble_eq_true rfl, Nat.le_of_ble_eq_true rfl⟩ (en_recv hE hi) (wc_P hP [] rfl) hX hE rfl (Nat.le_of_ble_eq_true rfl) ⟨Nat.zero_le _, Nat.zero_le _⟩ d_C_refuses_15 ?_
      refine lv_if_eq (pc := 18) (tgt := 23) hx hb d_C_refuses_18 (by decide) (fun c_16 => ?_) (fun c_16 => ?_)
      · refine lv_aload_n (pc := 23) hx hb d_C_refuses_23 rfl (lv_at hl 1 rfl) ?_
        refine va_get (pc := 24) (D := D) (ci := 0) (v := .int md) (C := cn_C) (T := fT_C) (N := 6) hx hb hts in_C hown hX.1 hP 0 rfl rfl 2 (by decide) (hts _ kf_C_25) (fun _ h9 => h9) rfl d_C_refuses_24 ?_
        refine lv_iconst (pc := 27) (v := 1) hx hb d_C_refuses_27 (by decide) ?_
        refine lv_icmp_eq (pc := 28) (tgt := 38) hx hb d_C_refuses_28 (by decide) (fun c_17 => ?_) (fun c_17 => ?_)
        · refine lv_iconst (pc := 38) (v := 0) hx hb d_C_refuses_38 (by decide) ?_
          exact ro_iret (pc := 39) hx hb hr hlk hQ (by rw [hpl, ref_G hi]; simp [refG, bI_n0.mp c_1, bI_0.mp c_16, c_17]) d_C_refuses_39
        · refine lv_aload_n (pc := 31) hx hb d_C_refuses_31 rfl (lv_at hl 0 rfl) ?_
          refine ro_V (pc := 32) (As := []) (rest := []) hx hb hml hl.1 hown hts (c_E_isTime l D cI cR ad i hi) g_C_55 ⟨Nat.le_of_ble_eq_true rfl, Nat.le_of_ble_eq_true rfl⟩ (en_recv hE hi) (wc_P hP [] rfl) hX hE rfl (Nat.le_of_ble_eq_true rfl) ⟨Nat.zero_le _, Nat.zero_le _⟩ d_C_refuses_32 ?_
          refine lv_if_eq (pc := 35) (tgt := 40) hx hb d_C_refuses_35 (by decide) (fun c_18 => ?_) (fun c_18 => absurd c_16 c_18)
          refine lv_aload_n (pc := 40) hx hb d_C_refuses_40 rfl (lv_at hl 1 rfl) ?_
          refine va_get (pc := 41) (D := D) (ci := 0) (v := .int md) (C := cn_C) (T := fT_C) (N := 6) hx hb hts in_C hown hX.1 hP 0 rfl rfl 2 (by decide) (hts _ kf_C_25) (fun _ h9 => h9) rfl d_C_refuses_41 ?_
          refine lv_if_ne (pc := 44) (tgt := 49) hx hb d_C_refuses_44 (by decide) (fun c_19 => ?_) (fun c_19 => ?_)
          · refine lv_aload_n (pc := 49) hx hb d_C_refuses_49 rfl (lv_at hl 0 rfl) ?_
            refine en_gets (pc := 50) hx hb hE va_S.rf hown 8 (by decide) (hts _ kf_C_58) d_C_refuses_50 ?_
            refine lv_acmp_ne (pc := 53) (rx := some (ad i)) (ry := some (ad 8)) (tgt := 72) hx hb d_C_refuses_53 (by decide) (fun c_20 => ?_) (fun c_20 => ?_)
            · refine lv_iconst (pc := 72) (v := 0) hx hb d_C_refuses_72 (by decide) ?_
              refine lv_istore (pc := 73) (lv' := [(4, .int 0), (3, .ref (ad i)), (0, .ref h), (1, .int n), (2, .int (bI w))]) hx hb d_C_refuses_73 hl (by decide) rfl (fun ls hl => ?_)
              refine lv_aload_n (pc := 75) hx hb d_C_refuses_75 rfl (lv_at hl 2 rfl) ?_
              refine va_get (pc := 76) (D := D) (ci := 0) (v := .int md) (C := cn_C) (T := fT_C) (N := 6) hx hb hts in_C hown hX.1 hP 0 rfl rfl 2 (by decide) (hts _ kf_C_25) (fun _ h9 => h9) rfl d_C_refuses_76 ?_
              refine lv_iconst (pc := 79) (v := 3) hx hb d_C_refuses_79 (by decide) ?_
              refine lv_icmp_ne (pc := 80) (tgt := 99) hx hb d_C_refuses_80 (by decide) (fun c_21 => ?_) (fun c_21 => ?_)
              · refine lv_bipush (pc := 99) (v := 22) hx hb d_C_refuses_99 (by decide) ?_
                have h8 : decide (i = 8) = false := decide_eq_false (fun e9 => c_20 (by rw [e9]))
                exact ro_iret (pc := 101) hx hb hr hlk hQ (by rw [hpl, ref_G hi, h8]; simp [refG, bI_n0.mp c_1, bI_0.mp c_16, c_17, bI_0.mp c_18, c_19, c_21]) d_C_refuses_101
              · refine lv_aload_n (pc := 83) hx hb d_C_refuses_83 rfl (lv_at hl 1 rfl) ?_
                refine ro_V (pc := 84) (As := []) (rest := []) hx hb hml hl.1 hown hts (c_E_isOfS l D cI cR ad i hi) g_C_51 ⟨Nat.le_of_ble_eq_true rfl, Nat.le_of_ble_eq_true rfl⟩ (en_recv hE hi) (wc_P hP [] rfl) hX hE rfl (Nat.le_of_ble_eq_true rfl) ⟨Nat.zero_le _, Nat.zero_le _⟩ d_C_refuses_84 ?_
                refine lv_if_eq (pc := 87) (tgt := 99) hx hb d_C_refuses_87 (by decide) (fun c_22 => ?_) (fun c_22 => ?_)
                · refine lv_bipush (pc := 99) (v := 22) hx hb d_C_refuses_99 (by decide) ?_
                  have h8 : decide (i = 8) = false := decide_eq_false (fun e9 => c_20 (by rw [e9]))
                  exact ro_iret (pc := 101) hx hb hr hlk hQ (by rw [hpl, ref_G hi, h8]; simp [refG, bI_n0.mp c_1, bI_0.mp c_16, c_17, bI_0.mp c_18, c_19, c_21, bI_0.mp c_22]) d_C_refuses_101
                · refine lv_iload (pc := 90) hx hb d_C_refuses_90 (lv_at hl 0 rfl) ?_
                  refine lv_if_ne (pc := 92) (tgt := 99) hx hb d_C_refuses_92 (by decide) (fun c_23 => absurd rfl c_23) (fun c_23 => ?_)
                  refine lv_iconst (pc := 95) (v := 0) hx hb d_C_refuses_95 (by decide) ?_
                  refine lv_goto (pc := 96) (tgt := 101) hx hb d_C_refuses_96 (by decide) ?_
                  have h8 : decide (i = 8) = false := decide_eq_false (fun e9 => c_20 (by rw [e9]))
                  exact ro_iret (pc := 101) hx hb hr hlk hQ (by rw [hpl, ref_G hi, h8]; simp [refG, bI_n0.mp c_1, bI_0.mp c_16, c_17, bI_0.mp c_18, c_19, c_21, bI_n0.mp c_22, c_23]) d_C_refuses_101
            · refine lv_aload_n (pc := 56) hx hb d_C_refuses_56 rfl (lv_at hl 1 rfl) ?_
              refine en_gets (pc := 57) hx hb hE va_S.rf hown 18 (by decide) (hts _ kf_C_62) d_C_refuses_57 ?_
              refine lv_ldc (pc := 60) (v := 1048576) hx hb hown (hts _ kk_C_65) d_C_refuses_60 ?_
              refine ro_V (pc := 62) (As := [.ref (ad 18), .int 1048576]) (rest := []) hx hb hml hl.1 hown hts (c_C_has l D cI cR ad h ha hv f md tm al ln 18 (by decide) 1048576) g_C_66 ⟨Nat.le_of_ble_eq_true rfl, Nat.le_of_ble_eq_true rfl⟩ (va_recv hX.1 hP (ci := 0) (q0 := 0) rfl rfl) (wc_P hP [0, 1, 2] rfl) hX hE rfl (Nat.le_of_ble_eq_true rfl) ⟨Nat.zero_le _, Nat.zero_le _⟩ d_C_refuses_62 ?_
              refine top_eq (y := bI (hasF (f 18) 20)) (hs20 _) ?_
              refine lv_if_eq (pc := 65) (tgt := 72) hx hb d_C_refuses_65 (by decide) (fun c_24 => ?_) (fun c_24 => ?_)
              · refine lv_iconst (pc := 72) (v := 0) hx hb d_C_refuses_72 (by decide) ?_
                refine lv_istore (pc := 73) (lv' := [(4, .int 0), (3, .ref (ad i)), (0, .ref h), (1, .int n), (2, .int (bI w))]) hx hb d_C_refuses_73 hl (by decide) rfl (fun ls hl => ?_)
                refine lv_aload_n (pc := 75) hx hb d_C_refuses_75 rfl (lv_at hl 2 rfl) ?_
                refine va_get (pc := 76) (D := D) (ci := 0) (v := .int md) (C := cn_C) (T := fT_C) (N := 6) hx hb hts in_C hown hX.1 hP 0 rfl rfl 2 (by decide) (hts _ kf_C_25) (fun _ h9 => h9) rfl d_C_refuses_76 ?_
                refine lv_iconst (pc := 79) (v := 3) hx hb d_C_refuses_79 (by decide) ?_
                refine lv_icmp_ne (pc := 80) (tgt := 99) hx hb d_C_refuses_80 (by decide) (fun c_25 => ?_) (fun c_25 => ?_)
                · refine lv_bipush (pc := 99) (v := 22) hx hb d_C_refuses_99 (by decide) ?_
                  have h8 : decide (i = 8) = true := decide_eq_true (en_inj hE hi (by decide) (Option.some.inj c_20))
                  exact ro_iret (pc := 101) hx hb hr hlk hQ (by rw [hpl, ref_G hi, h8]; simp [refG, bI_n0.mp c_1, bI_0.mp c_16, c_17, bI_0.mp c_18, c_19, bI_0.mp c_24, c_25]) d_C_refuses_101
                · refine lv_aload_n (pc := 83) hx hb d_C_refuses_83 rfl (lv_at hl 1 rfl) ?_
                  refine ro_V (pc := 84) (As := []) (rest := []) hx hb hml hl.1 hown hts (c_E_isOfS l D cI cR ad i hi) g_C_51 ⟨Nat.le_of_ble_eq_true rfl, Nat.le_of_ble_eq_true rfl⟩ (en_recv hE hi) (wc_P hP [] rfl) hX hE rfl (Nat.le_of_ble_eq_true rfl) ⟨Nat.zero_le _, Nat.zero_le _⟩ d_C_refuses_84 ?_
                  refine lv_if_eq (pc := 87) (tgt := 99) hx hb d_C_refuses_87 (by decide) (fun c_26 => ?_) (fun c_26 => ?_)
                  · refine lv_bipush (pc := 99) (v := 22) hx hb d_C_refuses_99 (by decide) ?_
                    have h8 : decide (i = 8) = true := decide_eq_true (en_inj hE hi (by decide) (Option.some.inj c_20))
                    exact ro_iret (pc := 101) hx hb hr hlk hQ (by rw [hpl, ref_G hi, h8]; simp [refG, bI_n0.mp c_1, bI_0.mp c_16, c_17, bI_0.mp c_18, c_19, bI_0.mp c_24, c_25, bI_0.mp c_26]) d_C_refuses_101
                  · refine lv_iload (pc := 90) hx hb d_C_refuses_90 (lv_at hl 0 rfl) ?_
                    refine lv_if_ne (pc := 92) (tgt := 99) hx hb d_C_refuses_92 (by decide) (fun c_27 => absurd rfl c_27) (fun c_27 => ?_)
                    refine lv_iconst (pc := 95) (v := 0) hx hb d_C_refuses_95 (by decide) ?_
                    refine lv_goto (pc := 96) (tgt := 101) hx hb d_C_refuses_96 (by decide) ?_
                    have h8 : decide (i = 8) = true := decide_eq_true (en_inj hE hi (by decide) (Option.some.inj c_20))
                    exact ro_iret (pc := 101) hx hb hr hlk hQ (by rw [hpl, ref_G hi, h8]; simp [refG, bI_n0.mp c_1, bI_0.mp c_16, c_17, bI_0.mp c_18, c_19, bI_0.mp c_24, c_25, bI_n0.mp c_26, c_27]) d_C_refuses_101
              · refine lv_iconst (pc := 68) (v := 1) hx hb d_C_refuses_68 (by decide) ?_
                refine lv_goto (pc := 69) (tgt := 73) hx hb d_C_refuses_69 (by decide) ?_
                refine lv_istore (pc := 73) (lv' := [(4, .int 1), (3, .ref (ad i)), (0, .ref h), (1, .int n), (2, .int (bI w))]) hx hb d_C_refuses_73 hl (by decide) rfl (fun ls hl => ?_)
                refine lv_aload_n (pc := 75) hx hb d_C_refuses_75 rfl (lv_at hl 2 rfl) ?_
                refine va_get (pc := 76) (D := D) (ci := 0) (v := .int md) (C := cn_C) (T := fT_C) (N := 6) hx hb hts in_C hown hX.1 hP 0 rfl rfl 2 (by decide) (hts _ kf_C_25) (fun _ h9 => h9) rfl d_C_refuses_76 ?_
                refine lv_iconst (pc := 79) (v := 3) hx hb d_C_refuses_79 (by decide) ?_
                refine lv_icmp_ne (pc := 80) (tgt := 99) hx hb d_C_refuses_80 (by decide) (fun c_28 => ?_) (fun c_28 => ?_)
                · refine lv_bipush (pc := 99) (v := 22) hx hb d_C_refuses_99 (by decide) ?_
                  have h8 : decide (i = 8) = true := decide_eq_true (en_inj hE hi (by decide) (Option.some.inj c_20))
                  exact ro_iret (pc := 101) hx hb hr hlk hQ (by rw [hpl, ref_G hi, h8]; simp [refG, bI_n0.mp c_1, bI_0.mp c_16, c_17, bI_0.mp c_18, c_19, bI_n0.mp c_24, c_28]) d_C_refuses_101
                · refine lv_aload_n (pc := 83) hx hb d_C_refuses_83 rfl (lv_at hl 1 rfl) ?_
                  refine ro_V (pc := 84) (As := []) (rest := []) hx hb hml hl.1 hown hts (c_E_isOfS l D cI cR ad i hi) g_C_51 ⟨Nat.le_of_ble_eq_true rfl, Nat.le_of_ble_eq_true rfl⟩ (en_recv hE hi) (wc_P hP [] rfl) hX hE rfl (Nat.le_of_ble_eq_true rfl) ⟨Nat.zero_le _, Nat.zero_le _⟩ d_C_refuses_84 ?_
                  refine lv_if_eq (pc := 87) (tgt := 99) hx hb d_C_refuses_87 (by decide) (fun c_29 => ?_) (fun c_29 => ?_)
                  · refine lv_bipush (pc := 99) (v := 22) hx hb d_C_refuses_99 (by decide) ?_
                    have h8 : decide (i = 8) = true := decide_eq_true (en_inj hE hi (by decide) (Option.some.inj c_20))
                    exact ro_iret (pc := 101) hx hb hr hlk hQ (by rw [hpl, ref_G hi, h8]; simp [refG, bI_n0.mp c_1, bI_0.mp c_16, c_17, bI_0.mp c_18, c_19, bI_n0.mp c_24, c_28, bI_0.mp c_29]) d_C_refuses_101
                  · refine lv_iload (pc := 90) hx hb d_C_refuses_90 (lv_at hl 0 rfl) ?_
                    refine lv_if_ne (pc := 92) (tgt := 99) hx hb d_C_refuses_92 (by decide) (fun c_30 => ?_) (fun c_30 => absurd c_30 (by decide))
                    refine lv_bipush (pc := 99) (v := 22) hx hb d_C_refuses_99 (by decide) ?_
                    have h8 : decide (i = 8) = true := decide_eq_true (en_inj hE hi (by decide) (Option.some.inj c_20))
                    exact ro_iret (pc := 101) hx hb hr hlk hQ (by rw [hpl, ref_G hi, h8]; simp [refG, bI_n0.mp c_1, bI_0.mp c_16, c_17, bI_0.mp c_18, c_19, bI_n0.mp c_24, c_28, bI_n0.mp c_29, c_30]) d_C_refuses_101
          · refine lv_iconst (pc := 47) (v := 2) hx hb d_C_refuses_47 (by decide) ?_
            exact ro_iret (pc := 48) hx hb hr hlk hQ (by rw [hpl, ref_G hi]; simp [refG, bI_n0.mp c_1, bI_0.mp c_16, c_17, bI_0.mp c_18, c_19]) d_C_refuses_48
      · refine lv_iconst (pc := 21) (v := 2) hx hb d_C_refuses_21 (by decide) ?_
        exact ro_iret (pc := 22) hx hb hr hlk hQ (by rw [hpl, ref_G hi]; simp [refG, bI_n0.mp c_1, bI_n0.mp c_16]) d_C_refuses_22
set_option maxHeartbeats 4000000 in
set_option maxRecDepth 100000 in
theorem c_C_due (l : Launch) (D : va_G) (cI cR : ClassId) (ad : Nat → Nat) (h ha hv : Nat) (f : Nat → Int32) (md : Int32) (tm al : Int64) (ln : Bool)  : RO l y_C_due b_C_due 4 (some .int) 3 62 D cI cR ad (wC cI cR ad h ha hv f md tm al ln) [.ref h] (.int (dueF f md tm al ln)) := by
  refine ro_ofW (by decide) (Nat.le_of_ble_eq_true rfl) ?_
  intro p e s m below meth c args Q ls hx hb hr hml hown hts hlk hP hX hE hl hQ
  have hown : s.vm.findClass cn_C = some m.cls := hown
  have hP : va_P D cls_ [(h, .inr (0, [.ref ha, .ref hv, .int md, .long tm, .long al, .int (bI ln)])), (ha, .inl (cR, 29, .inr (.inr (.inr (.inr (gA ad)))))), (hv, .inl (cI, 29, .inl f))] s.heap := hP
  have hl : lv_has ls 4 [(0, .ref h)] := hl
  refine lv_aload_n (pc := 0) hx hb d_C_due_0 rfl (lv_at hl 0 rfl) ?_
  refine en_gets (pc := 1) hx hb hE va_S.rf hown 24 (by decide) (hts _ kf_C_78) d_C_due_1 ?_
  refine ro_V (pc := 4) (As := [.ref (ad 24)]) (rest := []) hx hb hml hl.1 hown hts (c_C_raw l D cI cR ad h ha hv f md tm al ln 24 (by decide)) g_C_74 ⟨Nat.le_of_ble_eq_true rfl, Nat.le_of_ble_eq_true rfl⟩ (va_recv hX.1 hP (ci := 0) (q0 := 0) rfl rfl) (wc_P hP [0, 1, 2] rfl) hX hE rfl (Nat.le_of_ble_eq_true rfl) ⟨Nat.zero_le _, Nat.zero_le _⟩ d_C_due_4 ?_
  refine lv_aload_n (pc := 7) hx hb d_C_due_7 rfl (lv_at hl 0 rfl) ?_
  refine en_gets (pc := 8) hx hb hE va_S.rf hown 21 (by decide) (hts _ kf_C_84) d_C_due_8 ?_
  refine ro_V (pc := 11) (As := [.ref (ad 21)]) (rest := [.int (f 24)]) hx hb hml hl.1 hown hts (c_C_raw l D cI cR ad h ha hv f md tm al ln 21 (by decide)) g_C_74 ⟨Nat.le_of_ble_eq_true rfl, Nat.le_of_ble_eq_true rfl⟩ (va_recv hX.1 hP (ci := 0) (q0 := 0) rfl rfl) (wc_P hP [0, 1, 2] rfl) hX hE rfl (Nat.le_of_ble_eq_true rfl) ⟨Nat.zero_le _, Nat.zero_le _⟩ d_C_due_11 ?_
  refine lv_iand (pc := 14) hx hb d_C_due_14 ?_
  refine lv_istore_n (pc := 15) (lv' := [(1, .int ((f 24) &&& (f 21))), (0, .ref h)]) hx hb d_C_due_15 rfl hl (by decide) rfl (fun ls hl => ?_)
  refine lv_aload_n (pc := 16) hx hb d_C_due_16 rfl (lv_at hl 1 rfl) ?_
  refine va_get (pc := 17) (D := D) (ci := 0) (v := .int md) (C := cn_C) (T := fT_C) (N := 6) hx hb hts in_C hown hX.1 hP 0 rfl rfl 2 (by decide) (hts _ kf_C_25) (fun _ h9 => h9) rfl d_C_due_17 ?_
  refine lv_iconst (pc := 20) (v := 1) hx hb d_C_due_20 (by decide) ?_
  refine lv_icmp_ne (pc := 21) (tgt := 35) hx hb d_C_due_21 (by decide) (fun c_1 => ?_) (fun c_1 => ?_)
  · refine lv_aload_n (pc := 35) hx hb d_C_due_35 rfl (lv_at hl 1 rfl) ?_
    refine en_gets (pc := 36) hx hb hE va_S.rf hown 7 (by decide) (hts _ kf_C_101) d_C_due_36 ?_
    refine ro_V (pc := 39) (As := [.ref (ad 7)]) (rest := []) hx hb hml hl.1 hown hts (c_C_get l D cI cR ad h ha hv f md tm al ln 7 (by decide)) g_C_104 ⟨Nat.le_of_ble_eq_true rfl, Nat.le_of_ble_eq_true rfl⟩ (va_recv hX.1 hP (ci := 0) (q0 := 0) rfl rfl) (wc_P hP [0, 1, 2] rfl) hX hE rfl (Nat.le_of_ble_eq_true rfl) ⟨Nat.zero_le _, Nat.zero_le _⟩ d_C_due_39 ?_
    refine top_eq (y := tellsF f tm al ln 7) rfl ?_
    refine lv_aload_n (pc := 42) hx hb d_C_due_42 rfl (lv_at hl 1 rfl) ?_
    refine en_gets (pc := 43) hx hb hE va_S.rf hown 1 (by decide) (hts _ kf_C_107) d_C_due_43 ?_
    refine ro_V (pc := 46) (As := [.ref (ad 1)]) (rest := [.int (tellsF f tm al ln 7)]) hx hb hml hl.1 hown hts (c_C_raw l D cI cR ad h ha hv f md tm al ln 1 (by decide)) g_C_74 ⟨Nat.le_of_ble_eq_true rfl, Nat.le_of_ble_eq_true rfl⟩ (va_recv hX.1 hP (ci := 0) (q0 := 0) rfl rfl) (wc_P hP [0, 1, 2] rfl) hX hE rfl (Nat.le_of_ble_eq_true rfl) ⟨Nat.zero_le _, Nat.zero_le _⟩ d_C_due_46 ?_
    refine lv_iand (pc := 49) hx hb d_C_due_49 ?_
    refine lv_bipush (pc := 50) (v := 9) hx hb d_C_due_50 (by decide) ?_
    refine lv_iconst (pc := 52) (v := 1) hx hb d_C_due_52 (by decide) ?_
    refine lv_iconst (pc := 53) (v := 5) hx hb d_C_due_53 (by decide) ?_
    refine ro_S (pc := 54) (As := [.int ((tellsF f tm al ln 7) &&& (f 1)), .int 9, .int 1, .int 5]) (rest := []) (wc := []) hx hb hml hl.1 hown hts (c_C_first l D cI cR ad ((tellsF f tm al ln 7) &&& (f 1)) 9 1 5) g_C_110 ⟨Nat.le_of_ble_eq_true rfl, Nat.le_of_ble_eq_true rfl⟩ (wc_P hP [] rfl) hX hE rfl (Nat.le_of_ble_eq_true rfl) ⟨Nat.zero_le _, Nat.zero_le _⟩ d_C_due_54 ?_
    refine lv_istore_n (pc := 57) (lv' := [(2, .int (firF ((tellsF f tm al ln 7) &&& (f 1)) 9 1 5)), (1, .int ((f 24) &&& (f 21))), (0, .ref h)]) hx hb d_C_due_57 rfl hl (by decide) rfl (fun ls hl => ?_)
    refine lv_iload_n (pc := 58) hx hb d_C_due_58 rfl (lv_at hl 0 rfl) ?_
    refine lv_iconst (pc := 59) (v := (-1)) hx hb d_C_due_59 (by decide) ?_
    refine lv_icmp_eq (pc := 60) (tgt := 67) hx hb d_C_due_60 (by decide) (fun c_2 => ?_) (fun c_2 => ?_)
    · refine lv_iload_n (pc := 67) hx hb d_C_due_67 rfl (lv_at hl 1 rfl) ?_
      refine lv_aload_n (pc := 68) hx hb d_C_due_68 rfl (lv_at hl 2 rfl) ?_
      refine en_gets (pc := 69) hx hb hE va_S.rf hown 20 (by decide) (hts _ kf_C_81) d_C_due_69 ?_
      refine ro_V (pc := 72) (As := [.ref (ad 20)]) (rest := [.int ((f 24) &&& (f 21))]) hx hb hml hl.1 hown hts (c_C_raw l D cI cR ad h ha hv f md tm al ln 20 (by decide)) g_C_74 ⟨Nat.le_of_ble_eq_true rfl, Nat.le_of_ble_eq_true rfl⟩ (va_recv hX.1 hP (ci := 0) (q0 := 0) rfl rfl) (wc_P hP [0, 1, 2] rfl) hX hE rfl (Nat.le_of_ble_eq_true rfl) ⟨Nat.zero_le _, Nat.zero_le _⟩ d_C_due_72 ?_
      refine lv_iconst (pc := 75) (v := (-1)) hx hb d_C_due_75 (by decide) ?_
      refine lv_ixor (pc := 76) hx hb d_C_due_76 ?_
      refine lv_iand (pc := 77) hx hb d_C_due_77 ?_
      refine lv_bipush (pc := 78) (v := 10) hx hb d_C_due_78 (by decide) ?_
      refine lv_iconst (pc := 80) (v := 2) hx hb d_C_due_80 (by decide) ?_
      refine lv_bipush (pc := 81) (v := 6) hx hb d_C_due_81 (by decide) ?_
      refine ro_S (pc := 83) (As := [.int (((f 24) &&& (f 21)) &&& ((f 20) ^^^ (-1))), .int 10, .int 2, .int 6]) (rest := []) (wc := []) hx hb hml hl.1 hown hts (c_C_first l D cI cR ad (((f 24) &&& (f 21)) &&& ((f 20) ^^^ (-1))) 10 2 6) g_C_110 ⟨Nat.le_of_ble_eq_true rfl, Nat.le_of_ble_eq_true rfl⟩ (wc_P hP [] rfl) hX hE rfl (Nat.le_of_ble_eq_true rfl) ⟨Nat.zero_le _, Nat.zero_le _⟩ d_C_due_83 ?_
      refine lv_istore_n (pc := 86) (lv' := [(3, .int (firF (((f 24) &&& (f 21)) &&& ((f 20) ^^^ (-1))) 10 2 6)), (2, .int (firF ((tellsF f tm al ln 7) &&& (f 1)) 9 1 5)), (1, .int ((f 24) &&& (f 21))), (0, .ref h)]) hx hb d_C_due_86 rfl hl (by decide) rfl (fun ls hl => ?_)
      refine lv_iload_n (pc := 87) hx hb d_C_due_87 rfl (lv_at hl 0 rfl) ?_
      refine lv_iconst (pc := 88) (v := (-1)) hx hb d_C_due_88 (by decide) ?_
      refine lv_icmp_eq (pc := 89) (tgt := 94) hx hb d_C_due_89 (by decide) (fun c_3 => ?_) (fun c_3 => ?_)
      · refine lv_aload_n (pc := 94) hx hb d_C_due_94 rfl (lv_at hl 3 rfl) ?_
        refine va_get (pc := 95) (D := D) (ci := 0) (v := .int md) (C := cn_C) (T := fT_C) (N := 6) hx hb hts in_C hown hX.1 hP 0 rfl rfl 2 (by decide) (hts _ kf_C_25) (fun _ h9 => h9) rfl d_C_due_95 ?_
        refine lv_iconst (pc := 98) (v := 2) hx hb d_C_due_98 (by decide) ?_
        refine lv_icmp_eq (pc := 99) (tgt := 121) hx hb d_C_due_99 (by decide) (fun c_4 => ?_) (fun c_4 => ?_)
        · refine lv_iload_n (pc := 121) hx hb d_C_due_121 rfl (lv_at hl 2 rfl) ?_
          refine lv_aload_n (pc := 122) hx hb d_C_due_122 rfl (lv_at hl 3 rfl) ?_
          refine en_gets (pc := 123) hx hb hE va_S.rf hown 20 (by decide) (hts _ kf_C_81) d_C_due_123 ?_
          refine ro_V (pc := 126) (As := [.ref (ad 20)]) (rest := [.int ((f 24) &&& (f 21))]) hx hb hml hl.1 hown hts (c_C_raw l D cI cR ad h ha hv f md tm al ln 20 (by decide)) g_C_74 ⟨Nat.le_of_ble_eq_true rfl, Nat.le_of_ble_eq_true rfl⟩ (va_recv hX.1 hP (ci := 0) (q0 := 0) rfl rfl) (wc_P hP [0, 1, 2] rfl) hX hE rfl (Nat.le_of_ble_eq_true rfl) ⟨Nat.zero_le _, Nat.zero_le _⟩ d_C_due_126 ?_
          refine lv_iand (pc := 129) hx hb d_C_due_129 ?_
          refine lv_bipush (pc := 130) (v := 10) hx hb d_C_due_130 (by decide) ?_
          refine lv_iconst (pc := 132) (v := 2) hx hb d_C_due_132 (by decide) ?_
          refine lv_bipush (pc := 133) (v := 6) hx hb d_C_due_133 (by decide) ?_
          refine ro_S (pc := 135) (As := [.int (((f 24) &&& (f 21)) &&& (f 20)), .int 10, .int 2, .int 6]) (rest := []) (wc := []) hx hb hml hl.1 hown hts (c_C_first l D cI cR ad (((f 24) &&& (f 21)) &&& (f 20)) 10 2 6) g_C_110 ⟨Nat.le_of_ble_eq_true rfl, Nat.le_of_ble_eq_true rfl⟩ (wc_P hP [] rfl) hX hE rfl (Nat.le_of_ble_eq_true rfl) ⟨Nat.zero_le _, Nat.zero_le _⟩ d_C_due_135 ?_
          refine lv_istore_n (pc := 138) (lv' := [(2, .int (firF (((f 24) &&& (f 21)) &&& (f 20)) 10 2 6)), (3, .int (firF (((f 24) &&& (f 21)) &&& ((f 20) ^^^ (-1))) 10 2 6)), (1, .int ((f 24) &&& (f 21))), (0, .ref h)]) hx hb d_C_due_138 rfl hl (by decide) rfl (fun ls hl => ?_)
          refine lv_iload_n (pc := 139) hx hb d_C_due_139 rfl (lv_at hl 0 rfl) ?_
          refine lv_iconst (pc := 140) (v := (-1)) hx hb d_C_due_140 (by decide) ?_
          refine lv_icmp_ne (pc := 141) (tgt := 148) hx hb d_C_due_141 (by decide) (fun c_5 => ?_) (fun c_5 => ?_)
          · refine lv_bipush (pc := 148) (v := 100) hx hb d_C_due_148 (by decide) ?_
            refine lv_iload_n (pc := 150) hx hb d_C_due_150 rfl (lv_at hl 0 rfl) ?_
            refine lv_iadd (pc := 151) hx hb d_C_due_151 ?_
            refine lv_iconst (pc := 152) (v := 1) hx hb d_C_due_152 (by decide) ?_
            refine lv_isub (pc := 153) hx hb d_C_due_153 ?_
            exact ro_iret (pc := 154) hx hb hr hlk hQ (by simp [dueF, c_1, c_2, c_3, c_4, c_5, -Int32.xor_neg_one]) d_C_due_154
          · refine lv_iconst (pc := 144) (v := (-1)) hx hb d_C_due_144 (by decide) ?_
            refine lv_goto (pc := 145) (tgt := 154) hx hb d_C_due_145 (by decide) ?_
            exact ro_iret (pc := 154) hx hb hr hlk hQ (by simp [dueF, c_1, c_2, c_3, c_4, c_5, -Int32.xor_neg_one]) d_C_due_154
        · refine lv_aload_n (pc := 102) hx hb d_C_due_102 rfl (lv_at hl 3 rfl) ?_
          refine va_get (pc := 103) (D := D) (ci := 0) (v := .int md) (C := cn_C) (T := fT_C) (N := 6) hx hb hts in_C hown hX.1 hP 0 rfl rfl 2 (by decide) (hts _ kf_C_25) (fun _ h9 => h9) rfl d_C_due_103 ?_
          refine lv_iconst (pc := 106) (v := 3) hx hb d_C_due_106 (by decide) ?_
          refine lv_icmp_ne (pc := 107) (tgt := 155) hx hb d_C_due_107 (by decide) (fun c_6 => ?_) (fun c_6 => ?_)
          · refine lv_iconst (pc := 155) (v := (-1)) hx hb d_C_due_155 (by decide) ?_
            exact ro_iret (pc := 156) hx hb hr hlk hQ (by simp [dueF, c_1, c_2, c_3, c_4, c_6, -Int32.xor_neg_one]) d_C_due_156
          · refine lv_aload_n (pc := 110) hx hb d_C_due_110 rfl (lv_at hl 3 rfl) ?_
            refine en_gets (pc := 111) hx hb hE va_S.rf hown 9 (by decide) (hts _ kf_C_114) d_C_due_111 ?_
            refine lv_iconst (pc := 114) (v := 2) hx hb d_C_due_114 (by decide) ?_
            refine ro_V (pc := 115) (As := [.ref (ad 9), .int 2]) (rest := []) hx hb hml hl.1 hown hts (c_C_has l D cI cR ad h ha hv f md tm al ln 9 (by decide) 2) g_C_66 ⟨Nat.le_of_ble_eq_true rfl, Nat.le_of_ble_eq_true rfl⟩ (va_recv hX.1 hP (ci := 0) (q0 := 0) rfl rfl) (wc_P hP [0, 1, 2] rfl) hX hE rfl (Nat.le_of_ble_eq_true rfl) ⟨Nat.zero_le _, Nat.zero_le _⟩ d_C_due_115 ?_
            refine top_eq (y := bI (hasF (f 9) 1)) (hs1 _) ?_
            refine lv_if_eq (pc := 118) (tgt := 155) hx hb d_C_due_118 (by decide) (fun c_7 => ?_) (fun c_7 => ?_)
            · refine lv_iconst (pc := 155) (v := (-1)) hx hb d_C_due_155 (by decide) ?_
              exact ro_iret (pc := 156) hx hb hr hlk hQ (by simp [dueF, c_1, c_2, c_3, c_4, c_6, bI_0.mp c_7, -Int32.xor_neg_one]) d_C_due_156
            · refine lv_iload_n (pc := 121) hx hb d_C_due_121 rfl (lv_at hl 2 rfl) ?_
              refine lv_aload_n (pc := 122) hx hb d_C_due_122 rfl (lv_at hl 3 rfl) ?_
              refine en_gets (pc := 123) hx hb hE va_S.rf hown 20 (by decide) (hts _ kf_C_81) d_C_due_123 ?_
              refine ro_V (pc := 126) (As := [.ref (ad 20)]) (rest := [.int ((f 24) &&& (f 21))]) hx hb hml hl.1 hown hts (c_C_raw l D cI cR ad h ha hv f md tm al ln 20 (by decide)) g_C_74 ⟨Nat.le_of_ble_eq_true rfl, Nat.le_of_ble_eq_true rfl⟩ (va_recv hX.1 hP (ci := 0) (q0 := 0) rfl rfl) (wc_P hP [0, 1, 2] rfl) hX hE rfl (Nat.le_of_ble_eq_true rfl) ⟨Nat.zero_le _, Nat.zero_le _⟩ d_C_due_126 ?_
              refine lv_iand (pc := 129) hx hb d_C_due_129 ?_
              refine lv_bipush (pc := 130) (v := 10) hx hb d_C_due_130 (by decide) ?_
              refine lv_iconst (pc := 132) (v := 2) hx hb d_C_due_132 (by decide) ?_
              refine lv_bipush (pc := 133) (v := 6) hx hb d_C_due_133 (by decide) ?_
              refine ro_S (pc := 135) (As := [.int (((f 24) &&& (f 21)) &&& (f 20)), .int 10, .int 2, .int 6]) (rest := []) (wc := []) hx hb hml hl.1 hown hts (c_C_first l D cI cR ad (((f 24) &&& (f 21)) &&& (f 20)) 10 2 6) g_C_110 ⟨Nat.le_of_ble_eq_true rfl, Nat.le_of_ble_eq_true rfl⟩ (wc_P hP [] rfl) hX hE rfl (Nat.le_of_ble_eq_true rfl) ⟨Nat.zero_le _, Nat.zero_le _⟩ d_C_due_135 ?_
              refine lv_istore_n (pc := 138) (lv' := [(2, .int (firF (((f 24) &&& (f 21)) &&& (f 20)) 10 2 6)), (3, .int (firF (((f 24) &&& (f 21)) &&& ((f 20) ^^^ (-1))) 10 2 6)), (1, .int ((f 24) &&& (f 21))), (0, .ref h)]) hx hb d_C_due_138 rfl hl (by decide) rfl (fun ls hl => ?_)
              refine lv_iload_n (pc := 139) hx hb d_C_due_139 rfl (lv_at hl 0 rfl) ?_
              refine lv_iconst (pc := 140) (v := (-1)) hx hb d_C_due_140 (by decide) ?_
              refine lv_icmp_ne (pc := 141) (tgt := 148) hx hb d_C_due_141 (by decide) (fun c_8 => ?_) (fun c_8 => ?_)
              · refine lv_bipush (pc := 148) (v := 100) hx hb d_C_due_148 (by decide) ?_
                refine lv_iload_n (pc := 150) hx hb d_C_due_150 rfl (lv_at hl 0 rfl) ?_
                refine lv_iadd (pc := 151) hx hb d_C_due_151 ?_
                refine lv_iconst (pc := 152) (v := 1) hx hb d_C_due_152 (by decide) ?_
                refine lv_isub (pc := 153) hx hb d_C_due_153 ?_
                exact ro_iret (pc := 154) hx hb hr hlk hQ (by simp [dueF, c_1, c_2, c_3, c_4, c_6, bI_n0.mp c_7, c_8, -Int32.xor_neg_one]) d_C_due_154
              · refine lv_iconst (pc := 144) (v := (-1)) hx hb d_C_due_144 (by decide) ?_
                refine lv_goto (pc := 145) (tgt := 154) hx hb d_C_due_145 (by decide) ?_
                exact ro_iret (pc := 154) hx hb hr hlk hQ (by simp [dueF, c_1, c_2, c_3, c_4, c_6, bI_n0.mp c_7, c_8, -Int32.xor_neg_one]) d_C_due_154
      · refine lv_iload_n (pc := 92) hx hb d_C_due_92 rfl (lv_at hl 0 rfl) ?_
        exact ro_iret (pc := 93) hx hb hr hlk hQ (by simp [dueF, c_1, c_2, c_3, -Int32.xor_neg_one]) d_C_due_93
    · refine lv_iload_n (pc := 63) hx hb d_C_due_63 rfl (lv_at hl 0 rfl) ?_
      refine lv_goto (pc := 64) (tgt := 86) hx hb d_C_due_64 (by decide) ?_
      refine lv_istore_n (pc := 86) (lv' := [(3, .int (firF ((tellsF f tm al ln 7) &&& (f 1)) 9 1 5)), (2, .int (firF ((tellsF f tm al ln 7) &&& (f 1)) 9 1 5)), (1, .int ((f 24) &&& (f 21))), (0, .ref h)]) hx hb d_C_due_86 rfl hl (by decide) rfl (fun ls hl => ?_)
      refine lv_iload_n (pc := 87) hx hb d_C_due_87 rfl (lv_at hl 0 rfl) ?_
      refine lv_iconst (pc := 88) (v := (-1)) hx hb d_C_due_88 (by decide) ?_
      refine lv_icmp_eq (pc := 89) (tgt := 94) hx hb d_C_due_89 (by decide) (fun c_9 => absurd c_9 c_2) (fun c_9 => ?_)
      refine lv_iload_n (pc := 92) hx hb d_C_due_92 rfl (lv_at hl 0 rfl) ?_
      exact ro_iret (pc := 93) hx hb hr hlk hQ (by simp [dueF, c_1, c_2, c_9, -Int32.xor_neg_one]) d_C_due_93
  · refine lv_aload_n (pc := 24) hx hb d_C_due_24 rfl (lv_at hl 1 rfl) ?_
    refine en_gets (pc := 25) hx hb hE va_S.rf hown 0 (by decide) (hts _ kf_C_98) d_C_due_25 ?_
    refine lv_iconst (pc := 28) (v := 2) hx hb d_C_due_28 (by decide) ?_
    refine ro_V (pc := 29) (As := [.ref (ad 0), .int 2]) (rest := []) hx hb hml hl.1 hown hts (c_C_has l D cI cR ad h ha hv f md tm al ln 0 (by decide) 2) g_C_66 ⟨Nat.le_of_ble_eq_true rfl, Nat.le_of_ble_eq_true rfl⟩ (va_recv hX.1 hP (ci := 0) (q0 := 0) rfl rfl) (wc_P hP [0, 1, 2] rfl) hX hE rfl (Nat.le_of_ble_eq_true rfl) ⟨Nat.zero_le _, Nat.zero_le _⟩ d_C_due_29 ?_
    refine top_eq (y := bI (hasF (f 0) 1)) (hs1 _) ?_
    refine lv_if_eq (pc := 32) (tgt := 94) hx hb d_C_due_32 (by decide) (fun c_10 => ?_) (fun c_10 => ?_)
    · refine lv_aload_n (pc := 94) hx hb d_C_due_94 rfl (lv_at hl 1 rfl) ?_
      refine va_get (pc := 95) (D := D) (ci := 0) (v := .int md) (C := cn_C) (T := fT_C) (N := 6) hx hb hts in_C hown hX.1 hP 0 rfl rfl 2 (by decide) (hts _ kf_C_25) (fun _ h9 => h9) rfl d_C_due_95 ?_
      refine lv_iconst (pc := 98) (v := 2) hx hb d_C_due_98 (by decide) ?_
      refine lv_icmp_eq (pc := 99) (tgt := 121) hx hb d_C_due_99 (by decide) (fun c_11 => absurd (c_1.symm.trans c_11) (by decide)) (fun c_11 => ?_)
      refine lv_aload_n (pc := 102) hx hb d_C_due_102 rfl (lv_at hl 1 rfl) ?_
      refine va_get (pc := 103) (D := D) (ci := 0) (v := .int md) (C := cn_C) (T := fT_C) (N := 6) hx hb hts in_C hown hX.1 hP 0 rfl rfl 2 (by decide) (hts _ kf_C_25) (fun _ h9 => h9) rfl d_C_due_103 ?_
      refine lv_iconst (pc := 106) (v := 3) hx hb d_C_due_106 (by decide) ?_
      refine lv_icmp_ne (pc := 107) (tgt := 155) hx hb d_C_due_107 (by decide) (fun c_12 => ?_) (fun c_12 => absurd (c_1.symm.trans c_12) (by decide))
      refine lv_iconst (pc := 155) (v := (-1)) hx hb d_C_due_155 (by decide) ?_
      exact ro_iret (pc := 156) hx hb hr hlk hQ (by simp [dueF, c_1, bI_0.mp c_10, c_11, c_12, -Int32.xor_neg_one]) d_C_due_156
    · refine lv_aload_n (pc := 35) hx hb d_C_due_35 rfl (lv_at hl 1 rfl) ?_
      refine en_gets (pc := 36) hx hb hE va_S.rf hown 7 (by decide) (hts _ kf_C_101) d_C_due_36 ?_
      refine ro_V (pc := 39) (As := [.ref (ad 7)]) (rest := []) hx hb hml hl.1 hown hts (c_C_get l D cI cR ad h ha hv f md tm al ln 7 (by decide)) g_C_104 ⟨Nat.le_of_ble_eq_true rfl, Nat.le_of_ble_eq_true rfl⟩ (va_recv hX.1 hP (ci := 0) (q0 := 0) rfl rfl) (wc_P hP [0, 1, 2] rfl) hX hE rfl (Nat.le_of_ble_eq_true rfl) ⟨Nat.zero_le _, Nat.zero_le _⟩ d_C_due_39 ?_
      refine top_eq (y := tellsF f tm al ln 7) rfl ?_
      refine lv_aload_n (pc := 42) hx hb d_C_due_42 rfl (lv_at hl 1 rfl) ?_
      refine en_gets (pc := 43) hx hb hE va_S.rf hown 1 (by decide) (hts _ kf_C_107) d_C_due_43 ?_
      refine ro_V (pc := 46) (As := [.ref (ad 1)]) (rest := [.int (tellsF f tm al ln 7)]) hx hb hml hl.1 hown hts (c_C_raw l D cI cR ad h ha hv f md tm al ln 1 (by decide)) g_C_74 ⟨Nat.le_of_ble_eq_true rfl, Nat.le_of_ble_eq_true rfl⟩ (va_recv hX.1 hP (ci := 0) (q0 := 0) rfl rfl) (wc_P hP [0, 1, 2] rfl) hX hE rfl (Nat.le_of_ble_eq_true rfl) ⟨Nat.zero_le _, Nat.zero_le _⟩ d_C_due_46 ?_
      refine lv_iand (pc := 49) hx hb d_C_due_49 ?_
      refine lv_bipush (pc := 50) (v := 9) hx hb d_C_due_50 (by decide) ?_
      refine lv_iconst (pc := 52) (v := 1) hx hb d_C_due_52 (by decide) ?_
      refine lv_iconst (pc := 53) (v := 5) hx hb d_C_due_53 (by decide) ?_
      refine ro_S (pc := 54) (As := [.int ((tellsF f tm al ln 7) &&& (f 1)), .int 9, .int 1, .int 5]) (rest := []) (wc := []) hx hb hml hl.1 hown hts (c_C_first l D cI cR ad ((tellsF f tm al ln 7) &&& (f 1)) 9 1 5) g_C_110 ⟨Nat.le_of_ble_eq_true rfl, Nat.le_of_ble_eq_true rfl⟩ (wc_P hP [] rfl) hX hE rfl (Nat.le_of_ble_eq_true rfl) ⟨Nat.zero_le _, Nat.zero_le _⟩ d_C_due_54 ?_
      refine lv_istore_n (pc := 57) (lv' := [(2, .int (firF ((tellsF f tm al ln 7) &&& (f 1)) 9 1 5)), (1, .int ((f 24) &&& (f 21))), (0, .ref h)]) hx hb d_C_due_57 rfl hl (by decide) rfl (fun ls hl => ?_)
      refine lv_iload_n (pc := 58) hx hb d_C_due_58 rfl (lv_at hl 0 rfl) ?_
      refine lv_iconst (pc := 59) (v := (-1)) hx hb d_C_due_59 (by decide) ?_
      refine lv_icmp_eq (pc := 60) (tgt := 67) hx hb d_C_due_60 (by decide) (fun c_13 => ?_) (fun c_13 => ?_)
      · refine lv_iload_n (pc := 67) hx hb d_C_due_67 rfl (lv_at hl 1 rfl) ?_
        refine lv_aload_n (pc := 68) hx hb d_C_due_68 rfl (lv_at hl 2 rfl) ?_
        refine en_gets (pc := 69) hx hb hE va_S.rf hown 20 (by decide) (hts _ kf_C_81) d_C_due_69 ?_
        refine ro_V (pc := 72) (As := [.ref (ad 20)]) (rest := [.int ((f 24) &&& (f 21))]) hx hb hml hl.1 hown hts (c_C_raw l D cI cR ad h ha hv f md tm al ln 20 (by decide)) g_C_74 ⟨Nat.le_of_ble_eq_true rfl, Nat.le_of_ble_eq_true rfl⟩ (va_recv hX.1 hP (ci := 0) (q0 := 0) rfl rfl) (wc_P hP [0, 1, 2] rfl) hX hE rfl (Nat.le_of_ble_eq_true rfl) ⟨Nat.zero_le _, Nat.zero_le _⟩ d_C_due_72 ?_
        refine lv_iconst (pc := 75) (v := (-1)) hx hb d_C_due_75 (by decide) ?_
        refine lv_ixor (pc := 76) hx hb d_C_due_76 ?_
        refine lv_iand (pc := 77) hx hb d_C_due_77 ?_
        refine lv_bipush (pc := 78) (v := 10) hx hb d_C_due_78 (by decide) ?_
        refine lv_iconst (pc := 80) (v := 2) hx hb d_C_due_80 (by decide) ?_
        refine lv_bipush (pc := 81) (v := 6) hx hb d_C_due_81 (by decide) ?_
        refine ro_S (pc := 83) (As := [.int (((f 24) &&& (f 21)) &&& ((f 20) ^^^ (-1))), .int 10, .int 2, .int 6]) (rest := []) (wc := []) hx hb hml hl.1 hown hts (c_C_first l D cI cR ad (((f 24) &&& (f 21)) &&& ((f 20) ^^^ (-1))) 10 2 6) g_C_110 ⟨Nat.le_of_ble_eq_true rfl, Nat.le_of_ble_eq_true rfl⟩ (wc_P hP [] rfl) hX hE rfl (Nat.le_of_ble_eq_true rfl) ⟨Nat.zero_le _, Nat.zero_le _⟩ d_C_due_83 ?_
        refine lv_istore_n (pc := 86) (lv' := [(3, .int (firF (((f 24) &&& (f 21)) &&& ((f 20) ^^^ (-1))) 10 2 6)), (2, .int (firF ((tellsF f tm al ln 7) &&& (f 1)) 9 1 5)), (1, .int ((f 24) &&& (f 21))), (0, .ref h)]) hx hb d_C_due_86 rfl hl (by decide) rfl (fun ls hl => ?_)
        refine lv_iload_n (pc := 87) hx hb d_C_due_87 rfl (lv_at hl 0 rfl) ?_
        refine lv_iconst (pc := 88) (v := (-1)) hx hb d_C_due_88 (by decide) ?_
        refine lv_icmp_eq (pc := 89) (tgt := 94) hx hb d_C_due_89 (by decide) (fun c_14 => ?_) (fun c_14 => ?_)
        · refine lv_aload_n (pc := 94) hx hb d_C_due_94 rfl (lv_at hl 3 rfl) ?_
          refine va_get (pc := 95) (D := D) (ci := 0) (v := .int md) (C := cn_C) (T := fT_C) (N := 6) hx hb hts in_C hown hX.1 hP 0 rfl rfl 2 (by decide) (hts _ kf_C_25) (fun _ h9 => h9) rfl d_C_due_95 ?_
          refine lv_iconst (pc := 98) (v := 2) hx hb d_C_due_98 (by decide) ?_
          refine lv_icmp_eq (pc := 99) (tgt := 121) hx hb d_C_due_99 (by decide) (fun c_15 => absurd (c_1.symm.trans c_15) (by decide)) (fun c_15 => ?_)
          refine lv_aload_n (pc := 102) hx hb d_C_due_102 rfl (lv_at hl 3 rfl) ?_
          refine va_get (pc := 103) (D := D) (ci := 0) (v := .int md) (C := cn_C) (T := fT_C) (N := 6) hx hb hts in_C hown hX.1 hP 0 rfl rfl 2 (by decide) (hts _ kf_C_25) (fun _ h9 => h9) rfl d_C_due_103 ?_
          refine lv_iconst (pc := 106) (v := 3) hx hb d_C_due_106 (by decide) ?_
          refine lv_icmp_ne (pc := 107) (tgt := 155) hx hb d_C_due_107 (by decide) (fun c_16 => ?_) (fun c_16 => absurd (c_1.symm.trans c_16) (by decide))
          refine lv_iconst (pc := 155) (v := (-1)) hx hb d_C_due_155 (by decide) ?_
          exact ro_iret (pc := 156) hx hb hr hlk hQ (by simp [dueF, c_1, bI_n0.mp c_10, c_13, c_14, c_15, c_16, -Int32.xor_neg_one]) d_C_due_156
        · refine lv_iload_n (pc := 92) hx hb d_C_due_92 rfl (lv_at hl 0 rfl) ?_
          exact ro_iret (pc := 93) hx hb hr hlk hQ (by simp [dueF, c_1, bI_n0.mp c_10, c_13, c_14, -Int32.xor_neg_one]) d_C_due_93
      · refine lv_iload_n (pc := 63) hx hb d_C_due_63 rfl (lv_at hl 0 rfl) ?_
        refine lv_goto (pc := 64) (tgt := 86) hx hb d_C_due_64 (by decide) ?_
        refine lv_istore_n (pc := 86) (lv' := [(3, .int (firF ((tellsF f tm al ln 7) &&& (f 1)) 9 1 5)), (2, .int (firF ((tellsF f tm al ln 7) &&& (f 1)) 9 1 5)), (1, .int ((f 24) &&& (f 21))), (0, .ref h)]) hx hb d_C_due_86 rfl hl (by decide) rfl (fun ls hl => ?_)
        refine lv_iload_n (pc := 87) hx hb d_C_due_87 rfl (lv_at hl 0 rfl) ?_
        refine lv_iconst (pc := 88) (v := (-1)) hx hb d_C_due_88 (by decide) ?_
        refine lv_icmp_eq (pc := 89) (tgt := 94) hx hb d_C_due_89 (by decide) (fun c_17 => absurd c_17 c_13) (fun c_17 => ?_)
        refine lv_iload_n (pc := 92) hx hb d_C_due_92 rfl (lv_at hl 0 rfl) ?_
        exact ro_iret (pc := 93) hx hb hr hlk hQ (by simp [dueF, c_1, bI_n0.mp c_10, c_13, c_17, -Int32.xor_neg_one]) d_C_due_93
end
section
-- CONTRACTS: the registers' methods that write
set_option maxHeartbeats 4000000 in
set_option maxRecDepth 100000 in
theorem c_C_put (l : Launch) (D : va_G) (cI cR : ClassId) (ad : Nat → Nat) (h ha hv : Nat) (f : Nat → Int32) (md : Int32) (tm al : Int64) (ln : Bool) (i : Nat) (hi : i < 29) (v : Int32) : MU l y_C_put b_C_put 3 none 1 20 D cI cR ad (wC cI cR ad h ha hv f md tm al ln) [.ref h, .ref (ad i), .int v] none (wC cI cR ad h ha hv (upd f i v) md tm al ln) := by
  refine mu_ofW (by decide) (Nat.le_of_ble_eq_true rfl) ?_
  intro p e s m below meth c args Q ls hx hb hr hml hown hts hlk hP hX hE hl hQ hD hS
  have hown : s.vm.findClass cn_C = some m.cls := hown
  have hP : va_P D cls_ [(h, .inr (0, [.ref ha, .ref hv, .int md, .long tm, .long al, .int (bI ln)])), (ha, .inl (cR, 29, .inr (.inr (.inr (.inr (gA ad)))))), (hv, .inl (cI, 29, .inl f))] s.heap := hP
  have hD : va_D _ [(h, .inr (0, [.ref ha, .ref hv, .int md, .long tm, .long al, .int (bI ln)])), (ha, .inl (cR, 29, .inr (.inr (.inr (.inr (gA ad)))))), (hv, .inl (cI, 29, .inl f))] := hD
  have hl : lv_has ls 3 [(0, .ref h), (1, .ref (ad i)), (2, .int v)] := hl
  refine lv_aload_n (pc := 0) hx hb d_C_put_0 rfl (lv_at hl 0 rfl) ?_
  refine va_get (pc := 1) (D := D) (ci := 0) (v := .ref hv) (C := cn_C) (T := fT_C) (N := 6) hx hb hts in_C hown hX.1 hP 0 rfl rfl 1 (by decide) (hts _ kf_C_19) (fun _ h9 => h9) rfl d_C_put_1 ?_
  refine lv_aload_n (pc := 4) hx hb d_C_put_4 rfl (lv_at hl 1 rfl) ?_
  refine ro_ord (pc := 5) hx hb hml hl.1 hown hts (hE.ro hS) hX hi ⟨Nat.le_of_ble_eq_true rfl, Nat.le_of_ble_eq_true rfl⟩ (Nat.le_of_ble_eq_true rfl) ⟨Nat.zero_le _, Nat.zero_le _⟩ d_C_put_5 ?_
  refine lv_iload_n (pc := 8) hx hb d_C_put_8 rfl (lv_at hl 2 rfl) ?_
  refine wr_i (pc := 9) hx hb hX hP hD hS 2 rfl i (nI_clamp (by omega)) (vp_in_nI hi (by decide)) d_C_put_9 (fun H locs hP hD hS => ?_)
  have hP : va_P D cls_ [(h, .inr (0, [.ref ha, .ref hv, .int md, .long tm, .long al, .int (bI ln)])), (ha, .inl (cR, 29, .inr (.inr (.inr (.inr (gA ad)))))), (hv, .inl (cI, 29, .inl (upd f i v)))] H := hP
  have hD : va_D _ [(h, .inr (0, [.ref ha, .ref hv, .int md, .long tm, .long al, .int (bI ln)])), (ha, .inl (cR, 29, .inr (.inr (.inr (.inr (gA ad)))))), (hv, .inl (cI, 29, .inl (upd f i v)))] := hD
  exact mu_vret (pc := 10) hx hb hr hlk hQ hP hS d_C_put_10
set_option maxHeartbeats 4000000 in
set_option maxRecDepth 100000 in
theorem c_C_mix (l : Launch) (D : va_G) (cI cR : ClassId) (ad : Nat → Nat) (h ha hv : Nat) (f : Nat → Int32) (md : Int32) (tm al : Int64) (ln : Bool) (i : Nat) (hi : i < 29) (v b : Int32) : MU l y_C_mix b_C_mix 4 none 2 42 D cI cR ad (wC cI cR ad h ha hv f md tm al ln) [.ref h, .ref (ad i), .int v, .int b] none (wC cI cR ad h ha hv (putF f i b v) md tm al ln) := by
  refine mu_ofW (by decide) (Nat.le_of_ble_eq_true rfl) ?_
  intro p e s m below meth c args Q ls hx hb hr hml hown hts hlk hP hX hE hl hQ hD hS
  have hown : s.vm.findClass cn_C = some m.cls := hown
  have hP : va_P D cls_ [(h, .inr (0, [.ref ha, .ref hv, .int md, .long tm, .long al, .int (bI ln)])), (ha, .inl (cR, 29, .inr (.inr (.inr (.inr (gA ad)))))), (hv, .inl (cI, 29, .inl f))] s.heap := hP
  have hD : va_D _ [(h, .inr (0, [.ref ha, .ref hv, .int md, .long tm, .long al, .int (bI ln)])), (ha, .inl (cR, 29, .inr (.inr (.inr (.inr (gA ad)))))), (hv, .inl (cI, 29, .inl f))] := hD
  have hl : lv_has ls 4 [(0, .ref h), (1, .ref (ad i)), (2, .int v), (3, .int b)] := hl
  refine lv_aload_n (pc := 0) hx hb d_C_mix_0 rfl (lv_at hl 0 rfl) ?_
  refine lv_aload_n (pc := 1) hx hb d_C_mix_1 rfl (lv_at hl 1 rfl) ?_
  refine lv_aload_n (pc := 2) hx hb d_C_mix_2 rfl (lv_at hl 0 rfl) ?_
  refine lv_aload_n (pc := 3) hx hb d_C_mix_3 rfl (lv_at hl 1 rfl) ?_
  refine ro_V (pc := 4) (As := [.ref (ad i)]) (rest := [.ref (ad i), .ref h]) hx hb hml hl.1 hown hts (c_C_raw l D cI cR ad h ha hv f md tm al ln i hi) g_C_74 ⟨Nat.le_of_ble_eq_true rfl, Nat.le_of_ble_eq_true rfl⟩ (va_recv hX.1 hP (ci := 0) (q0 := 0) rfl rfl) (wc_P hP [0, 1, 2] rfl) hX (hE.ro hS) rfl (Nat.le_of_ble_eq_true rfl) ⟨Nat.zero_le _, Nat.zero_le _⟩ d_C_mix_4 ?_
  refine lv_iload_n (pc := 7) hx hb d_C_mix_7 rfl (lv_at hl 3 rfl) ?_
  refine lv_iconst (pc := 8) (v := (-1)) hx hb d_C_mix_8 (by decide) ?_
  refine lv_ixor (pc := 9) hx hb d_C_mix_9 ?_
  refine lv_iand (pc := 10) hx hb d_C_mix_10 ?_
  refine lv_iload_n (pc := 11) hx hb d_C_mix_11 rfl (lv_at hl 2 rfl) ?_
  refine lv_iload_n (pc := 12) hx hb d_C_mix_12 rfl (lv_at hl 3 rfl) ?_
  refine lv_iand (pc := 13) hx hb d_C_mix_13 ?_
  refine lv_ior (pc := 14) hx hb d_C_mix_14 ?_
  refine mu_V (pc := 15) (As := [.ref (ad i), .int (((f i) &&& (b ^^^ (-1))) ||| (v &&& b))]) (rest := []) hx hb hml hl.1 hown hts (c_C_put l D cI cR ad h ha hv f md tm al ln i hi (((f i) &&& (b ^^^ (-1))) ||| (v &&& b))) g_C_87 ⟨Nat.le_of_ble_eq_true rfl, Nat.le_of_ble_eq_true rfl⟩ (va_recv hX.1 hP (ci := 0) (q0 := 0) rfl rfl) hP hD hS hX hE [0, 1, 2] (by decide) rfl rfl rfl (Nat.le_of_ble_eq_true rfl) ⟨Nat.zero_le _, Nat.zero_le _⟩ d_C_mix_15 (fun H locs hP hD hS => ?_)
  have hP : va_P D cls_ [(h, .inr (0, [.ref ha, .ref hv, .int md, .long tm, .long al, .int (bI ln)])), (ha, .inl (cR, 29, .inr (.inr (.inr (.inr (gA ad)))))), (hv, .inl (cI, 29, .inl (upd f i (((f i) &&& (b ^^^ (-1))) ||| (v &&& b)))))] H := hP
  have hD : va_D _ [(h, .inr (0, [.ref ha, .ref hv, .int md, .long tm, .long al, .int (bI ln)])), (ha, .inl (cR, 29, .inr (.inr (.inr (.inr (gA ad)))))), (hv, .inl (cI, 29, .inl (upd f i (((f i) &&& (b ^^^ (-1))) ||| (v &&& b)))))] := hD
  refine W.eq (g2 := F0 m 18 ls []) rfl ?_
  exact mu_vret (pc := 18) hx hb hr hlk hQ hP hS d_C_mix_18
set_option maxHeartbeats 4000000 in
set_option maxRecDepth 100000 in
theorem c_C_set (l : Launch) (D : va_G) (cI cR : ClassId) (ad : Nat → Nat) (h ha hv : Nat) (f : Nat → Int32) (md : Int32) (tm al : Int64) (ln : Bool) (i : Nat) (hi7 : i < 27) (v : Int32) (hok : okF f) : MU l y_C_set b_C_set 3 none 3 65 D cI cR ad (wC cI cR ad h ha hv f md tm al ln) [.ref h, .ref (ad i), .int v] none (wC cI cR ad h ha hv (writeF f (nI i) v) md tm al ln) := by
  refine mu_ofW (by decide) (Nat.le_of_ble_eq_true rfl) ?_
  intro p e s m below meth c args Q ls hx hb hr hml hown hts hlk hP hX hE hl hQ hD hS
  have hown : s.vm.findClass cn_C = some m.cls := hown
  have hP : va_P D cls_ [(h, .inr (0, [.ref ha, .ref hv, .int md, .long tm, .long al, .int (bI ln)])), (ha, .inl (cR, 29, .inr (.inr (.inr (.inr (gA ad)))))), (hv, .inl (cI, 29, .inl f))] s.heap := hP
  have hD : va_D _ [(h, .inr (0, [.ref ha, .ref hv, .int md, .long tm, .long al, .int (bI ln)])), (ha, .inl (cR, 29, .inr (.inr (.inr (.inr (gA ad)))))), (hv, .inl (cI, 29, .inl f))] := hD
  have hl : lv_has ls 3 [(0, .ref h), (1, .ref (ad i)), (2, .int v)] := hl
  have hi : i < 29 := by omega
  have hok9 : f 20 &&& 1092 = f 20 := hok
  refine lv_aload_n (pc := 0) hx hb d_C_set_0 rfl (lv_at hl 1 rfl) ?_
  refine ro_ord (pc := 1) hx hb hml hl.1 hown hts (hE.ro hS) hX hi ⟨Nat.le_of_ble_eq_true rfl, Nat.le_of_ble_eq_true rfl⟩ (Nat.le_of_ble_eq_true rfl) ⟨Nat.zero_le _, Nat.zero_le _⟩ d_C_set_1 ?_
  by_cases c_1 : nI i = 10
  · refine lv_lookup (pc := 4) (off := 70) (tgt := 74) hx hb d_C_set_4 (by decide) (by rw [c_1]; rfl) (by decide) ?_
    refine lv_aload_n (pc := 74) hx hb d_C_set_74 rfl (lv_at hl 0 rfl) ?_
    refine en_gets (pc := 75) hx hb hE hS hown 21 (by decide) (hts _ kf_C_84) d_C_set_75 ?_
    refine lv_iload_n (pc := 78) hx hb d_C_set_78 rfl (lv_at hl 2 rfl) ?_
    refine lv_iconst (pc := 79) (v := 1) hx hb d_C_set_79 (by decide) ?_
    refine lv_ishl (pc := 80) hx hb d_C_set_80 ?_
    refine lv_aload_n (pc := 81) hx hb d_C_set_81 rfl (lv_at hl 0 rfl) ?_
    refine en_gets (pc := 82) hx hb hE hS hown 20 (by decide) (hts _ kf_C_81) d_C_set_82 ?_
    refine ro_V (pc := 85) (As := [.ref (ad 20)]) (rest := [.int (v <<< ((1 : Int32) &&& 31)), .ref (ad 21), .ref h]) hx hb hml hl.1 hown hts (c_C_raw l D cI cR ad h ha hv f md tm al ln 20 (by decide)) g_C_74 ⟨Nat.le_of_ble_eq_true rfl, Nat.le_of_ble_eq_true rfl⟩ (va_recv hX.1 hP (ci := 0) (q0 := 0) rfl rfl) (wc_P hP [0, 1, 2] rfl) hX (hE.ro hS) rfl (Nat.le_of_ble_eq_true rfl) ⟨Nat.zero_le _, Nat.zero_le _⟩ d_C_set_85 ?_
    refine mu_V (pc := 88) (As := [.ref (ad 21), .int (v <<< ((1 : Int32) &&& 31)), .int (f 20)]) (rest := []) hx hb hml hl.1 hown hts (c_C_mix l D cI cR ad h ha hv f md tm al ln 21 (by decide) (v <<< ((1 : Int32) &&& 31)) (f 20)) g_C_91 ⟨Nat.le_of_ble_eq_true rfl, Nat.le_of_ble_eq_true rfl⟩ (va_recv hX.1 hP (ci := 0) (q0 := 0) rfl rfl) hP hD hS hX hE [0, 1, 2] (by decide) rfl rfl rfl (Nat.le_of_ble_eq_true rfl) ⟨Nat.zero_le _, Nat.zero_le _⟩ d_C_set_88 (fun H locs hP hD hS => ?_)
    have hP : va_P D cls_ [(h, .inr (0, [.ref ha, .ref hv, .int md, .long tm, .long al, .int (bI ln)])), (ha, .inl (cR, 29, .inr (.inr (.inr (.inr (gA ad)))))), (hv, .inl (cI, 29, .inl (putF f 21 (f 20) (v <<< ((1 : Int32) &&& 31)))))] H := hP
    have hD : va_D _ [(h, .inr (0, [.ref ha, .ref hv, .int md, .long tm, .long al, .int (bI ln)])), (ha, .inl (cR, 29, .inr (.inr (.inr (.inr (gA ad)))))), (hv, .inl (cI, 29, .inl (putF f 21 (f 20) (v <<< ((1 : Int32) &&& 31)))))] := hD
    refine W.eq (g2 := F0 m 91 ls []) rfl ?_
    refine lv_goto (pc := 91) (tgt := 105) hx hb d_C_set_91 (by decide) ?_
    exact mu_vret (pc := 105) hx hb hr hlk hQ (by simpa only [writeF, if_pos c_1, hok9] using hP) hS d_C_set_105
  by_cases c_2 : nI i = 16
  · refine lv_lookup (pc := 4) (off := 48) (tgt := 52) hx hb d_C_set_4 (by decide) (by rw [c_2]; rfl) (by decide) ?_
    refine lv_aload_n (pc := 52) hx hb d_C_set_52 rfl (lv_at hl 0 rfl) ?_
    refine en_gets (pc := 53) hx hb hE hS hown 24 (by decide) (hts _ kf_C_78) d_C_set_53 ?_
    refine lv_iload_n (pc := 56) hx hb d_C_set_56 rfl (lv_at hl 2 rfl) ?_
    refine lv_iconst (pc := 57) (v := 1) hx hb d_C_set_57 (by decide) ?_
    refine lv_ishl (pc := 58) hx hb d_C_set_58 ?_
    refine lv_iconst (pc := 59) (v := 4) hx hb d_C_set_59 (by decide) ?_
    refine lv_aload_n (pc := 60) hx hb d_C_set_60 rfl (lv_at hl 0 rfl) ?_
    refine en_gets (pc := 61) hx hb hE hS hown 20 (by decide) (hts _ kf_C_81) d_C_set_61 ?_
    refine ro_V (pc := 64) (As := [.ref (ad 20)]) (rest := [.int 4, .int (v <<< ((1 : Int32) &&& 31)), .ref (ad 24), .ref h]) hx hb hml hl.1 hown hts (c_C_raw l D cI cR ad h ha hv f md tm al ln 20 (by decide)) g_C_74 ⟨Nat.le_of_ble_eq_true rfl, Nat.le_of_ble_eq_true rfl⟩ (va_recv hX.1 hP (ci := 0) (q0 := 0) rfl rfl) (wc_P hP [0, 1, 2] rfl) hX (hE.ro hS) rfl (Nat.le_of_ble_eq_true rfl) ⟨Nat.zero_le _, Nat.zero_le _⟩ d_C_set_64 ?_
    refine lv_iand (pc := 67) hx hb d_C_set_67 ?_
    refine mu_V (pc := 68) (As := [.ref (ad 24), .int (v <<< ((1 : Int32) &&& 31)), .int (4 &&& (f 20))]) (rest := []) hx hb hml hl.1 hown hts (c_C_mix l D cI cR ad h ha hv f md tm al ln 24 (by decide) (v <<< ((1 : Int32) &&& 31)) (4 &&& (f 20))) g_C_91 ⟨Nat.le_of_ble_eq_true rfl, Nat.le_of_ble_eq_true rfl⟩ (va_recv hX.1 hP (ci := 0) (q0 := 0) rfl rfl) hP hD hS hX hE [0, 1, 2] (by decide) rfl rfl rfl (Nat.le_of_ble_eq_true rfl) ⟨Nat.zero_le _, Nat.zero_le _⟩ d_C_set_68 (fun H locs hP hD hS => ?_)
    have hP : va_P D cls_ [(h, .inr (0, [.ref ha, .ref hv, .int md, .long tm, .long al, .int (bI ln)])), (ha, .inl (cR, 29, .inr (.inr (.inr (.inr (gA ad)))))), (hv, .inl (cI, 29, .inl (putF f 24 (4 &&& (f 20)) (v <<< ((1 : Int32) &&& 31)))))] H := hP
    have hD : va_D _ [(h, .inr (0, [.ref ha, .ref hv, .int md, .long tm, .long al, .int (bI ln)])), (ha, .inl (cR, 29, .inr (.inr (.inr (.inr (gA ad)))))), (hv, .inl (cI, 29, .inl (putF f 24 (4 &&& (f 20)) (v <<< ((1 : Int32) &&& 31)))))] := hD
    refine W.eq (g2 := F0 m 71 ls []) rfl ?_
    refine lv_goto (pc := 71) (tgt := 105) hx hb d_C_set_71 (by decide) ?_
    exact mu_vret (pc := 105) hx hb hr hlk hQ (by simpa only [writeF, if_neg c_1, if_pos c_2, and_cm (f 20) 4] using hP) hS d_C_set_105
  by_cases c_3 : nI i = 23
  · refine lv_lookup (pc := 4) (off := 36) (tgt := 40) hx hb d_C_set_4 (by decide) (by rw [c_3]; rfl) (by decide) ?_
    refine lv_aload_n (pc := 40) hx hb d_C_set_40 rfl (lv_at hl 0 rfl) ?_
    refine en_gets (pc := 41) hx hb hE hS hown 24 (by decide) (hts _ kf_C_78) d_C_set_41 ?_
    refine lv_iload_n (pc := 44) hx hb d_C_set_44 rfl (lv_at hl 2 rfl) ?_
    refine lv_iconst (pc := 45) (v := 4) hx hb d_C_set_45 (by decide) ?_
    refine mu_V (pc := 46) (As := [.ref (ad 24), .int v, .int 4]) (rest := []) hx hb hml hl.1 hown hts (c_C_mix l D cI cR ad h ha hv f md tm al ln 24 (by decide) v 4) g_C_91 ⟨Nat.le_of_ble_eq_true rfl, Nat.le_of_ble_eq_true rfl⟩ (va_recv hX.1 hP (ci := 0) (q0 := 0) rfl rfl) hP hD hS hX hE [0, 1, 2] (by decide) rfl rfl rfl (Nat.le_of_ble_eq_true rfl) ⟨Nat.zero_le _, Nat.zero_le _⟩ d_C_set_46 (fun H locs hP hD hS => ?_)
    have hP : va_P D cls_ [(h, .inr (0, [.ref ha, .ref hv, .int md, .long tm, .long al, .int (bI ln)])), (ha, .inl (cR, 29, .inr (.inr (.inr (.inr (gA ad)))))), (hv, .inl (cI, 29, .inl (putF f 24 4 v)))] H := hP
    have hD : va_D _ [(h, .inr (0, [.ref ha, .ref hv, .int md, .long tm, .long al, .int (bI ln)])), (ha, .inl (cR, 29, .inr (.inr (.inr (.inr (gA ad)))))), (hv, .inl (cI, 29, .inl (putF f 24 4 v)))] := hD
    refine W.eq (g2 := F0 m 49 ls []) rfl ?_
    refine lv_goto (pc := 49) (tgt := 105) hx hb d_C_set_49 (by decide) ?_
    exact mu_vret (pc := 105) hx hb hr hlk hQ (by simpa only [writeF, if_neg c_1, if_neg c_2, if_pos c_3] using hP) hS d_C_set_105
  refine lv_lookup (pc := 4) (off := 90) (tgt := 94) hx hb d_C_set_4 (by decide) (show Op.lookupswitch.offset [(10, 70), (16, 48), (23, 36)] 90 (Int32.toInt (nI i)) = 90 by rw [lv_osw c_1 (by decide), lv_osw c_2 (by decide), lv_osw c_3 (by decide)]; rfl) (by decide) ?_
  refine lv_aload_n (pc := 94) hx hb d_C_set_94 rfl (lv_at hl 0 rfl) ?_
  refine lv_aload_n (pc := 95) hx hb d_C_set_95 rfl (lv_at hl 1 rfl) ?_
  refine lv_iload_n (pc := 96) hx hb d_C_set_96 rfl (lv_at hl 2 rfl) ?_
  refine lv_aload_n (pc := 97) hx hb d_C_set_97 rfl (lv_at hl 1 rfl) ?_
  refine en_getN (pc := 98) hx hb hE hi hS hown 2 rfl (hX.nw 6 rfl rfl) d_C_set_98 ?_
  refine lv_iand (pc := 101) hx hb d_C_set_101 ?_
  refine mu_V (pc := 102) (As := [.ref (ad i), .int (v &&& (en_keep.getD i 0))]) (rest := []) hx hb hml hl.1 hown hts (c_C_put l D cI cR ad h ha hv f md tm al ln i hi (v &&& (en_keep.getD i 0))) g_C_87 ⟨Nat.le_of_ble_eq_true rfl, Nat.le_of_ble_eq_true rfl⟩ (va_recv hX.1 hP (ci := 0) (q0 := 0) rfl rfl) hP hD hS hX hE [0, 1, 2] (by decide) rfl rfl rfl (Nat.le_of_ble_eq_true rfl) ⟨Nat.zero_le _, Nat.zero_le _⟩ d_C_set_102 (fun H locs hP hD hS => ?_)
  have hP : va_P D cls_ [(h, .inr (0, [.ref ha, .ref hv, .int md, .long tm, .long al, .int (bI ln)])), (ha, .inl (cR, 29, .inr (.inr (.inr (.inr (gA ad)))))), (hv, .inl (cI, 29, .inl (upd f i (v &&& (en_keep.getD i 0)))))] H := hP
  have hD : va_D _ [(h, .inr (0, [.ref ha, .ref hv, .int md, .long tm, .long al, .int (bI ln)])), (ha, .inl (cR, 29, .inr (.inr (.inr (.inr (gA ad)))))), (hv, .inl (cI, 29, .inl (upd f i (v &&& (en_keep.getD i 0)))))] := hD
  refine W.eq (g2 := F0 m 105 ls []) rfl ?_
  have e_10 : ¬ i = 10 := fun e9 => c_1 (by rw [e9]; rfl)
  have e_16 : ¬ i = 16 := fun e9 => c_2 (by rw [e9]; rfl)
  have e_23 : ¬ i = 23 := fun e9 => c_3 (by rw [e9]; rfl)
  have ek := keep_at i hi7 e_10 e_16 e_23
  exact mu_vret (pc := 105) hx hb hr hlk hQ (by simpa only [writeF, if_neg c_1, if_neg c_2, if_neg c_3, putF_m1, nI_clamp (show i < 2 ^ 31 by omega), ← ek] using hP) hS d_C_set_105
set_option maxHeartbeats 4000000 in
set_option maxRecDepth 100000 in
theorem c_C_begin (l : Launch) (D : va_G) (cI cR : ClassId) (ad : Nat → Nat) (h ha hv : Nat) (f : Nat → Int32) (md : Int32) (tm al : Int64) (ln : Bool)  : MU l y_C_begin b_C_begin 2 none 0 0 D cI cR ad (wC cI cR ad h ha hv f md tm al ln) [.ref h] none (wC cI cR ad h ha hv (fun _ => 0) 1 0 9223372036854775807 false) := by
  refine mu_ofW (by decide) (Nat.le_of_ble_eq_true rfl) ?_
  intro p e s m below meth c args Q ls hx hb hr hml hown hts hlk hP hX hE hl hQ hD hS
  have hown : s.vm.findClass cn_C = some m.cls := hown
  have hP : va_P D cls_ [(h, .inr (0, [.ref ha, .ref hv, .int md, .long tm, .long al, .int (bI ln)])), (ha, .inl (cR, 29, .inr (.inr (.inr (.inr (gA ad)))))), (hv, .inl (cI, 29, .inl f))] s.heap := hP
  have hD : va_D _ [(h, .inr (0, [.ref ha, .ref hv, .int md, .long tm, .long al, .int (bI ln)])), (ha, .inl (cR, 29, .inr (.inr (.inr (.inr (gA ad)))))), (hv, .inl (cI, 29, .inl f))] := hD
  have hl : lv_has ls 2 [(0, .ref h)] := hl
  have loop : ∀ (n k : Nat) (g : Nat → Int32) (H : Heap) (locs : List Loc) (ls : Array Slot), k ≤ 29 → 30 ≤ k + n → (∀ j, j < k → g j = 0) → va_P D cls_ [(h, .inr (0, [.ref ha, .ref hv, .int md, .long tm, .long al, .int (bI ln)])), (ha, .inl (cR, 29, .inr (.inr (.inr (.inr (gA ad)))))), (hv, .inl (cI, 29, .inl g))] H → va_D (wA (wC cI cR ad h ha hv f md tm al ln)) [(h, .inr (0, [.ref ha, .ref hv, .int md, .long tm, .long al, .int (bI ln)])), (ha, .inl (cR, 29, .inr (.inr (.inr (.inr (gA ad)))))), (hv, .inl (cI, 29, .inl g))] → va_S (wA (wC cI cR ad h ha hv f md tm al ln)) s.heap H locs → lv_has ls 2 [(0, .ref h), (1, .int (nI k))] → W p l e (rmz 0 0) s m args below meth c H locs 0 0 Q (F0 m 2 ls []) := by
    intro n
    induction n with
    | zero => intro k g H locs ls h1 h2; exact absurd h2 (by omega)
    | succ n ih =>
      intro k g H locs ls h1 h2 hg hP hD hS hl
      refine lv_iload_n (pc := 2) hx hb d_C_begin_2 rfl (lv_at hl 1 rfl) ?_
      refine lv_aload_n (pc := 3) hx hb d_C_begin_3 rfl (lv_at hl 0 rfl) ?_
      refine va_get (pc := 4) (D := D) (ci := 0) (v := .ref hv) (C := cn_C) (T := fT_C) (N := 6) hx hb hts in_C hown hX.1 hP 0 rfl rfl 1 (by decide) (hts _ kf_C_19) (fun _ h9 => h9) rfl d_C_begin_4 ?_
      refine va_alen (pc := 7) (v := 29) hx hb hX.1 hP 2 0 rfl rfl rfl d_C_begin_7 ?_
      refine lv_icmp_ge (pc := 8) (tgt := 24) hx hb d_C_begin_8 (by decide) (fun c_1 => ?_) (fun c_1 => ?_)
      · have hk9 : k = 29 := by have h9 := (nI_leI (a := 29) (b := k) (by decide) (by omega)).mp c_1; omega
        have hP := w_upto hP (q0 := 2) (g := fun _ => 0) rfl (fun j hj => hg j (by omega))
        have hD := va_D.set (p := 2) (e := .inl (cI, 29, .inl (fun _ => 0))) hD rfl
        have hP : va_P D cls_ [(h, .inr (0, [.ref ha, .ref hv, .int md, .long tm, .long al, .int (bI ln)])), (ha, .inl (cR, 29, .inr (.inr (.inr (.inr (gA ad)))))), (hv, .inl (cI, 29, .inl (fun _ => 0)))] H := hP
        have hD : va_D _ [(h, .inr (0, [.ref ha, .ref hv, .int md, .long tm, .long al, .int (bI ln)])), (ha, .inl (cR, 29, .inr (.inr (.inr (.inr (gA ad)))))), (hv, .inl (cI, 29, .inl (fun _ => 0)))] := hD
        refine lv_aload_n (pc := 24) hx hb d_C_begin_24 rfl (lv_at hl 0 rfl) ?_
        refine lv_iconst (pc := 25) (v := 1) hx hb d_C_begin_25 (by decide) ?_
        refine va_put (pc := 26) (D := D) (ci := 0) (v := .int 1) (ty := .int) (C := cn_C) (T := fT_C) (N := 6) hx hb hts in_C tT_C tt_C nn_C hown hX.1 hP hD hS 0 rfl rfl 2 (by decide) (hts _ kf_C_25) (fun _ h9 => h9) rfl (by decide +kernel) rfl rfl (Nat.le_of_ble_eq_true rfl) d_C_begin_26 (fun H locs hP hD hS => ?_)
        have hP : va_P D cls_ [(h, .inr (0, [.ref ha, .ref hv, .int 1, .long tm, .long al, .int (bI ln)])), (ha, .inl (cR, 29, .inr (.inr (.inr (.inr (gA ad)))))), (hv, .inl (cI, 29, .inl (fun _ => 0)))] H := hP
        have hD : va_D _ [(h, .inr (0, [.ref ha, .ref hv, .int 1, .long tm, .long al, .int (bI ln)])), (ha, .inl (cR, 29, .inr (.inr (.inr (.inr (gA ad)))))), (hv, .inl (cI, 29, .inl (fun _ => 0)))] := hD
        refine lv_aload_n (pc := 29) hx hb d_C_begin_29 rfl (lv_at hl 0 rfl) ?_
        refine lv_lconst (pc := 30) (v := 0) hx hb d_C_begin_30 (by decide) ?_
        refine va_put (pc := 31) (D := D) (ci := 0) (v := .long 0) (ty := .long) (C := cn_C) (T := fT_C) (N := 6) hx hb hts in_C tT_C tt_C nn_C hown hX.1 hP hD hS 0 rfl rfl 3 (by decide) (hts _ kf_C_29) (fun _ h9 => h9) rfl (by decide +kernel) rfl rfl (Nat.le_of_ble_eq_true rfl) d_C_begin_31 (fun H locs hP hD hS => ?_)
        have hP : va_P D cls_ [(h, .inr (0, [.ref ha, .ref hv, .int 1, .long 0, .long al, .int (bI ln)])), (ha, .inl (cR, 29, .inr (.inr (.inr (.inr (gA ad)))))), (hv, .inl (cI, 29, .inl (fun _ => 0)))] H := hP
        have hD : va_D _ [(h, .inr (0, [.ref ha, .ref hv, .int 1, .long 0, .long al, .int (bI ln)])), (ha, .inl (cR, 29, .inr (.inr (.inr (.inr (gA ad)))))), (hv, .inl (cI, 29, .inl (fun _ => 0)))] := hD
        refine lv_aload_n (pc := 34) hx hb d_C_begin_34 rfl (lv_at hl 0 rfl) ?_
        refine lv_ldc2 (pc := 35) (v := 9223372036854775807) hx hb hown (hts _ kk_C_35) d_C_begin_35 ?_
        refine va_put (pc := 38) (D := D) (ci := 0) (v := .long 9223372036854775807) (ty := .long) (C := cn_C) (T := fT_C) (N := 6) hx hb hts in_C tT_C tt_C nn_C hown hX.1 hP hD hS 0 rfl rfl 4 (by decide) (hts _ kf_C_37) (fun _ h9 => h9) rfl (by decide +kernel) rfl rfl (Nat.le_of_ble_eq_true rfl) d_C_begin_38 (fun H locs hP hD hS => ?_)
        have hP : va_P D cls_ [(h, .inr (0, [.ref ha, .ref hv, .int 1, .long 0, .long 9223372036854775807, .int (bI ln)])), (ha, .inl (cR, 29, .inr (.inr (.inr (.inr (gA ad)))))), (hv, .inl (cI, 29, .inl (fun _ => 0)))] H := hP
        have hD : va_D _ [(h, .inr (0, [.ref ha, .ref hv, .int 1, .long 0, .long 9223372036854775807, .int (bI ln)])), (ha, .inl (cR, 29, .inr (.inr (.inr (.inr (gA ad)))))), (hv, .inl (cI, 29, .inl (fun _ => 0)))] := hD
        refine lv_aload_n (pc := 41) hx hb d_C_begin_41 rfl (lv_at hl 0 rfl) ?_
        refine lv_iconst (pc := 42) (v := 0) hx hb d_C_begin_42 (by decide) ?_
        refine va_put (pc := 43) (D := D) (ci := 0) (v := .int (bI false)) (ty := .boolean) (C := cn_C) (T := fT_C) (N := 6) hx hb hts in_C tT_C tt_C nn_C hown hX.1 hP hD hS 0 rfl rfl 5 (by decide) (hts _ kf_C_40) (fun _ h9 => h9) rfl (by decide +kernel) (bI_nar _) (bI_fit _) (Nat.le_of_ble_eq_true rfl) d_C_begin_43 (fun H locs hP hD hS => ?_)
        have hP : va_P D cls_ [(h, .inr (0, [.ref ha, .ref hv, .int 1, .long 0, .long 9223372036854775807, .int (bI false)])), (ha, .inl (cR, 29, .inr (.inr (.inr (.inr (gA ad)))))), (hv, .inl (cI, 29, .inl (fun _ => 0)))] H := hP
        have hD : va_D _ [(h, .inr (0, [.ref ha, .ref hv, .int 1, .long 0, .long 9223372036854775807, .int (bI false)])), (ha, .inl (cR, 29, .inr (.inr (.inr (.inr (gA ad)))))), (hv, .inl (cI, 29, .inl (fun _ => 0)))] := hD
        exact mu_vret (pc := 46) hx hb hr hlk hQ hP hS d_C_begin_46
      · have hlt : k < 29 := by
          rcases Nat.lt_or_ge k 29 with q | q
          · exact q
          · exact absurd ((nI_leI (a := 29) (b := k) (by decide) (by omega)).mpr q) c_1
        refine lv_aload_n (pc := 11) hx hb d_C_begin_11 rfl (lv_at hl 0 rfl) ?_
        refine va_get (pc := 12) (D := D) (ci := 0) (v := .ref hv) (C := cn_C) (T := fT_C) (N := 6) hx hb hts in_C hown hX.1 hP 0 rfl rfl 1 (by decide) (hts _ kf_C_19) (fun _ h9 => h9) rfl d_C_begin_12 ?_
        refine lv_iload_n (pc := 15) hx hb d_C_begin_15 rfl (lv_at hl 1 rfl) ?_
        refine lv_iconst (pc := 16) (v := 0) hx hb d_C_begin_16 (by decide) ?_
        refine wr_i (pc := 17) hx hb hX hP hD hS 2 rfl k (nI_clamp (by omega)) (vp_in_nI hlt (by decide)) d_C_begin_17 (fun H locs hP hD hS => ?_)
        have hP : va_P D cls_ [(h, .inr (0, [.ref ha, .ref hv, .int md, .long tm, .long al, .int (bI ln)])), (ha, .inl (cR, 29, .inr (.inr (.inr (.inr (gA ad)))))), (hv, .inl (cI, 29, .inl (upd g k 0)))] H := hP
        have hD : va_D _ [(h, .inr (0, [.ref ha, .ref hv, .int md, .long tm, .long al, .int (bI ln)])), (ha, .inl (cR, 29, .inr (.inr (.inr (.inr (gA ad)))))), (hv, .inl (cI, 29, .inl (upd g k 0)))] := hD
        refine lv_iinc (pc := 18) (v := (nI k) + 1) (lv' := [(1, .int ((nI k) + 1)), (0, .ref h)]) hx hb d_C_begin_18 hl (k := 1) rfl rfl (by decide) rfl (fun ls hl => ?_)
        refine lv_goto (pc := 21) (tgt := 2) hx hb d_C_begin_21 (by decide) ?_
        exact ih (k + 1) (upd g k 0) H locs ls (by omega) (by omega) (upd_zero hg) hP hD hS (by rw [← nI_1]; exact lv_sub hl [1, 0] rfl)
  refine lv_iconst (pc := 0) (v := 0) hx hb d_C_begin_0 (by decide) ?_
  refine lv_istore_n (pc := 1) (lv' := [(1, .int 0), (0, .ref h)]) hx hb d_C_begin_1 rfl hl (by decide) rfl (fun ls hl => ?_)
  exact loop 30 0 f s.heap [] ls (by decide) (by decide) (fun j hj => absurd hj (Nat.not_lt_zero j)) hP hD hS (lv_sub hl [1, 0] rfl)
end
section
-- CONTRACTS: the component's face
set_option maxHeartbeats 4000000 in
set_option maxRecDepth 100000 in
theorem c_F_old (l : Launch) (D : va_G) (cI cR : ClassId) (ad : Nat → Nat) (h0 h ha hv : Nat) (f : Nat → Int32) (md : Int32) (tm al : Int64) (ln : Bool) (od : Int32)  : RO l y_F_old b_F_old 1 (some .int) 0 0 D cI cR ad (wF cI cR ad h0 h ha hv f md tm al ln od) [.ref h0] (.int od) := by
  refine ro_ofW (by decide) (Nat.le_of_ble_eq_true rfl) ?_
  intro p e s m below meth c args Q ls hx hb hr hml hown hts hlk hP hX hE hl hQ
  have hown : s.vm.findClass cn_F = some m.cls := hown
  have hP : va_P D cls_ [(h0, .inr (1, [.ref h, .int od])), (h, .inr (0, [.ref ha, .ref hv, .int md, .long tm, .long al, .int (bI ln)])), (ha, .inl (cR, 29, .inr (.inr (.inr (.inr (gA ad)))))), (hv, .inl (cI, 29, .inl f))] s.heap := hP
  have hl : lv_has ls 1 [(0, .ref h0)] := hl
  refine lv_aload_n (pc := 0) hx hb d_F_old_0 rfl (lv_at hl 0 rfl) ?_
  refine va_get (pc := 1) (D := D) (ci := 1) (v := .int od) (C := cn_F) (T := fT_F) (N := 2) hx hb hts in_F hown hX.1 hP 0 rfl rfl 1 (by decide) (hts _ kf_F_19) (fun _ h9 => h9) rfl d_F_old_1 ?_
  exact ro_iret (pc := 4) hx hb hr hlk hQ rfl d_F_old_4
set_option maxHeartbeats 4000000 in
set_option maxRecDepth 100000 in
theorem c_F_due (l : Launch) (D : va_G) (cI cR : ClassId) (ad : Nat → Nat) (h0 h ha hv : Nat) (f : Nat → Int32) (md : Int32) (tm al : Int64) (ln : Bool) (od : Int32)  : RO l y_F_due b_F_due 1 (some .int) 4 85 D cI cR ad (wF cI cR ad h0 h ha hv f md tm al ln od) [.ref h0] (.int (dueF f md tm al ln)) := by
  refine ro_ofW (by decide) (Nat.le_of_ble_eq_true rfl) ?_
  intro p e s m below meth c args Q ls hx hb hr hml hown hts hlk hP hX hE hl hQ
  have hown : s.vm.findClass cn_F = some m.cls := hown
  have hP : va_P D cls_ [(h0, .inr (1, [.ref h, .int od])), (h, .inr (0, [.ref ha, .ref hv, .int md, .long tm, .long al, .int (bI ln)])), (ha, .inl (cR, 29, .inr (.inr (.inr (.inr (gA ad)))))), (hv, .inl (cI, 29, .inl f))] s.heap := hP
  have hl : lv_has ls 1 [(0, .ref h0)] := hl
  refine lv_aload_n (pc := 0) hx hb d_F_due_0 rfl (lv_at hl 0 rfl) ?_
  refine va_get (pc := 1) (D := D) (ci := 1) (v := .ref h) (C := cn_F) (T := fT_F) (N := 2) hx hb hts in_F hown hX.1 hP 0 rfl rfl 0 (by decide) (hts _ kf_F_10) (fun _ h9 => h9) rfl d_F_due_1 ?_
  refine ro_V (pc := 4) (As := []) (rest := []) hx hb hml hl.1 hown hts (c_C_due l D cI cR ad h ha hv f md tm al ln) g_F_66 ⟨Nat.le_of_ble_eq_true rfl, Nat.le_of_ble_eq_true rfl⟩ (va_recv hX.1 hP (ci := 0) (q0 := 1) rfl rfl) (wc_P hP [1, 2, 3] rfl) hX hE rfl (Nat.le_of_ble_eq_true rfl) ⟨Nat.zero_le _, Nat.zero_le _⟩ d_F_due_4 ?_
  exact ro_iret (pc := 7) hx hb hr hlk hQ rfl d_F_due_7
set_option maxHeartbeats 4000000 in
set_option maxRecDepth 100000 in
theorem c_F_control (l : Launch) (D : va_G) (cI cR : ClassId) (ad : Nat → Nat) (h0 h ha hv : Nat) (f : Nat → Int32) (md : Int32) (tm al : Int64) (ln : Bool) (od : Int32) (n : Int32) : RO l y_F_control b_F_control 3 (some .int) 3 62 D cI cR ad (wF cI cR ad h0 h ha hv f md tm al ln od) [.ref h0, .int n] (.int (ctlF f tm al ln n)) := by
  refine ro_ofW (by decide) (Nat.le_of_ble_eq_true rfl) ?_
  intro p e s m below meth c args Q ls hx hb hr hml hown hts hlk hP hX hE hl hQ
  have hown : s.vm.findClass cn_F = some m.cls := hown
  have hP : va_P D cls_ [(h0, .inr (1, [.ref h, .int od])), (h, .inr (0, [.ref ha, .ref hv, .int md, .long tm, .long al, .int (bI ln)])), (ha, .inl (cR, 29, .inr (.inr (.inr (.inr (gA ad)))))), (hv, .inl (cI, 29, .inl f))] s.heap := hP
  have hl : lv_has ls 3 [(0, .ref h0), (1, .int n)] := hl
  refine lv_aload_n (pc := 0) hx hb d_F_control_0 rfl (lv_at hl 0 rfl) ?_
  refine va_get (pc := 1) (D := D) (ci := 1) (v := .ref h) (C := cn_F) (T := fT_F) (N := 2) hx hb hts in_F hown hX.1 hP 0 rfl rfl 0 (by decide) (hts _ kf_F_10) (fun _ h9 => h9) rfl d_F_control_1 ?_
  refine lv_iload_n (pc := 4) hx hb d_F_control_4 rfl (lv_at hl 1 rfl) ?_
  refine ro_V (pc := 5) (As := [.int n]) (rest := []) hx hb hml hl.1 hown hts (c_C_of l D cI cR ad h ha hv f md tm al ln n) g_F_59 ⟨Nat.le_of_ble_eq_true rfl, Nat.le_of_ble_eq_true rfl⟩ (va_recv hX.1 hP (ci := 0) (q0 := 1) rfl rfl) (wc_P hP [1, 2, 3] rfl) hX hE rfl (Nat.le_of_ble_eq_true rfl) ⟨Nat.zero_le _, Nat.zero_le _⟩ d_F_control_5 ?_
  cases hof : ofF n with
  | none =>
    refine top_eqv (y := .null) rfl ?_
    have hpl := pl_of_none hof
    refine lv_astore_nN (pc := 8) (lv' := [(2, .null), (0, .ref h0), (1, .int n)]) hx hb d_F_control_8 rfl hl (by decide) rfl (fun ls hl => ?_)
    refine lv_aload_nN (pc := 9) hx hb d_F_control_9 rfl (lv_at hl 0 rfl) ?_
    refine lv_ifnonnullN (pc := 10) hx hb d_F_control_10 ?_
    refine lv_iconst (pc := 13) (v := 0) hx hb d_F_control_13 (by decide) ?_
    refine lv_goto (pc := 14) (tgt := 25) hx hb d_F_control_14 (by decide) ?_
    exact ro_iret (pc := 25) hx hb hr hlk hQ (by simp only [ctlF, if_pos hpl]) d_F_control_25
  | some i =>
    refine top_eqv (y := .ref (ad i)) rfl ?_
    obtain ⟨hi, hpl, hnum⟩ := pl_of_some hof
    refine lv_astore_n (pc := 8) (lv' := [(2, .ref (ad i)), (0, .ref h0), (1, .int n)]) hx hb d_F_control_8 rfl hl (by decide) rfl (fun ls hl => ?_)
    refine lv_aload_n (pc := 9) hx hb d_F_control_9 rfl (lv_at hl 0 rfl) ?_
    refine lv_ifnonnull (pc := 10) (tgt := 17) hx hb d_F_control_10 (by decide) ?_
    refine lv_aload_n (pc := 17) hx hb d_F_control_17 rfl (lv_at hl 1 rfl) ?_
    refine va_get (pc := 18) (D := D) (ci := 1) (v := .ref h) (C := cn_F) (T := fT_F) (N := 2) hx hb hts in_F hown hX.1 hP 0 rfl rfl 0 (by decide) (hts _ kf_F_10) (fun _ h9 => h9) rfl d_F_control_18 ?_
    refine lv_aload_n (pc := 21) hx hb d_F_control_21 rfl (lv_at hl 0 rfl) ?_
    refine ro_V (pc := 22) (As := [.ref (ad i)]) (rest := []) hx hb hml hl.1 hown hts (c_C_get l D cI cR ad h ha hv f md tm al ln i hi) g_F_51 ⟨Nat.le_of_ble_eq_true rfl, Nat.le_of_ble_eq_true rfl⟩ (va_recv hX.1 hP (ci := 0) (q0 := 1) rfl rfl) (wc_P hP [1, 2, 3] rfl) hX hE rfl (Nat.le_of_ble_eq_true rfl) ⟨Nat.zero_le _, Nat.zero_le _⟩ d_F_control_22 ?_
    exact ro_iret (pc := 25) hx hb hr hlk hQ (by simp only [ctlF, hpl, if_neg (nI_nm1 i hi)]) d_F_control_25
set_option maxHeartbeats 4000000 in
set_option maxRecDepth 100000 in
theorem c_F_used (l : Launch) (D : va_G) (cI cR : ClassId) (ad : Nat → Nat) (h0 h ha hv : Nat) (f : Nat → Int32) (md : Int32) (tm al : Int64) (ln : Bool) (od : Int32)  : RO l y_F_used b_F_used 3 (some .int) 3 62 D cI cR ad (wF cI cR ad h0 h ha hv f md tm al ln od) [.ref h0] (.int (usedF f tm al ln 29)) := by
  refine ro_ofW (by decide) (Nat.le_of_ble_eq_true rfl) ?_
  intro p e s m below meth c args Q ls hx hb hr hml hown hts hlk hP hX hE hl hQ
  have hown : s.vm.findClass cn_F = some m.cls := hown
  have hP : va_P D cls_ [(h0, .inr (1, [.ref h, .int od])), (h, .inr (0, [.ref ha, .ref hv, .int md, .long tm, .long al, .int (bI ln)])), (ha, .inl (cR, 29, .inr (.inr (.inr (.inr (gA ad)))))), (hv, .inl (cI, 29, .inl f))] s.heap := hP
  have hl : lv_has ls 3 [(0, .ref h0)] := hl
  have loop : ∀ (n k : Nat) (ls : Array Slot), k ≤ 29 → 30 ≤ k + n → lv_has ls 3 [(0, .ref h0), (1, .int (usedF f tm al ln k)), (2, .int (nI k))] → W p l e (rmz 3 62) s m args below meth c s.heap [] 0 0 Q (F0 m 4 ls []) := by
    intro n
    induction n with
    | zero => intro k ls h1 h2; exact absurd h2 (by omega)
    | succ n ih =>
      intro k ls h1 h2 hl
      refine lv_iload_n (pc := 4) hx hb d_F_used_4 rfl (lv_at hl 2 rfl) ?_
      refine lv_aload_n (pc := 5) hx hb d_F_used_5 rfl (lv_at hl 0 rfl) ?_
      refine va_get (pc := 6) (D := D) (ci := 1) (v := .ref h) (C := cn_F) (T := fT_F) (N := 2) hx hb hts in_F hown hX.1 hP 0 rfl rfl 0 (by decide) (hts _ kf_F_10) (fun _ h9 => h9) rfl d_F_used_6 ?_
      refine va_getN (pc := 9) (D := D) (ci := 0) (v := .ref ha) (C := cn_C) (T := fT_C) (N := 6) hx hb hts in_C hown hX.1 hP 1 rfl rfl 0 (by decide) (hX.nw 0 rfl rfl) (fun _ h9 => h9) rfl d_F_used_9 ?_
      refine va_alen (pc := 12) (v := 29) hx hb hX.1 hP 2 1 rfl rfl rfl d_F_used_12 ?_
      refine lv_icmp_ge (pc := 13) (tgt := 49) hx hb d_F_used_13 (by decide) (fun c_1 => ?_) (fun c_1 => ?_)
      · refine lv_iload_n (pc := 49) hx hb d_F_used_49 rfl (lv_at hl 1 rfl) ?_
        have hk9 : k = 29 := by have h9 := (nI_leI (a := 29) (b := k) (by decide) (by omega)).mp c_1; omega
        exact ro_iret (pc := 50) hx hb hr hlk hQ (by rw [hk9]) d_F_used_50
      · have hlt : k < 29 := by
          rcases Nat.lt_or_ge k 29 with q | q
          · exact q
          · exact absurd ((nI_leI (a := 29) (b := k) (by decide) (by omega)).mpr q) c_1
        refine lv_iload_n (pc := 16) hx hb d_F_used_16 rfl (lv_at hl 1 rfl) ?_
        refine lv_aload_n (pc := 17) hx hb d_F_used_17 rfl (lv_at hl 0 rfl) ?_
        refine va_get (pc := 18) (D := D) (ci := 1) (v := .ref h) (C := cn_F) (T := fT_F) (N := 2) hx hb hts in_F hown hX.1 hP 0 rfl rfl 0 (by decide) (hts _ kf_F_10) (fun _ h9 => h9) rfl d_F_used_18 ?_
        refine lv_aload_n (pc := 21) hx hb d_F_used_21 rfl (lv_at hl 0 rfl) ?_
        refine va_get (pc := 22) (D := D) (ci := 1) (v := .ref h) (C := cn_F) (T := fT_F) (N := 2) hx hb hts in_F hown hX.1 hP 0 rfl rfl 0 (by decide) (hts _ kf_F_10) (fun _ h9 => h9) rfl d_F_used_22 ?_
        refine va_getN (pc := 25) (D := D) (ci := 0) (v := .ref ha) (C := cn_C) (T := fT_C) (N := 6) hx hb hts in_C hown hX.1 hP 1 rfl rfl 0 (by decide) (hX.nw 0 rfl rfl) (fun _ h9 => h9) rfl d_F_used_25 ?_
        refine lv_iload_n (pc := 28) hx hb d_F_used_28 rfl (lv_at hl 2 rfl) ?_
        refine rd_a (pc := 29) hx hb hX hP 2 rfl k (nI_clamp (by omega)) (vp_in_nI hlt (by decide)) d_F_used_29 ?_
        refine ro_V (pc := 30) (As := [.ref (ad k)]) (rest := [.int (usedF f tm al ln k)]) hx hb hml hl.1 hown hts (c_C_get l D cI cR ad h ha hv f md tm al ln k hlt) g_F_51 ⟨Nat.le_of_ble_eq_true rfl, Nat.le_of_ble_eq_true rfl⟩ (va_recv hX.1 hP (ci := 0) (q0 := 1) rfl rfl) (wc_P hP [1, 2, 3] rfl) hX hE rfl (Nat.le_of_ble_eq_true rfl) ⟨Nat.zero_le _, Nat.zero_le _⟩ d_F_used_30 ?_
        refine lv_if_eq (pc := 33) (tgt := 40) hx hb d_F_used_33 (by decide) (fun c_2 => ?_) (fun c_2 => ?_)
        · refine lv_iconst (pc := 40) (v := 0) hx hb d_F_used_40 (by decide) ?_
          refine lv_iadd (pc := 41) hx hb d_F_used_41 ?_
          refine lv_istore_n (pc := 42) (lv' := [(1, .int ((usedF f tm al ln k) + 0)), (0, .ref h0), (2, .int (nI k))]) hx hb d_F_used_42 rfl hl (by decide) rfl (fun ls hl => ?_)
          refine lv_iinc (pc := 43) (v := (nI k) + 1) (lv' := [(2, .int ((nI k) + 1)), (1, .int ((usedF f tm al ln k) + 0)), (0, .ref h0)]) hx hb d_F_used_43 hl (k := 2) rfl rfl (by decide) rfl (fun ls hl => ?_)
          refine lv_goto (pc := 46) (tgt := 4) hx hb d_F_used_46 (by decide) ?_
          exact ih (k + 1) ls (by omega) (by omega) (by rw [show usedF f tm al ln (k + 1) = usedF f tm al ln k + 0 by simp only [usedF, if_pos c_2], ← nI_1]; exact lv_sub hl [2, 1, 0] rfl)
        · refine lv_iconst (pc := 36) (v := 1) hx hb d_F_used_36 (by decide) ?_
          refine lv_goto (pc := 37) (tgt := 41) hx hb d_F_used_37 (by decide) ?_
          refine lv_iadd (pc := 41) hx hb d_F_used_41 ?_
          refine lv_istore_n (pc := 42) (lv' := [(1, .int ((usedF f tm al ln k) + 1)), (0, .ref h0), (2, .int (nI k))]) hx hb d_F_used_42 rfl hl (by decide) rfl (fun ls hl => ?_)
          refine lv_iinc (pc := 43) (v := (nI k) + 1) (lv' := [(2, .int ((nI k) + 1)), (1, .int ((usedF f tm al ln k) + 1)), (0, .ref h0)]) hx hb d_F_used_43 hl (k := 2) rfl rfl (by decide) rfl (fun ls hl => ?_)
          refine lv_goto (pc := 46) (tgt := 4) hx hb d_F_used_46 (by decide) ?_
          exact ih (k + 1) ls (by omega) (by omega) (by rw [show usedF f tm al ln (k + 1) = usedF f tm al ln k + 1 by simp only [usedF, if_neg c_2], ← nI_1]; exact lv_sub hl [2, 1, 0] rfl)
  refine lv_iconst (pc := 0) (v := 0) hx hb d_F_used_0 (by decide) ?_
  refine lv_istore_n (pc := 1) (lv' := [(1, .int 0), (0, .ref h0)]) hx hb d_F_used_1 rfl hl (by decide) rfl (fun ls hl => ?_)
  refine lv_iconst (pc := 2) (v := 0) hx hb d_F_used_2 (by decide) ?_
  refine lv_istore_n (pc := 3) (lv' := [(2, .int 0), (1, .int 0), (0, .ref h0)]) hx hb d_F_used_3 rfl hl (by decide) rfl (fun ls hl => ?_)
  exact loop 30 0 ls (by decide) (by decide) (lv_sub hl [2, 1, 0] rfl)
set_option maxHeartbeats 4000000 in
set_option maxRecDepth 100000 in
theorem c_F_mode (l : Launch) (D : va_G) (cI cR : ClassId) (ad : Nat → Nat) (h0 h ha hv : Nat) (f : Nat → Int32) (md : Int32) (tm al : Int64) (ln : Bool) (od : Int32) (x : Int32) : MU l y_F_mode b_F_mode 3 (some .int) 0 0 D cI cR ad (wF cI cR ad h0 h ha hv f md tm al ln od) [.ref h0, .int x] (some (.int (modeR md x))) (wF cI cR ad h0 h ha hv f (modeS md x) tm al ln od) := by
  refine mu_ofW (by decide) (Nat.le_of_ble_eq_true rfl) ?_
  intro p e s m below meth c args Q ls hx hb hr hml hown hts hlk hP hX hE hl hQ hD hS
  have hown : s.vm.findClass cn_F = some m.cls := hown
  have hP : va_P D cls_ [(h0, .inr (1, [.ref h, .int od])), (h, .inr (0, [.ref ha, .ref hv, .int md, .long tm, .long al, .int (bI ln)])), (ha, .inl (cR, 29, .inr (.inr (.inr (.inr (gA ad)))))), (hv, .inl (cI, 29, .inl f))] s.heap := hP
  have hD : va_D _ [(h0, .inr (1, [.ref h, .int od])), (h, .inr (0, [.ref ha, .ref hv, .int md, .long tm, .long al, .int (bI ln)])), (ha, .inl (cR, 29, .inr (.inr (.inr (.inr (gA ad)))))), (hv, .inl (cI, 29, .inl f))] := hD
  have hl : lv_has ls 3 [(0, .ref h0), (1, .int x)] := hl
  refine lv_iload_n (pc := 0) hx hb d_F_mode_0 rfl (lv_at hl 1 rfl) ?_
  refine lv_if_lt (pc := 1) (tgt := 9) hx hb d_F_mode_1 (by decide) (fun c_1 => ?_) (fun c_1 => ?_)
  · refine lv_iconst (pc := 9) (v := (-1)) hx hb d_F_mode_9 (by decide) ?_
    exact mu_iret (pc := 10) hx hb hr hlk hQ (by simp [modeR, c_1]) (by rw [show modeS md x = md by simp [modeS, c_1]]; exact hP) hS d_F_mode_10
  · refine lv_iload_n (pc := 4) hx hb d_F_mode_4 rfl (lv_at hl 1 rfl) ?_
    refine lv_iconst (pc := 5) (v := 3) hx hb d_F_mode_5 (by decide) ?_
    refine lv_icmp_le (pc := 6) (tgt := 11) hx hb d_F_mode_6 (by decide) (fun c_2 => ?_) (fun c_2 => ?_)
    · refine lv_aload_n (pc := 11) hx hb d_F_mode_11 rfl (lv_at hl 0 rfl) ?_
      refine va_get (pc := 12) (D := D) (ci := 1) (v := .ref h) (C := cn_F) (T := fT_F) (N := 2) hx hb hts in_F hown hX.1 hP 0 rfl rfl 0 (by decide) (hts _ kf_F_10) (fun _ h9 => h9) rfl d_F_mode_12 ?_
      refine va_getN (pc := 15) (D := D) (ci := 0) (v := .int md) (C := cn_C) (T := fT_C) (N := 6) hx hb hts in_C hown hX.1 hP 1 rfl rfl 2 (by decide) (hX.nw 1 rfl rfl) (fun _ h9 => h9) rfl d_F_mode_15 ?_
      refine lv_istore_n (pc := 18) (lv' := [(2, .int md), (0, .ref h0), (1, .int x)]) hx hb d_F_mode_18 rfl hl (by decide) rfl (fun ls hl => ?_)
      refine lv_aload_n (pc := 19) hx hb d_F_mode_19 rfl (lv_at hl 1 rfl) ?_
      refine va_get (pc := 20) (D := D) (ci := 1) (v := .ref h) (C := cn_F) (T := fT_F) (N := 2) hx hb hts in_F hown hX.1 hP 0 rfl rfl 0 (by decide) (hts _ kf_F_10) (fun _ h9 => h9) rfl d_F_mode_20 ?_
      refine lv_iload_n (pc := 23) hx hb d_F_mode_23 rfl (lv_at hl 2 rfl) ?_
      refine va_putN (pc := 24) (D := D) (ci := 0) (v := .int x) (ty := .int) (C := cn_C) (T := fT_C) (N := 6) hx hb hts in_C tT_C tt_C nn_C hown hX.1 hP hD hS 1 rfl rfl 2 (by decide) (hX.nw 1 rfl rfl) (fun _ h9 => h9) rfl (by decide +kernel) rfl rfl (Nat.le_of_ble_eq_true rfl) d_F_mode_24 (fun H locs hP hD hS => ?_)
      have hP : va_P D cls_ [(h0, .inr (1, [.ref h, .int od])), (h, .inr (0, [.ref ha, .ref hv, .int x, .long tm, .long al, .int (bI ln)])), (ha, .inl (cR, 29, .inr (.inr (.inr (.inr (gA ad)))))), (hv, .inl (cI, 29, .inl f))] H := hP
      have hD : va_D _ [(h0, .inr (1, [.ref h, .int od])), (h, .inr (0, [.ref ha, .ref hv, .int x, .long tm, .long al, .int (bI ln)])), (ha, .inl (cR, 29, .inr (.inr (.inr (.inr (gA ad)))))), (hv, .inl (cI, 29, .inl f))] := hD
      refine lv_iload_n (pc := 27) hx hb d_F_mode_27 rfl (lv_at hl 0 rfl) ?_
      exact mu_iret (pc := 28) hx hb hr hlk hQ (by simp [modeR, c_1, Int32.not_lt.mpr c_2]) (by rw [show modeS md x = x by simp [modeS, c_1, Int32.not_lt.mpr c_2]]; exact hP) hS d_F_mode_28
    · refine lv_iconst (pc := 9) (v := (-1)) hx hb d_F_mode_9 (by decide) ?_
      exact mu_iret (pc := 10) hx hb hr hlk hQ (by simp [modeR, c_1, Int32.not_le.mp c_2]) (by rw [show modeS md x = md by simp [modeS, c_1, Int32.not_le.mp c_2]]; exact hP) hS d_F_mode_10
set_option maxHeartbeats 4000000 in
set_option maxRecDepth 100000 in
theorem c_F_time (l : Launch) (D : va_G) (cI cR : ClassId) (ad : Nat → Nat) (h0 h ha hv : Nat) (f : Nat → Int32) (md : Int32) (tm al : Int64) (ln : Bool) (od : Int32) (t : Int64) : MU l y_F_time b_F_time 5 (some .long) 0 0 D cI cR ad (wF cI cR ad h0 h ha hv f md tm al ln od) [.ref h0, .long t] (some (.long (timeR tm t))) (wF cI cR ad h0 h ha hv f md (timeS tm t) al ln od) := by
  refine mu_ofW (by decide) (Nat.le_of_ble_eq_true rfl) ?_
  intro p e s m below meth c args Q ls hx hb hr hml hown hts hlk hP hX hE hl hQ hD hS
  have hown : s.vm.findClass cn_F = some m.cls := hown
  have hP : va_P D cls_ [(h0, .inr (1, [.ref h, .int od])), (h, .inr (0, [.ref ha, .ref hv, .int md, .long tm, .long al, .int (bI ln)])), (ha, .inl (cR, 29, .inr (.inr (.inr (.inr (gA ad)))))), (hv, .inl (cI, 29, .inl f))] s.heap := hP
  have hD : va_D _ [(h0, .inr (1, [.ref h, .int od])), (h, .inr (0, [.ref ha, .ref hv, .int md, .long tm, .long al, .int (bI ln)])), (ha, .inl (cR, 29, .inr (.inr (.inr (.inr (gA ad)))))), (hv, .inl (cI, 29, .inl f))] := hD
  have hl : lv_has ls 5 [(0, .ref h0), (1, .long t)] := hl
  refine lv_lload_n (pc := 0) hx hb d_F_time_0 rfl (lv_at hl 1 rfl) ?_
  refine lv_lconst (pc := 1) (v := 0) hx hb d_F_time_1 (by decide) ?_
  refine W.lcmp (pc := 2) hx hb d_F_time_2 ?_
  refine lv_if_ge (pc := 3) (tgt := 10) hx hb d_F_time_3 (by decide) (fun c_1 => ?_) (fun c_1 => ?_)
  · refine lv_aload_n (pc := 10) hx hb d_F_time_10 rfl (lv_at hl 0 rfl) ?_
    refine va_get (pc := 11) (D := D) (ci := 1) (v := .ref h) (C := cn_F) (T := fT_F) (N := 2) hx hb hts in_F hown hX.1 hP 0 rfl rfl 0 (by decide) (hts _ kf_F_10) (fun _ h9 => h9) rfl d_F_time_11 ?_
    refine va_getN (pc := 14) (D := D) (ci := 0) (v := .long tm) (C := cn_C) (T := fT_C) (N := 6) hx hb hts in_C hown hX.1 hP 1 rfl rfl 3 (by decide) (hX.nw 2 rfl rfl) (fun _ h9 => h9) rfl d_F_time_14 ?_
    refine lv_lstore_n (pc := 17) (lv' := [(3, .long tm), (0, .ref h0), (1, .long t)]) hx hb d_F_time_17 rfl hl (by decide) rfl (fun ls hl => ?_)
    refine lv_aload_n (pc := 18) hx hb d_F_time_18 rfl (lv_at hl 1 rfl) ?_
    refine va_get (pc := 19) (D := D) (ci := 1) (v := .ref h) (C := cn_F) (T := fT_F) (N := 2) hx hb hts in_F hown hX.1 hP 0 rfl rfl 0 (by decide) (hts _ kf_F_10) (fun _ h9 => h9) rfl d_F_time_19 ?_
    refine lv_lload_n (pc := 22) hx hb d_F_time_22 rfl (lv_at hl 2 rfl) ?_
    refine va_putN (pc := 23) (D := D) (ci := 0) (v := .long t) (ty := .long) (C := cn_C) (T := fT_C) (N := 6) hx hb hts in_C tT_C tt_C nn_C hown hX.1 hP hD hS 1 rfl rfl 3 (by decide) (hX.nw 2 rfl rfl) (fun _ h9 => h9) rfl (by decide +kernel) rfl rfl (Nat.le_of_ble_eq_true rfl) d_F_time_23 (fun H locs hP hD hS => ?_)
    have hP : va_P D cls_ [(h0, .inr (1, [.ref h, .int od])), (h, .inr (0, [.ref ha, .ref hv, .int md, .long t, .long al, .int (bI ln)])), (ha, .inl (cR, 29, .inr (.inr (.inr (.inr (gA ad)))))), (hv, .inl (cI, 29, .inl f))] H := hP
    have hD : va_D _ [(h0, .inr (1, [.ref h, .int od])), (h, .inr (0, [.ref ha, .ref hv, .int md, .long t, .long al, .int (bI ln)])), (ha, .inl (cR, 29, .inr (.inr (.inr (.inr (gA ad)))))), (hv, .inl (cI, 29, .inl f))] := hD
    refine lv_lload_n (pc := 26) hx hb d_F_time_26 rfl (lv_at hl 0 rfl) ?_
    exact mu_lret (pc := 27) hx hb hr hlk hQ (by simp [timeR, c_1]) (by rw [show timeS tm t = t by simp [timeS, c_1]]; exact hP) hS d_F_time_27
  · refine lv_ldc2 (pc := 6) (v := (-1)) hx hb hown (hts _ kk_F_26) d_F_time_6 ?_
    exact mu_lret (pc := 9) hx hb hr hlk hQ (by simp [timeR, c_1]) (by rw [show timeS tm t = tm by simp [timeS, c_1]]; exact hP) hS d_F_time_9
set_option maxHeartbeats 4000000 in
set_option maxRecDepth 100000 in
theorem c_F_alarm (l : Launch) (D : va_G) (cI cR : ClassId) (ad : Nat → Nat) (h0 h ha hv : Nat) (f : Nat → Int32) (md : Int32) (tm al : Int64) (ln : Bool) (od : Int32) (t : Int64) : MU l y_F_alarm b_F_alarm 5 (some .long) 0 0 D cI cR ad (wF cI cR ad h0 h ha hv f md tm al ln od) [.ref h0, .long t] (some (.long al)) (wF cI cR ad h0 h ha hv f md tm (alarmS t) ln od) := by
  refine mu_ofW (by decide) (Nat.le_of_ble_eq_true rfl) ?_
  intro p e s m below meth c args Q ls hx hb hr hml hown hts hlk hP hX hE hl hQ hD hS
  have hown : s.vm.findClass cn_F = some m.cls := hown
  have hP : va_P D cls_ [(h0, .inr (1, [.ref h, .int od])), (h, .inr (0, [.ref ha, .ref hv, .int md, .long tm, .long al, .int (bI ln)])), (ha, .inl (cR, 29, .inr (.inr (.inr (.inr (gA ad)))))), (hv, .inl (cI, 29, .inl f))] s.heap := hP
  have hD : va_D _ [(h0, .inr (1, [.ref h, .int od])), (h, .inr (0, [.ref ha, .ref hv, .int md, .long tm, .long al, .int (bI ln)])), (ha, .inl (cR, 29, .inr (.inr (.inr (.inr (gA ad)))))), (hv, .inl (cI, 29, .inl f))] := hD
  have hl : lv_has ls 5 [(0, .ref h0), (1, .long t)] := hl
  refine lv_aload_n (pc := 0) hx hb d_F_alarm_0 rfl (lv_at hl 0 rfl) ?_
  refine va_get (pc := 1) (D := D) (ci := 1) (v := .ref h) (C := cn_F) (T := fT_F) (N := 2) hx hb hts in_F hown hX.1 hP 0 rfl rfl 0 (by decide) (hts _ kf_F_10) (fun _ h9 => h9) rfl d_F_alarm_1 ?_
  refine va_getN (pc := 4) (D := D) (ci := 0) (v := .long al) (C := cn_C) (T := fT_C) (N := 6) hx hb hts in_C hown hX.1 hP 1 rfl rfl 4 (by decide) (hX.nw 3 rfl rfl) (fun _ h9 => h9) rfl d_F_alarm_4 ?_
  refine lv_lstore_n (pc := 7) (lv' := [(3, .long al), (0, .ref h0), (1, .long t)]) hx hb d_F_alarm_7 rfl hl (by decide) rfl (fun ls hl => ?_)
  refine lv_aload_n (pc := 8) hx hb d_F_alarm_8 rfl (lv_at hl 1 rfl) ?_
  refine va_get (pc := 9) (D := D) (ci := 1) (v := .ref h) (C := cn_F) (T := fT_F) (N := 2) hx hb hts in_F hown hX.1 hP 0 rfl rfl 0 (by decide) (hts _ kf_F_10) (fun _ h9 => h9) rfl d_F_alarm_9 ?_
  refine lv_lload_n (pc := 12) hx hb d_F_alarm_12 rfl (lv_at hl 2 rfl) ?_
  refine lv_lconst (pc := 13) (v := 0) hx hb d_F_alarm_13 (by decide) ?_
  refine W.lcmp (pc := 14) hx hb d_F_alarm_14 ?_
  refine lv_if_ge (pc := 15) (tgt := 24) hx hb d_F_alarm_15 (by decide) (fun c_1 => ?_) (fun c_1 => ?_)
  · refine lv_lload_n (pc := 24) hx hb d_F_alarm_24 rfl (lv_at hl 2 rfl) ?_
    refine va_putN (pc := 25) (D := D) (ci := 0) (v := .long t) (ty := .long) (C := cn_C) (T := fT_C) (N := 6) hx hb hts in_C tT_C tt_C nn_C hown hX.1 hP hD hS 1 rfl rfl 4 (by decide) (hX.nw 3 rfl rfl) (fun _ h9 => h9) rfl (by decide +kernel) rfl rfl (Nat.le_of_ble_eq_true rfl) d_F_alarm_25 (fun H locs hP hD hS => ?_)
    have hP : va_P D cls_ [(h0, .inr (1, [.ref h, .int od])), (h, .inr (0, [.ref ha, .ref hv, .int md, .long tm, .long t, .int (bI ln)])), (ha, .inl (cR, 29, .inr (.inr (.inr (.inr (gA ad)))))), (hv, .inl (cI, 29, .inl f))] H := hP
    have hD : va_D _ [(h0, .inr (1, [.ref h, .int od])), (h, .inr (0, [.ref ha, .ref hv, .int md, .long tm, .long t, .int (bI ln)])), (ha, .inl (cR, 29, .inr (.inr (.inr (.inr (gA ad)))))), (hv, .inl (cI, 29, .inl f))] := hD
    refine lv_lload_n (pc := 28) hx hb d_F_alarm_28 rfl (lv_at hl 0 rfl) ?_
    exact mu_lret (pc := 29) hx hb hr hlk hQ rfl (by rw [show alarmS t = t by simp [alarmS, c_1]]; exact hP) hS d_F_alarm_29
  · refine lv_ldc2 (pc := 18) (v := 9223372036854775807) hx hb hown (hts _ kk_F_37) d_F_alarm_18 ?_
    refine lv_goto (pc := 21) (tgt := 25) hx hb d_F_alarm_21 (by decide) ?_
    refine va_putN (pc := 25) (D := D) (ci := 0) (v := .long 9223372036854775807) (ty := .long) (C := cn_C) (T := fT_C) (N := 6) hx hb hts in_C tT_C tt_C nn_C hown hX.1 hP hD hS 1 rfl rfl 4 (by decide) (hX.nw 3 rfl rfl) (fun _ h9 => h9) rfl (by decide +kernel) rfl rfl (Nat.le_of_ble_eq_true rfl) d_F_alarm_25 (fun H locs hP hD hS => ?_)
    have hP : va_P D cls_ [(h0, .inr (1, [.ref h, .int od])), (h, .inr (0, [.ref ha, .ref hv, .int md, .long tm, .long 9223372036854775807, .int (bI ln)])), (ha, .inl (cR, 29, .inr (.inr (.inr (.inr (gA ad)))))), (hv, .inl (cI, 29, .inl f))] H := hP
    have hD : va_D _ [(h0, .inr (1, [.ref h, .int od])), (h, .inr (0, [.ref ha, .ref hv, .int md, .long tm, .long 9223372036854775807, .int (bI ln)])), (ha, .inl (cR, 29, .inr (.inr (.inr (.inr (gA ad)))))), (hv, .inl (cI, 29, .inl f))] := hD
    refine lv_lload_n (pc := 28) hx hb d_F_alarm_28 rfl (lv_at hl 0 rfl) ?_
    exact mu_lret (pc := 29) hx hb hr hlk hQ rfl (by rw [show alarmS t = 9223372036854775807 by simp [alarmS, c_1]]; exact hP) hS d_F_alarm_29
set_option maxHeartbeats 4000000 in
set_option maxRecDepth 100000 in
theorem c_F_line (l : Launch) (D : va_G) (cI cR : ClassId) (ad : Nat → Nat) (h0 h ha hv : Nat) (f : Nat → Int32) (md : Int32) (tm al : Int64) (ln : Bool) (od : Int32) (b : Bool) : MU l y_F_line b_F_line 3 (some .boolean) 0 0 D cI cR ad (wF cI cR ad h0 h ha hv f md tm al ln od) [.ref h0, .int (bI b)] (some (.int (bI ln))) (wF cI cR ad h0 h ha hv f md tm al b od) := by
  refine mu_ofW (by decide) (Nat.le_of_ble_eq_true rfl) ?_
  intro p e s m below meth c args Q ls hx hb hr hml hown hts hlk hP hX hE hl hQ hD hS
  have hown : s.vm.findClass cn_F = some m.cls := hown
  have hP : va_P D cls_ [(h0, .inr (1, [.ref h, .int od])), (h, .inr (0, [.ref ha, .ref hv, .int md, .long tm, .long al, .int (bI ln)])), (ha, .inl (cR, 29, .inr (.inr (.inr (.inr (gA ad)))))), (hv, .inl (cI, 29, .inl f))] s.heap := hP
  have hD : va_D _ [(h0, .inr (1, [.ref h, .int od])), (h, .inr (0, [.ref ha, .ref hv, .int md, .long tm, .long al, .int (bI ln)])), (ha, .inl (cR, 29, .inr (.inr (.inr (.inr (gA ad)))))), (hv, .inl (cI, 29, .inl f))] := hD
  have hl : lv_has ls 3 [(0, .ref h0), (1, .int (bI b))] := hl
  refine lv_aload_n (pc := 0) hx hb d_F_line_0 rfl (lv_at hl 0 rfl) ?_
  refine va_get (pc := 1) (D := D) (ci := 1) (v := .ref h) (C := cn_F) (T := fT_F) (N := 2) hx hb hts in_F hown hX.1 hP 0 rfl rfl 0 (by decide) (hts _ kf_F_10) (fun _ h9 => h9) rfl d_F_line_1 ?_
  refine va_getN (pc := 4) (D := D) (ci := 0) (v := .int (bI ln)) (C := cn_C) (T := fT_C) (N := 6) hx hb hts in_C hown hX.1 hP 1 rfl rfl 5 (by decide) (hX.nw 4 rfl rfl) (fun _ h9 => h9) rfl d_F_line_4 ?_
  refine lv_istore_n (pc := 7) (lv' := [(2, .int (bI ln)), (0, .ref h0), (1, .int (bI b))]) hx hb d_F_line_7 rfl hl (by decide) rfl (fun ls hl => ?_)
  refine lv_aload_n (pc := 8) hx hb d_F_line_8 rfl (lv_at hl 1 rfl) ?_
  refine va_get (pc := 9) (D := D) (ci := 1) (v := .ref h) (C := cn_F) (T := fT_F) (N := 2) hx hb hts in_F hown hX.1 hP 0 rfl rfl 0 (by decide) (hts _ kf_F_10) (fun _ h9 => h9) rfl d_F_line_9 ?_
  refine lv_iload_n (pc := 12) hx hb d_F_line_12 rfl (lv_at hl 2 rfl) ?_
  refine va_putN (pc := 13) (D := D) (ci := 0) (v := .int (bI b)) (ty := .boolean) (C := cn_C) (T := fT_C) (N := 6) hx hb hts in_C tT_C tt_C nn_C hown hX.1 hP hD hS 1 rfl rfl 5 (by decide) (hX.nw 4 rfl rfl) (fun _ h9 => h9) rfl (by decide +kernel) (bI_nar _) (bI_fit _) (Nat.le_of_ble_eq_true rfl) d_F_line_13 (fun H locs hP hD hS => ?_)
  have hP : va_P D cls_ [(h0, .inr (1, [.ref h, .int od])), (h, .inr (0, [.ref ha, .ref hv, .int md, .long tm, .long al, .int (bI b)])), (ha, .inl (cR, 29, .inr (.inr (.inr (.inr (gA ad)))))), (hv, .inl (cI, 29, .inl f))] H := hP
  have hD : va_D _ [(h0, .inr (1, [.ref h, .int od])), (h, .inr (0, [.ref ha, .ref hv, .int md, .long tm, .long al, .int (bI b)])), (ha, .inl (cR, 29, .inr (.inr (.inr (.inr (gA ad)))))), (hv, .inl (cI, 29, .inl f))] := hD
  refine lv_iload_n (pc := 16) hx hb d_F_line_16 rfl (lv_at hl 0 rfl) ?_
  exact mu_zret (pc := 17) hx hb hr hlk hQ hP hS d_F_line_17
set_option maxHeartbeats 4000000 in
set_option maxRecDepth 100000 in
theorem c_F_begin (l : Launch) (D : va_G) (cI cR : ClassId) (ad : Nat → Nat) (h0 h ha hv : Nat) (f : Nat → Int32) (md : Int32) (tm al : Int64) (ln : Bool) (od : Int32)  : MU l y_F_begin b_F_begin 1 none 1 21 D cI cR ad (wF cI cR ad h0 h ha hv f md tm al ln od) [.ref h0] none (wF cI cR ad h0 h ha hv (fun _ => 0) 1 0 9223372036854775807 false 0) := by
  refine mu_ofW (by decide) (Nat.le_of_ble_eq_true rfl) ?_
  intro p e s m below meth c args Q ls hx hb hr hml hown hts hlk hP hX hE hl hQ hD hS
  have hown : s.vm.findClass cn_F = some m.cls := hown
  have hP : va_P D cls_ [(h0, .inr (1, [.ref h, .int od])), (h, .inr (0, [.ref ha, .ref hv, .int md, .long tm, .long al, .int (bI ln)])), (ha, .inl (cR, 29, .inr (.inr (.inr (.inr (gA ad)))))), (hv, .inl (cI, 29, .inl f))] s.heap := hP
  have hD : va_D _ [(h0, .inr (1, [.ref h, .int od])), (h, .inr (0, [.ref ha, .ref hv, .int md, .long tm, .long al, .int (bI ln)])), (ha, .inl (cR, 29, .inr (.inr (.inr (.inr (gA ad)))))), (hv, .inl (cI, 29, .inl f))] := hD
  have hl : lv_has ls 1 [(0, .ref h0)] := hl
  refine lv_aload_n (pc := 0) hx hb d_F_begin_0 rfl (lv_at hl 0 rfl) ?_
  refine va_get (pc := 1) (D := D) (ci := 1) (v := .ref h) (C := cn_F) (T := fT_F) (N := 2) hx hb hts in_F hown hX.1 hP 0 rfl rfl 0 (by decide) (hts _ kf_F_10) (fun _ h9 => h9) rfl d_F_begin_1 ?_
  refine mu_V (pc := 4) (As := []) (rest := []) hx hb hml hl.1 hown hts (c_C_begin l D cI cR ad h ha hv f md tm al ln) g_F_16 ⟨Nat.le_of_ble_eq_true rfl, Nat.le_of_ble_eq_true rfl⟩ (va_recv hX.1 hP (ci := 0) (q0 := 1) rfl rfl) hP hD hS hX hE [1, 2, 3] (by decide) rfl rfl rfl (Nat.le_of_ble_eq_true rfl) ⟨Nat.zero_le _, Nat.zero_le _⟩ d_F_begin_4 (fun H locs hP hD hS => ?_)
  have hP : va_P D cls_ [(h0, .inr (1, [.ref h, .int od])), (h, .inr (0, [.ref ha, .ref hv, .int 1, .long 0, .long 9223372036854775807, .int (bI false)])), (ha, .inl (cR, 29, .inr (.inr (.inr (.inr (gA ad)))))), (hv, .inl (cI, 29, .inl (fun _ => 0)))] H := hP
  have hD : va_D _ [(h0, .inr (1, [.ref h, .int od])), (h, .inr (0, [.ref ha, .ref hv, .int 1, .long 0, .long 9223372036854775807, .int (bI false)])), (ha, .inl (cR, 29, .inr (.inr (.inr (.inr (gA ad)))))), (hv, .inl (cI, 29, .inl (fun _ => 0)))] := hD
  refine W.eq (g2 := F0 m 7 ls []) rfl ?_
  refine lv_aload_n (pc := 7) hx hb d_F_begin_7 rfl (lv_at hl 0 rfl) ?_
  refine lv_iconst (pc := 8) (v := 0) hx hb d_F_begin_8 (by decide) ?_
  refine va_put (pc := 9) (D := D) (ci := 1) (v := .int 0) (ty := .int) (C := cn_F) (T := fT_F) (N := 2) hx hb hts in_F tT_F tt_F nn_F hown hX.1 hP hD hS 0 rfl rfl 1 (by decide) (hts _ kf_F_19) (fun _ h9 => h9) rfl (by decide +kernel) rfl rfl (Nat.le_of_ble_eq_true rfl) d_F_begin_9 (fun H locs hP hD hS => ?_)
  have hP : va_P D cls_ [(h0, .inr (1, [.ref h, .int 0])), (h, .inr (0, [.ref ha, .ref hv, .int 1, .long 0, .long 9223372036854775807, .int (bI false)])), (ha, .inl (cR, 29, .inr (.inr (.inr (.inr (gA ad)))))), (hv, .inl (cI, 29, .inl (fun _ => 0)))] H := hP
  have hD : va_D _ [(h0, .inr (1, [.ref h, .int 0])), (h, .inr (0, [.ref ha, .ref hv, .int 1, .long 0, .long 9223372036854775807, .int (bI false)])), (ha, .inl (cR, 29, .inr (.inr (.inr (.inr (gA ad)))))), (hv, .inl (cI, 29, .inl (fun _ => 0)))] := hD
  exact mu_vret (pc := 12) hx hb hr hlk hQ hP hS d_F_begin_12
set_option maxHeartbeats 4000000 in
set_option maxRecDepth 100000 in
theorem c_F_access (l : Launch) (D : va_G) (cI cR : ClassId) (ad : Nat → Nat) (h0 h ha hv : Nat) (f : Nat → Int32) (md : Int32) (tm al : Int64) (ln : Bool) (od : Int32) (n k v : Int32) (hok : okF f) : MU l y_F_access b_F_access 6 (some .int) 4 87 D cI cR ad (wF cI cR ad h0 h ha hv f md tm al ln od) [.ref h0, .int n, .int k, .int v] (some (.int (accR f md n k))) (wF cI cR ad h0 h ha hv (accS f md tm al ln n k v) md tm al ln (accO f md tm al ln od n k)) := by
  refine mu_ofW (by decide) (Nat.le_of_ble_eq_true rfl) ?_
  intro p e s m below meth c args Q ls hx hb hr hml hown hts hlk hP hX hE hl hQ hD hS
  have hown : s.vm.findClass cn_F = some m.cls := hown
  have hP : va_P D cls_ [(h0, .inr (1, [.ref h, .int od])), (h, .inr (0, [.ref ha, .ref hv, .int md, .long tm, .long al, .int (bI ln)])), (ha, .inl (cR, 29, .inr (.inr (.inr (.inr (gA ad)))))), (hv, .inl (cI, 29, .inl f))] s.heap := hP
  have hD : va_D _ [(h0, .inr (1, [.ref h, .int od])), (h, .inr (0, [.ref ha, .ref hv, .int md, .long tm, .long al, .int (bI ln)])), (ha, .inl (cR, 29, .inr (.inr (.inr (.inr (gA ad)))))), (hv, .inl (cI, 29, .inl f))] := hD
  have hl : lv_has ls 6 [(0, .ref h0), (1, .int n), (2, .int k), (3, .int v)] := hl
  refine lv_iload_n (pc := 0) hx hb d_F_access_0 rfl (lv_at hl 2 rfl) ?_
  refine lv_if_lt (pc := 1) (tgt := 9) hx hb d_F_access_1 (by decide) (fun c_1 => ?_) (fun c_1 => ?_)
  · refine lv_iconst (pc := 9) (v := (-1)) hx hb d_F_access_9 (by decide) ?_
    have hbad : accR f md n k = -1 := accR_bad (Or.inl c_1)
    have hne : ¬ accR f md n k = 0 := by rw [hbad]; decide
    exact mu_iret (pc := 10) hx hb hr hlk hQ hbad.symm (by rw [accS_no hne, accO_no hne]; exact hP) hS d_F_access_10
  · refine lv_iload_n (pc := 4) hx hb d_F_access_4 rfl (lv_at hl 2 rfl) ?_
    refine lv_iconst (pc := 5) (v := 3) hx hb d_F_access_5 (by decide) ?_
    refine lv_icmp_le (pc := 6) (tgt := 11) hx hb d_F_access_6 (by decide) (fun c_2 => ?_) (fun c_2 => ?_)
    · refine lv_aload_n (pc := 11) hx hb d_F_access_11 rfl (lv_at hl 0 rfl) ?_
      refine va_get (pc := 12) (D := D) (ci := 1) (v := .ref h) (C := cn_F) (T := fT_F) (N := 2) hx hb hts in_F hown hX.1 hP 0 rfl rfl 0 (by decide) (hts _ kf_F_10) (fun _ h9 => h9) rfl d_F_access_12 ?_
      refine lv_iload_n (pc := 15) hx hb d_F_access_15 rfl (lv_at hl 1 rfl) ?_
      refine lv_iload_n (pc := 16) hx hb d_F_access_16 rfl (lv_at hl 2 rfl) ?_
      refine lv_if_eq (pc := 17) (tgt := 24) hx hb d_F_access_17 (by decide) (fun c_3 => ?_) (fun c_3 => ?_)
      · have hk0 : k = 0 := c_3
        have eR : accR f md n k = refF f md (placeF n) false := accR_0 c_1 c_2 hk0
        refine lv_iconst (pc := 24) (v := 0) hx hb d_F_access_24 (by decide) ?_
        refine ro_V (pc := 25) (As := [.int n, .int 0]) (rest := []) hx hb hml hl.1 hown hts (c_C_refuses l D cI cR ad h ha hv f md tm al ln n false) g_F_43 ⟨Nat.le_of_ble_eq_true rfl, Nat.le_of_ble_eq_true rfl⟩ (va_recv hX.1 hP (ci := 0) (q0 := 1) rfl rfl) (wc_P hP [1, 2, 3] rfl) hX (hE.ro hS) rfl (Nat.le_of_ble_eq_true rfl) ⟨Nat.zero_le _, Nat.zero_le _⟩ d_F_access_25 ?_
        refine lv_istore (pc := 28) (lv' := [(4, .int (refF f md (placeF n) false)), (0, .ref h0), (1, .int n), (2, .int k), (3, .int v)]) hx hb d_F_access_28 hl (by decide) rfl (fun ls hl => ?_)
        refine lv_iload (pc := 30) hx hb d_F_access_30 (lv_at hl 0 rfl) ?_
        refine lv_if_eq (pc := 32) (tgt := 38) hx hb d_F_access_32 (by decide) (fun c_4 => ?_) (fun c_4 => ?_)
        · have hr0 : refF f md (placeF n) false = 0 := c_4
          obtain ⟨i, hi, hof, hpl⟩ := pl_some (ref_pl hr0)
          have hat : nI (atN md i) = atF md (placeF n) := by rw [hpl]; exact (at_N hi).1.symm
          have hi2 : atN md i < 29 := (at_N hi).2
          refine lv_aload_n (pc := 38) hx hb d_F_access_38 rfl (lv_at hl 1 rfl) ?_
          refine va_get (pc := 39) (D := D) (ci := 1) (v := .ref h) (C := cn_F) (T := fT_F) (N := 2) hx hb hts in_F hown hX.1 hP 0 rfl rfl 0 (by decide) (hts _ kf_F_10) (fun _ h9 => h9) rfl d_F_access_39 ?_
          refine lv_iload_n (pc := 42) hx hb d_F_access_42 rfl (lv_at hl 2 rfl) ?_
          refine ro_V (pc := 43) (As := [.int n]) (rest := []) hx hb hml hl.1 hown hts (c_C_meant l D cI cR ad h ha hv f md tm al ln n i hof) g_F_47 ⟨Nat.le_of_ble_eq_true rfl, Nat.le_of_ble_eq_true rfl⟩ (va_recv hX.1 hP (ci := 0) (q0 := 1) rfl rfl) (wc_P hP [1, 2, 3] rfl) hX (hE.ro hS) rfl (Nat.le_of_ble_eq_true rfl) ⟨Nat.zero_le _, Nat.zero_le _⟩ d_F_access_43 ?_
          refine lv_astore (pc := 46) (lv' := [(5, .ref (ad (atN md i))), (4, .int (refF f md (placeF n) false)), (0, .ref h0), (1, .int n), (2, .int k), (3, .int v)]) hx hb d_F_access_46 hl (by decide) rfl (fun ls hl => ?_)
          refine lv_aload_n (pc := 48) hx hb d_F_access_48 rfl (lv_at hl 2 rfl) ?_
          refine lv_aload_n (pc := 49) hx hb d_F_access_49 rfl (lv_at hl 2 rfl) ?_
          refine va_get (pc := 50) (D := D) (ci := 1) (v := .ref h) (C := cn_F) (T := fT_F) (N := 2) hx hb hts in_F hown hX.1 hP 0 rfl rfl 0 (by decide) (hts _ kf_F_10) (fun _ h9 => h9) rfl d_F_access_50 ?_
          refine lv_aload (pc := 53) hx hb d_F_access_53 (lv_at hl 0 rfl) ?_
          refine ro_V (pc := 55) (As := [.ref (ad (atN md i))]) (rest := [.ref h0]) hx hb hml hl.1 hown hts (c_C_get l D cI cR ad h ha hv f md tm al ln (atN md i) hi2) g_F_51 ⟨Nat.le_of_ble_eq_true rfl, Nat.le_of_ble_eq_true rfl⟩ (va_recv hX.1 hP (ci := 0) (q0 := 1) rfl rfl) (wc_P hP [1, 2, 3] rfl) hX (hE.ro hS) rfl (Nat.le_of_ble_eq_true rfl) ⟨Nat.zero_le _, Nat.zero_le _⟩ d_F_access_55 ?_
          refine top_eq (y := tellsF f tm al ln (atF md (placeF n))) (by rw [hat]) ?_
          refine va_put (pc := 58) (D := D) (ci := 1) (v := .int (tellsF f tm al ln (atF md (placeF n)))) (ty := .int) (C := cn_F) (T := fT_F) (N := 2) hx hb hts in_F tT_F tt_F nn_F hown hX.1 hP hD hS 0 rfl rfl 1 (by decide) (hts _ kf_F_19) (fun _ h9 => h9) rfl (by decide +kernel) rfl rfl (Nat.le_of_ble_eq_true rfl) d_F_access_58 (fun H locs hP hD hS => ?_)
          have hP : va_P D cls_ [(h0, .inr (1, [.ref h, .int (tellsF f tm al ln (atF md (placeF n)))])), (h, .inr (0, [.ref ha, .ref hv, .int md, .long tm, .long al, .int (bI ln)])), (ha, .inl (cR, 29, .inr (.inr (.inr (.inr (gA ad)))))), (hv, .inl (cI, 29, .inl f))] H := hP
          have hD : va_D _ [(h0, .inr (1, [.ref h, .int (tellsF f tm al ln (atF md (placeF n)))])), (h, .inr (0, [.ref ha, .ref hv, .int md, .long tm, .long al, .int (bI ln)])), (ha, .inl (cR, 29, .inr (.inr (.inr (.inr (gA ad)))))), (hv, .inl (cI, 29, .inl f))] := hD
          refine lv_iload_n (pc := 61) hx hb d_F_access_61 rfl (lv_at hl 4 rfl) ?_
          refine lv_if_eq (pc := 62) (tgt := 105) hx hb d_F_access_62 (by decide) (fun c_5 => ?_) (fun c_5 => absurd c_3 c_5)
          refine lv_iconst (pc := 105) (v := 0) hx hb d_F_access_105 (by decide) ?_
          have h00 : accR f md n k = 0 := eR.trans hr0
          exact mu_iret (pc := 106) hx hb hr hlk hQ h00.symm (by rw [accO_yes h00, accS_rd hk0]; exact hP) hS d_F_access_106
        · refine lv_iload (pc := 35) hx hb d_F_access_35 (lv_at hl 0 rfl) ?_
          have hne : ¬ accR f md n k = 0 := by rw [eR]; exact c_4
          exact mu_iret (pc := 37) hx hb hr hlk hQ eR.symm (by rw [accS_no hne, accO_no hne]; exact hP) hS d_F_access_37
      · have hk1 : ¬ k = 0 := c_3
        have eR : accR f md n k = refF f md (placeF n) true := accR_1 c_1 c_2 hk1
        refine lv_iconst (pc := 20) (v := 1) hx hb d_F_access_20 (by decide) ?_
        refine lv_goto (pc := 21) (tgt := 25) hx hb d_F_access_21 (by decide) ?_
        refine ro_V (pc := 25) (As := [.int n, .int 1]) (rest := []) hx hb hml hl.1 hown hts (c_C_refuses l D cI cR ad h ha hv f md tm al ln n true) g_F_43 ⟨Nat.le_of_ble_eq_true rfl, Nat.le_of_ble_eq_true rfl⟩ (va_recv hX.1 hP (ci := 0) (q0 := 1) rfl rfl) (wc_P hP [1, 2, 3] rfl) hX (hE.ro hS) rfl (Nat.le_of_ble_eq_true rfl) ⟨Nat.zero_le _, Nat.zero_le _⟩ d_F_access_25 ?_
        refine lv_istore (pc := 28) (lv' := [(4, .int (refF f md (placeF n) true)), (0, .ref h0), (1, .int n), (2, .int k), (3, .int v)]) hx hb d_F_access_28 hl (by decide) rfl (fun ls hl => ?_)
        refine lv_iload (pc := 30) hx hb d_F_access_30 (lv_at hl 0 rfl) ?_
        refine lv_if_eq (pc := 32) (tgt := 38) hx hb d_F_access_32 (by decide) (fun c_6 => ?_) (fun c_6 => ?_)
        · have hr0 : refF f md (placeF n) true = 0 := c_6
          obtain ⟨i, hi, hof, hpl⟩ := pl_some (ref_pl hr0)
          have hat : nI (atN md i) = atF md (placeF n) := by rw [hpl]; exact (at_N hi).1.symm
          have hi2 : atN md i < 29 := (at_N hi).2
          have h27 : ¬ (nI i = 27 ∨ nI i = 28) := by rw [← hpl]; exact ref_tm hr0
          refine lv_aload_n (pc := 38) hx hb d_F_access_38 rfl (lv_at hl 1 rfl) ?_
          refine va_get (pc := 39) (D := D) (ci := 1) (v := .ref h) (C := cn_F) (T := fT_F) (N := 2) hx hb hts in_F hown hX.1 hP 0 rfl rfl 0 (by decide) (hts _ kf_F_10) (fun _ h9 => h9) rfl d_F_access_39 ?_
          refine lv_iload_n (pc := 42) hx hb d_F_access_42 rfl (lv_at hl 2 rfl) ?_
          refine ro_V (pc := 43) (As := [.int n]) (rest := []) hx hb hml hl.1 hown hts (c_C_meant l D cI cR ad h ha hv f md tm al ln n i hof) g_F_47 ⟨Nat.le_of_ble_eq_true rfl, Nat.le_of_ble_eq_true rfl⟩ (va_recv hX.1 hP (ci := 0) (q0 := 1) rfl rfl) (wc_P hP [1, 2, 3] rfl) hX (hE.ro hS) rfl (Nat.le_of_ble_eq_true rfl) ⟨Nat.zero_le _, Nat.zero_le _⟩ d_F_access_43 ?_
          refine lv_astore (pc := 46) (lv' := [(5, .ref (ad (atN md i))), (4, .int (refF f md (placeF n) true)), (0, .ref h0), (1, .int n), (2, .int k), (3, .int v)]) hx hb d_F_access_46 hl (by decide) rfl (fun ls hl => ?_)
          refine lv_aload_n (pc := 48) hx hb d_F_access_48 rfl (lv_at hl 2 rfl) ?_
          refine lv_aload_n (pc := 49) hx hb d_F_access_49 rfl (lv_at hl 2 rfl) ?_
          refine va_get (pc := 50) (D := D) (ci := 1) (v := .ref h) (C := cn_F) (T := fT_F) (N := 2) hx hb hts in_F hown hX.1 hP 0 rfl rfl 0 (by decide) (hts _ kf_F_10) (fun _ h9 => h9) rfl d_F_access_50 ?_
          refine lv_aload (pc := 53) hx hb d_F_access_53 (lv_at hl 0 rfl) ?_
          refine ro_V (pc := 55) (As := [.ref (ad (atN md i))]) (rest := [.ref h0]) hx hb hml hl.1 hown hts (c_C_get l D cI cR ad h ha hv f md tm al ln (atN md i) hi2) g_F_51 ⟨Nat.le_of_ble_eq_true rfl, Nat.le_of_ble_eq_true rfl⟩ (va_recv hX.1 hP (ci := 0) (q0 := 1) rfl rfl) (wc_P hP [1, 2, 3] rfl) hX (hE.ro hS) rfl (Nat.le_of_ble_eq_true rfl) ⟨Nat.zero_le _, Nat.zero_le _⟩ d_F_access_55 ?_
          refine top_eq (y := tellsF f tm al ln (atF md (placeF n))) (by rw [hat]) ?_
          refine va_put (pc := 58) (D := D) (ci := 1) (v := .int (tellsF f tm al ln (atF md (placeF n)))) (ty := .int) (C := cn_F) (T := fT_F) (N := 2) hx hb hts in_F tT_F tt_F nn_F hown hX.1 hP hD hS 0 rfl rfl 1 (by decide) (hts _ kf_F_19) (fun _ h9 => h9) rfl (by decide +kernel) rfl rfl (Nat.le_of_ble_eq_true rfl) d_F_access_58 (fun H locs hP hD hS => ?_)
          have hP : va_P D cls_ [(h0, .inr (1, [.ref h, .int (tellsF f tm al ln (atF md (placeF n)))])), (h, .inr (0, [.ref ha, .ref hv, .int md, .long tm, .long al, .int (bI ln)])), (ha, .inl (cR, 29, .inr (.inr (.inr (.inr (gA ad)))))), (hv, .inl (cI, 29, .inl f))] H := hP
          have hD : va_D _ [(h0, .inr (1, [.ref h, .int (tellsF f tm al ln (atF md (placeF n)))])), (h, .inr (0, [.ref ha, .ref hv, .int md, .long tm, .long al, .int (bI ln)])), (ha, .inl (cR, 29, .inr (.inr (.inr (.inr (gA ad)))))), (hv, .inl (cI, 29, .inl f))] := hD
          refine lv_iload_n (pc := 61) hx hb d_F_access_61 rfl (lv_at hl 4 rfl) ?_
          refine lv_if_eq (pc := 62) (tgt := 105) hx hb d_F_access_62 (by decide) (fun c_7 => absurd c_7 c_3) (fun c_7 => ?_)
          refine lv_aload_n (pc := 65) hx hb d_F_access_65 rfl (lv_at hl 2 rfl) ?_
          refine va_get (pc := 66) (D := D) (ci := 1) (v := .ref h) (C := cn_F) (T := fT_F) (N := 2) hx hb hts in_F hown hX.1 hP 0 rfl rfl 0 (by decide) (hts _ kf_F_10) (fun _ h9 => h9) rfl d_F_access_66 ?_
          refine lv_aload (pc := 69) hx hb d_F_access_69 (lv_at hl 0 rfl) ?_
          refine lv_iload_n (pc := 71) hx hb d_F_access_71 rfl (lv_at hl 4 rfl) ?_
          refine lv_iconst (pc := 72) (v := 1) hx hb d_F_access_72 (by decide) ?_
          refine lv_icmp_ne (pc := 73) (tgt := 80) hx hb d_F_access_73 (by decide) (fun c_8 => ?_) (fun c_8 => ?_)
          · refine lv_iload_n (pc := 80) hx hb d_F_access_80 rfl (lv_at hl 4 rfl) ?_
            refine lv_iconst (pc := 81) (v := 2) hx hb d_F_access_81 (by decide) ?_
            refine lv_icmp_ne (pc := 82) (tgt := 94) hx hb d_F_access_82 (by decide) (fun c_9 => ?_) (fun c_9 => ?_)
            · refine lv_aload_n (pc := 94) hx hb d_F_access_94 rfl (lv_at hl 2 rfl) ?_
              refine va_get (pc := 95) (D := D) (ci := 1) (v := .int (tellsF f tm al ln (atF md (placeF n)))) (C := cn_F) (T := fT_F) (N := 2) hx hb hts in_F hown hX.1 hP 0 rfl rfl 1 (by decide) (hts _ kf_F_19) (fun _ h9 => h9) rfl d_F_access_95 ?_
              refine lv_iload_n (pc := 98) hx hb d_F_access_98 rfl (lv_at hl 5 rfl) ?_
              refine lv_iconst (pc := 99) (v := (-1)) hx hb d_F_access_99 (by decide) ?_
              refine lv_ixor (pc := 100) hx hb d_F_access_100 ?_
              refine lv_iand (pc := 101) hx hb d_F_access_101 ?_
              refine top_eq (pc := 102) (y := valF k (tellsF f tm al ln (atF md (placeF n))) v) (by simp only [valF, if_neg c_8, if_neg c_9]) ?_
              refine mu_V (pc := 102) (As := [.ref (ad (atN md i)), .int (valF k (tellsF f tm al ln (atF md (placeF n))) v)]) (rest := []) hx hb hml hl.1 hown hts (c_C_set l D cI cR ad h ha hv f md tm al ln (atN md i) (at_27 hi h27) (valF k (tellsF f tm al ln (atF md (placeF n))) v) hok) g_F_55 ⟨Nat.le_of_ble_eq_true rfl, Nat.le_of_ble_eq_true rfl⟩ (va_recv hX.1 hP (ci := 0) (q0 := 1) rfl rfl) hP hD hS hX hE [1, 2, 3] (by decide) rfl rfl rfl (Nat.le_of_ble_eq_true rfl) ⟨Nat.zero_le _, Nat.zero_le _⟩ d_F_access_102 (fun H locs hP hD hS => ?_)
              have hP : va_P D cls_ [(h0, .inr (1, [.ref h, .int (tellsF f tm al ln (atF md (placeF n)))])), (h, .inr (0, [.ref ha, .ref hv, .int md, .long tm, .long al, .int (bI ln)])), (ha, .inl (cR, 29, .inr (.inr (.inr (.inr (gA ad)))))), (hv, .inl (cI, 29, .inl (writeF f (nI (atN md i)) (valF k (tellsF f tm al ln (atF md (placeF n))) v))))] H := hP
              have hD : va_D _ [(h0, .inr (1, [.ref h, .int (tellsF f tm al ln (atF md (placeF n)))])), (h, .inr (0, [.ref ha, .ref hv, .int md, .long tm, .long al, .int (bI ln)])), (ha, .inl (cR, 29, .inr (.inr (.inr (.inr (gA ad)))))), (hv, .inl (cI, 29, .inl (writeF f (nI (atN md i)) (valF k (tellsF f tm al ln (atF md (placeF n))) v))))] := hD
              refine W.eq (g2 := F0 m 105 ls []) rfl ?_
              refine lv_iconst (pc := 105) (v := 0) hx hb d_F_access_105 (by decide) ?_
              have h00 : accR f md n k = 0 := eR.trans hr0
              exact mu_iret (pc := 106) hx hb hr hlk hQ h00.symm (by rw [accO_yes h00, accS_wr h00 hk1, ← hat]; rw [← hat] at hP; exact hP) hS d_F_access_106
            · refine lv_aload_n (pc := 85) hx hb d_F_access_85 rfl (lv_at hl 2 rfl) ?_
              refine va_get (pc := 86) (D := D) (ci := 1) (v := .int (tellsF f tm al ln (atF md (placeF n)))) (C := cn_F) (T := fT_F) (N := 2) hx hb hts in_F hown hX.1 hP 0 rfl rfl 1 (by decide) (hts _ kf_F_19) (fun _ h9 => h9) rfl d_F_access_86 ?_
              refine lv_iload_n (pc := 89) hx hb d_F_access_89 rfl (lv_at hl 5 rfl) ?_
              refine lv_ior (pc := 90) hx hb d_F_access_90 ?_
              refine lv_goto (pc := 91) (tgt := 102) hx hb d_F_access_91 (by decide) ?_
              refine top_eq (pc := 102) (y := valF k (tellsF f tm al ln (atF md (placeF n))) v) (by simp only [valF, if_neg c_8, if_pos c_9]) ?_
              refine mu_V (pc := 102) (As := [.ref (ad (atN md i)), .int (valF k (tellsF f tm al ln (atF md (placeF n))) v)]) (rest := []) hx hb hml hl.1 hown hts (c_C_set l D cI cR ad h ha hv f md tm al ln (atN md i) (at_27 hi h27) (valF k (tellsF f tm al ln (atF md (placeF n))) v) hok) g_F_55 ⟨Nat.le_of_ble_eq_true rfl, Nat.le_of_ble_eq_true rfl⟩ (va_recv hX.1 hP (ci := 0) (q0 := 1) rfl rfl) hP hD hS hX hE [1, 2, 3] (by decide) rfl rfl rfl (Nat.le_of_ble_eq_true rfl) ⟨Nat.zero_le _, Nat.zero_le _⟩ d_F_access_102 (fun H locs hP hD hS => ?_)
              have hP : va_P D cls_ [(h0, .inr (1, [.ref h, .int (tellsF f tm al ln (atF md (placeF n)))])), (h, .inr (0, [.ref ha, .ref hv, .int md, .long tm, .long al, .int (bI ln)])), (ha, .inl (cR, 29, .inr (.inr (.inr (.inr (gA ad)))))), (hv, .inl (cI, 29, .inl (writeF f (nI (atN md i)) (valF k (tellsF f tm al ln (atF md (placeF n))) v))))] H := hP
              have hD : va_D _ [(h0, .inr (1, [.ref h, .int (tellsF f tm al ln (atF md (placeF n)))])), (h, .inr (0, [.ref ha, .ref hv, .int md, .long tm, .long al, .int (bI ln)])), (ha, .inl (cR, 29, .inr (.inr (.inr (.inr (gA ad)))))), (hv, .inl (cI, 29, .inl (writeF f (nI (atN md i)) (valF k (tellsF f tm al ln (atF md (placeF n))) v))))] := hD
              refine W.eq (g2 := F0 m 105 ls []) rfl ?_
              refine lv_iconst (pc := 105) (v := 0) hx hb d_F_access_105 (by decide) ?_
              have h00 : accR f md n k = 0 := eR.trans hr0
              exact mu_iret (pc := 106) hx hb hr hlk hQ h00.symm (by rw [accO_yes h00, accS_wr h00 hk1, ← hat]; rw [← hat] at hP; exact hP) hS d_F_access_106
          · refine lv_iload_n (pc := 76) hx hb d_F_access_76 rfl (lv_at hl 5 rfl) ?_
            refine lv_goto (pc := 77) (tgt := 102) hx hb d_F_access_77 (by decide) ?_
            refine top_eq (pc := 102) (y := valF k (tellsF f tm al ln (atF md (placeF n))) v) (by simp only [valF, if_pos c_8]) ?_
            refine mu_V (pc := 102) (As := [.ref (ad (atN md i)), .int (valF k (tellsF f tm al ln (atF md (placeF n))) v)]) (rest := []) hx hb hml hl.1 hown hts (c_C_set l D cI cR ad h ha hv f md tm al ln (atN md i) (at_27 hi h27) (valF k (tellsF f tm al ln (atF md (placeF n))) v) hok) g_F_55 ⟨Nat.le_of_ble_eq_true rfl, Nat.le_of_ble_eq_true rfl⟩ (va_recv hX.1 hP (ci := 0) (q0 := 1) rfl rfl) hP hD hS hX hE [1, 2, 3] (by decide) rfl rfl rfl (Nat.le_of_ble_eq_true rfl) ⟨Nat.zero_le _, Nat.zero_le _⟩ d_F_access_102 (fun H locs hP hD hS => ?_)
            have hP : va_P D cls_ [(h0, .inr (1, [.ref h, .int (tellsF f tm al ln (atF md (placeF n)))])), (h, .inr (0, [.ref ha, .ref hv, .int md, .long tm, .long al, .int (bI ln)])), (ha, .inl (cR, 29, .inr (.inr (.inr (.inr (gA ad)))))), (hv, .inl (cI, 29, .inl (writeF f (nI (atN md i)) (valF k (tellsF f tm al ln (atF md (placeF n))) v))))] H := hP
            have hD : va_D _ [(h0, .inr (1, [.ref h, .int (tellsF f tm al ln (atF md (placeF n)))])), (h, .inr (0, [.ref ha, .ref hv, .int md, .long tm, .long al, .int (bI ln)])), (ha, .inl (cR, 29, .inr (.inr (.inr (.inr (gA ad)))))), (hv, .inl (cI, 29, .inl (writeF f (nI (atN md i)) (valF k (tellsF f tm al ln (atF md (placeF n))) v))))] := hD
            refine W.eq (g2 := F0 m 105 ls []) rfl ?_
            refine lv_iconst (pc := 105) (v := 0) hx hb d_F_access_105 (by decide) ?_
            have h00 : accR f md n k = 0 := eR.trans hr0
            exact mu_iret (pc := 106) hx hb hr hlk hQ h00.symm (by rw [accO_yes h00, accS_wr h00 hk1, ← hat]; rw [← hat] at hP; exact hP) hS d_F_access_106
        · refine lv_iload (pc := 35) hx hb d_F_access_35 (lv_at hl 0 rfl) ?_
          have hne : ¬ accR f md n k = 0 := by rw [eR]; exact c_6
          exact mu_iret (pc := 37) hx hb hr hlk hQ eR.symm (by rw [accS_no hne, accO_no hne]; exact hP) hS d_F_access_37
    · refine lv_iconst (pc := 9) (v := (-1)) hx hb d_F_access_9 (by decide) ?_
      have hbad : accR f md n k = -1 := accR_bad (Or.inr (Int32.not_le.mp c_2))
      have hne : ¬ accR f md n k = 0 := by rw [hbad]; decide
      exact mu_iret (pc := 10) hx hb hr hlk hQ hbad.symm (by rw [accS_no hne, accO_no hne]; exact hP) hS d_F_access_10
end
section
-- CONTRACTS: values() and the constructors
abbrev arR (ad : Nat → Nat) : vp_A := (29, .inr (.inr (.inr (.inr (gA ad)))))
/-- what the static array of the constants is: never written, its kind cR, its 29 places the constants -/
def VS (cR : ClassId) (ad : Nat → Nat) (A : Nat → Prop) (U : State) (H : Heap) : Prop := ∃ (t : Nat) (cell : Cell), va_Z cn_E "$VALUES" "[LControlFile$Control;" (.ref t) A U H ∧ ¬ A t ∧ U.vm.findClass "[LControlFile$Control;" = some cR ∧ va_Nw (.castable "[LControlFile$Control;" "java/lang/Cloneable") U ∧ H[t]? = some cell ∧ cell.vm.isStatics = false ∧ cell.vm ≠ .unknown ∧ cell.cls = cR ∧ cell.slots = (arrV cR 29 (fun j => Value.ref (ad j))).slots
theorem VS.moved {cR : ClassId} {ad : Nat → Nat} {A : Nat → Prop} {u U : State} {H : Heap} (hvm : u.vm.Alike U.vm) (h : VS cR ad A u H) : VS cR ad A U H := by
  obtain ⟨t, cell, h1, h2, h3, h4, h5⟩ := h
  exact ⟨t, cell, va_Z.moved hvm h1, h2, by rw [hvm.findClass]; exact h3, va_tabs rfl (rfl : (u.setVm U.vm).vm = U.vm) (by rw [Cond.castable_setVm hvm]; exact h4), h5⟩
theorem VS.kept {cR : ClassId} {ad : Nat → Nat} {A : Nat → Prop} {U : State} {H H1 : Heap} (h : VS cR ad A U H) (hq : ∀ a : Nat, a < H.size → ¬ A a → H1[a]? = H[a]?) : VS cR ad A U H1 := by
  obtain ⟨t, cell, h1, h2, h3, h4, h5, h6⟩ := h
  exact ⟨t, cell, h1.kept hq, h2, h3, h4, by rw [hq t (Array.getElem?_eq_some_iff.mp h5).1 h2]; exact h5, h6⟩
theorem VS.narrow {cR : ClassId} {ad : Nat → Nat} {A B : Nat → Prop} {U : State} {H : Heap} (h : VS cR ad A U H) (hAB : ∀ q, B q → A q) : VS cR ad B U H := by
  obtain ⟨t, cell, h1, h2, h3⟩ := h
  exact ⟨t, cell, h1.narrow hAB, fun z => h2 (hAB t z), h3⟩
def vs_P (D : va_G) (cI cR : ClassId) (ad : Nat → Nat) (sz : Nat) : Array Value → State → Prop := fun v U => v = ([] : List Value).toArray ∧ U.heap.size = sz ∧ KX D cI cR U ∧ VS cR ad (fun q => sz ≤ q) U U.heap
def vs_Q (cR : ClassId) (ad : Nat → Nat) : Array Value → State → Outcome → State → Prop := fun _ st o t => o = .returned (some (.ref st.heap.size)) ∧ t.heap = st.heap.push (vp_cell cR (arR ad))
def al_P (D : va_G) (cI cR : ClassId) (ad : Nat → Nat) (ws : va_W) (av : List Value) (sz : Nat) : Array Value → State → Prop := fun v U => v = av.toArray ∧ U.heap.size = sz ∧ va_P D cls_ ws U.heap ∧ KX D cI cR U ∧ va_D (va_A ws sz) ws ∧ EN ad (va_A ws sz) U U.heap ∧ VS cR ad (va_A ws sz) U U.heap
section InitW
variable {p : Program} {l : Launch} {e : Env} {R : Room} {s : State} {m : MethodId} {args : Array Value} {below : List Frame} {meth : Method} {c : Code} {H : Heap} {locs : List Loc} {cells slots : Nat} {Q : State → Prop}
variable {cc : ByteArray} {pc : Nat} {ls : Array Slot} {rest st0 : List Value} {D : va_G} {cI cR : ClassId} {ad : Nat → Nat} {A : Nat → Prop} {ws : va_W} {H0 : Heap}
theorem w_clone (hx : p.tables.exec = Jvm.exec) (hb : c.code = cc) (hml : c.maxLocals = ls.size) (hown : s.vm.findClass cn_E = some m.cls) (hts : ∀ w ∈ lw_g, w.before args s = true) (hX : KX D cI cR s) {t : Nat} {cell : Cell} (hcell : H[t]? = some cell) (hst : cell.vm.isStatics = false) (hkn : cell.vm ≠ .unknown) (hcR : s.vm.findClass "[LControlFile$Control;" = some cR) (hcls : cell.cls = cR) (hsl : cell.slots = (arrV cR 29 (fun j => Value.ref (ad j))).slots) (hcl : va_Nw (.castable "[LControlFile$Control;" "java/lang/Cloneable") s)
    (hframes : 1 ≤ R.frames) (hlocals : (rest.map fun v => v.category).sum + 14 ≤ R.locals) (hcells : cells + 1 ≤ R.cells) (hslots : slots + 29 ≤ R.slots) (hdg : decode cc pc = .ok (.invokevirtual 95, 3))
    (kk : W p l e R s m args below meth c (H.push (vp_cell cR (arR ad))) locs (cells + 1) (slots + 29) Q (F0 m (pc + 3) ls (.ref H.size :: rest))) : W p l e R s m args below meth c H locs cells slots Q (F0 m pc ls (.ref t :: rest)) := by
  obtain ⟨c0, t0', f1, f2, f3⟩ := Cond.castable_spec (va_Nw.use (A := args) rfl hcl)
  cases hcR.symm.trans f1
  have hsz : cell.slots.size = 29 := by rw [hsl]; exact arrV_size _ _ _
  have hcellE : ({ cls := cell.cls, slots := cell.slots } : Cell) = vp_cell cR (arR ad) := by rw [hcls, hsl]; rfl
  intro T hT X
  obtain ⟨-, kA, hkA, comp, hkind⟩ := State.isArrayOf_alike X.warmed.alike ((hX.1.2 1 _ rfl).1 0 (fun _ => .null))
  obtain ⟨-, kS, hkS, compS, hkindS⟩ := (hX.1.2 1 _ rfl).1 0 (fun _ => .null)
  obtain ⟨vm', X', st⟩ := X.cloneArray hx hown (hts _ km_E_95) (hts _ kw_Z_clone) (hts _ kx_native) (hts _ ko_O_clone) (hts _ ks_O_clone) (a := t) (cell := cell) (by rw [hT]; exact hcell) (fun k h => by rw [h] at hst; cases hst) hkn (by rw [hcls]; exact hcR) f2 (by rw [hcls]; exact f3)
    (fun i v hv => by
      rw [hcls]
      have hk' : T.vm.classes[cR]? = some kA := hkA
      have hf : fits (.object "ControlFile$Control") v = true := va_fit (cA := cR) (n := 29) (F := fun j => Value.ref (ad j)) (fun _ _ => rfl) i v (by rw [← hsl]; exact hv)
      simpa [State.fitsSlot, State.slotType?, hk', hkind] using hf)
    (g := F0 m pc ls (.ref t :: rest)) rfl (by rw [hml]) rfl (by rw [hb]; exact hdg) hframes (by show 2 * 0 + _ + 14 ≤ _; omega) hcells (by rw [hsz]; exact hslots) (hloader := by rw [hcls]; exact Vm.clonesLoader_of_array hkS hkindS)
  rw [hcellE, hsz] at X'
  obtain ⟨t2, a1, b1⟩ := kk ((T.setVm vm').pushCell (vp_cell cR (arR ad))) (by rw [← hT]; rfl) X'
  refine ⟨t2, st t2 ?_, b1⟩
  rw [hcellE, hT]
  exact a1
theorem w_push (hP : va_P D cls_ ws H) (hD : va_D A ws) (hS : va_S A H0 H locs) (hA : ∀ q, H0.size ≤ q → A q) {cA : ClassId} {x : vp_A} : va_P D cls_ (ws ++ [(H.size, .inl (cA, x))]) (H.push (vp_cell cA x)) ∧ va_D A (ws ++ [(H.size, .inl (cA, x))]) ∧ va_S A H0 (H.push (vp_cell cA x)) locs := by
  have o1 : ∀ q : Nat, q < H.size → (H.push (vp_cell cA x))[q]? = H[q]? := fun q hq => by rw [Array.getElem?_push, if_neg (Nat.ne_of_lt hq)]
  refine ⟨va_P.app (hP.kept (fun k y hy => o1 y.1 (hP k y hy).lt)) (fun k y hy => ?_), hD.push hP rfl (hA _ hS.1), ⟨Nat.le_trans hS.1 (by rw [Array.size_push]; omega), fun y h1 h2 => (o1 y (Nat.lt_of_lt_of_le h1 hS.1)).trans (hS.2.1 y h1 h2), hS.2.2⟩⟩
  have hz : k < 1 := (List.getElem?_eq_some_iff.mp hy).1
  rw [show k = 0 by omega] at hy
  cases hy
  show (H.push (vp_cell cA x))[H.size]? = _
  rw [Array.getElem?_push_size]
theorem vs_call {nL fr lo : Nat} (hx : p.tables.exec = Jvm.exec) (hb : c.code = cc) (hml : c.maxLocals = nL) (hsz : ls.size = nL) (hown : s.vm.findClass cn_C = some m.cls) (hts : ∀ w ∈ lw_g, w.before args s = true)
    (hM : ∀ sz, Met l y_E_values (wd y_E_values b_E_values 0 (some (.array (.object "ControlFile$Control")))) { frames := fr, cells := 1, slots := 29, locals := lo } (vs_P D cI cR ad sz) (vs_Q cR ad) 1 29 (fun _ => False)) (hR : fr + 1 ≤ R.frames ∧ 8 + (0 + 11) + lo ≤ R.locals)
    (hP : va_P D cls_ ws H) (hD : va_D A ws) (hS : va_S A s.heap H locs) (hA : ∀ q, s.heap.size ≤ q → A q) (hX : KX D cI cR s) (hV : VS cR ad A s s.heap)
    (hW : (rest.map fun v => v.category).sum ≤ 8) (hf : cells + 1 ≤ R.cells ∧ slots + 29 ≤ R.slots) (hdg : decode cc pc = .ok (.invokestatic 7, 3))
    (kk : ∀ (q : Nat) (H1 : Heap), va_P D cls_ (ws ++ [(q, .inl (cR, arR ad))]) H1 → va_D A (ws ++ [(q, .inl (cR, arR ad))]) → va_S A s.heap H1 locs → W p l e R s m args below meth c H1 locs (cells + 1) (slots + 29) Q (F0 m (pc + 3) ls (.ref q :: rest))) : W p l e R s m args below meth c H locs cells slots Q (F0 m pc ls rest) := by
  have hr : va_Run p l e R s m args below meth c H locs cells slots 1 29 (F0 m pc ls rest) rest (vs_Q cR ad ([] : List Value).toArray) (fun _ => False) :=
    va_runS (As := []) (rest := rest) ⟨hx, hb, hml, hown, hts⟩ (hM H.size) (va_cwS 0 hts g_C_7.1 rfl rfl rfl g_C_7.2 hR) ⟨fun a U g mk q => ⟨q.1, q.2.1, KX.same (s := U) (U := U.calling g mk a) rfl q.2.2.1, VS.moved (u := U) (U := U.calling g mk a) (Vm.Alike.refl U.vm) q.2.2.2⟩, fun U hU hW9 => ⟨rfl, by rw [hU], KX.warm hW9 hX, by rw [hU]; exact ((hV.kept hS.2.1).moved hW9.alike).narrow (fun q h => hA q (Nat.le_trans hS.1 h))⟩⟩ rfl rfl hsz rfl (lv_room hW) hdg hf
  intro T hT X
  obtain ⟨v', st₀, t, T', L, h0, X', hL, e1, e2, ⟨hv, hh⟩, st⟩ := hr T hT X
  cases hv
  obtain ⟨g1, g2, g3⟩ := w_push (cA := cR) (x := arR ad) hP hD hS hA
  obtain ⟨t2, a1, b1⟩ := kk H.size _ g1 g2 g3 T' (by rw [e1, hh, h0]) (Stand.forget X' (fun q h => (hL q h).elim))
  refine ⟨t2, st t2 ?_, b1⟩
  show Steps p.tables e below (T'.setTop (F0 m (pc + 3) ls (.ref st₀.heap.size :: rest))) t2
  rw [h0]
  exact a1
end InitW
set_option maxHeartbeats 4000000 in
set_option maxRecDepth 100000 in
/-- Control.values(): a new array of the 29 constants -/
theorem c_E_values (l : Launch) (D : va_G) (cI cR : ClassId) (ad : Nat → Nat) (sz : Nat) : Met l y_E_values (wd y_E_values b_E_values 0 (some (.array (.object "ControlFile$Control")))) { frames := 1, cells := 1, slots := 29, locals := 14 } (vs_P D cI cR ad sz) (vs_Q cR ad) 1 29 (fun _ => False) := by
  refine Met.ofW (cc := b_E_values) (maxL := 0) (ret := some (.array (.object "ControlFile$Control"))) (by decide) rfl ?_
  intro p e s m args below meth c s₁ B hml hv
  obtain ⟨rfl, hsz, hX, hV⟩ := hv
  have hts0 := atoms_spec (ws := wd y_E_values b_E_values 0 (some (.array (.object "ControlFile$Control")))) B.pre
  have hts : ∀ w ∈ lw_g, w.before ([] : List Value).toArray s = true := fun w hw => hts0 w (List.mem_cons_of_mem _ hw)
  have hx := B.exec
  have hb := B.bytes
  have hr := B.returns
  have hlk := B.notSynchronized
  have hown : s.vm.findClass cn_E = some m.cls := findClass_of_methodNamed B.named
  obtain ⟨t, cell, hZ, hnA, hcR, hcl, hcell, hst, hkn, hcls, hsl⟩ := hV
  have hl := lv_entry ([] : List Value) (n := 0) (Nat.le_refl 0)
  rw [lg_entry_eq]
  generalize (lg_sl ([] : List Value) ++ List.replicate (0 - (lg_sl ([] : List Value)).length) Slot.unset).toArray = ls at hl ⊢
  refine va_gets (pc := 0) (A := fun q => sz ≤ q) hx hb hZ va_S.rf hown (hts _ kf_E_91) (fun _ h => h) d_E_values_0 ?_
  refine w_clone (pc := 3) hx hb (hml.trans hl.1.symm) hown hts hX hcell hst hkn hcR hcls hsl hcl (Nat.le_of_ble_eq_true rfl) (Nat.le_of_ble_eq_true rfl) (Nat.le_of_ble_eq_true rfl) (Nat.le_of_ble_eq_true rfl) d_E_values_3 ?_
  have hP : va_P D cls_ [(s.heap.size, .inl (cR, arR ad))] (s.heap.push (vp_cell cR (arR ad))) := by
    intro k y hy
    have hz : k < 1 := (List.getElem?_eq_some_iff.mp hy).1
    rw [show k = 0 by omega] at hy
    cases hy
    show (s.heap.push (vp_cell cR (arR ad)))[s.heap.size]? = _
    rw [Array.getElem?_push_size]
  refine va_castA (pc := 6) hx hb hown (hts _ kl_E_96) hP 0 rfl hcR d_E_values_6 ?_
  exact W.aret (pc := 9) hx hb hr (Or.inr ⟨_, rfl⟩) (Or.inr ⟨_, rfl⟩) (fun t ht _ => ⟨rfl, ht⟩) (fun q h => by cases h) d_E_values_9 hlk
end
section
-- CONTRACTS: the three constructors
abbrev z_C (h : Nat) : va_W := [(h, .inr (0, [.null, .null, .int 0, .long 0, .long 0, .int (bI false)]))]
abbrev z_F (h0 : Nat) : va_W := [(h0, .inr (1, [.null, .int 0]))]
abbrev z_M (h : Nat) : va_W := [(h, .inr (2, [.null, .int 0, .long 0, .long 0, .int (bI false), .int 0]))]
theorem al_ofW {l : Launch} {y : MethodName} {b : ByteArray} {n : Nat} {rm : Room} {mc ms : Nat} {D : va_G} {cI cR : ClassId} {ad : Nat → Nat} {ws : va_W} {av : List Value} {sz : Nat} {Qc : Array Value → State → Outcome → State → Prop} (hy : plainName y.cls = true) (hn : (lg_sl av).length ≤ n)
    (body : ∀ (p : Program) (e : Env) (s : State) (m : MethodId) (below : List Frame) (meth : Method) (c : Code) (args : Array Value) (ls : Array Slot), p.tables.exec = Jvm.exec → c.code = b → meth.sig.returnType = none → c.maxLocals = n → s.vm.findClass y.cls = some m.cls → (∀ w ∈ lw_g, w.before args s = true) → meth.locks = false → meth.name = y.name → (∀ q, s.heap.size ≤ q → va_A ws sz q) → va_P D cls_ ws s.heap → KX D cI cR s → EN ad (va_A ws sz) s s.heap → VS cR ad (va_A ws sz) s s.heap → lv_has ls n (lv_args 0 av) → va_D (va_A ws sz) ws → va_S (va_A ws sz) s.heap s.heap [] →
      W p l e rm s m args below meth c s.heap [] 0 0 (MQ below Qc args s mc ms (va_A ws sz)) (F0 m 0 ls [])) : Met l y (wd y b n none) rm (al_P D cI cR ad ws av sz) Qc mc ms (va_A ws sz) := by
  refine Met.ofW (cc := b) (maxL := n) (ret := none) hy rfl ?_
  intro p e s m args below meth c s₁ B hml hv
  obtain ⟨rfl, hsz, hP, hX, hD, hE, hV⟩ := hv
  have hts := atoms_spec (ws := wd y b n none) B.pre
  have hl := lv_entry av (n := n) hn
  rw [lg_entry_eq]
  generalize (lg_sl av ++ List.replicate (n - (lg_sl av).length) Slot.unset).toArray = ls at hl ⊢
  exact body p e s m below meth c _ ls B.exec B.bytes B.returns hml (findClass_of_methodNamed B.named) (fun w hw => hts w (List.mem_cons_of_mem _ hw)) B.notSynchronized (name_of_methodNamed B.named B.method).1 (fun q h => Or.inr (by rw [← hsz]; exact h)) hP hX hE hV hl hD va_S.rf
theorem al_blind {D : va_G} {cI cR : ClassId} {ad : Nat → Nat} {ws : va_W} {av : List Value} {sz : Nat} : FrameBlind (al_P D cI cR ad ws av sz) := fun a U g mk q => ⟨q.1, q.2.1, q.2.2.1, KX.same (s := U) (U := U.calling g mk a) rfl q.2.2.2.1, q.2.2.2.2.1, EN.moved (u := U) (U := U.calling g mk a) (Vm.Alike.refl U.vm) q.2.2.2.2.2.1, VS.moved (u := U) (U := U.calling g mk a) (Vm.Alike.refl U.vm) q.2.2.2.2.2.2⟩
theorem al_pre {D : va_G} {cI cR : ClassId} {ad : Nat → Nat} {A : Nat → Prop} {wc ws : va_W} {av : List Value} {s : State} {H : Heap} {locs : List Loc} (hP : va_P D cls_ ws H) (hD : va_D A ws) (hS : va_S A s.heap H locs) (hA : ∀ q, s.heap.size ≤ q → A q) (hX : KX D cI cR s) (hE : EN ad A s s.heap) (hV : VS cR ad A s s.heap) (is : List Nat) (hn : va_nd is = true) (hC : is.map (fun i => ws[i]?) = wc.map some) : ∀ U : State, U.heap = H → s.WarmedH U.vm → al_P D cI cR ad wc av H.size av.toArray U := by
  intro U hU hW
  have hF := va_free (wc := wc) hD hS hA is hC
  refine ⟨rfl, by rw [hU], by rw [hU]; exact wc_P hP is hC, KX.warm hW hX, (hD.sub is hn hC).self, ?_, ?_⟩
  · rw [hU]; exact EN.moved hW.alike (EN.mu hE hS hF)
  · rw [hU]; exact ((hV.kept hS.2.1).moved hW.alike).narrow hF
theorem cA_eq {D : va_G} {cI cR cA : ClassId} {s : State} (hX : KX D cI cR s) (hK : va_K D cls_ ([(cI, .int), (cR, .object "ControlFile$Control")] ++ [(cA, .int)]) s) : cA = cI := by
  have h1 : s.vm.findClass ("[" ++ FieldType.int.toString) = some cA := (hK.2 2 _ rfl).2
  have h2 : s.vm.findClass ("[" ++ FieldType.int.toString) = some cI := (hX.1.2 0 _ rfl).2
  exact Option.some.inj (h1.symm.trans h2)
set_option maxHeartbeats 4000000 in
set_option maxRecDepth 100000 in
/-- Controls(): the array of constants, 29 zeros, and begin() -/
theorem c_C_init (l : Launch) (D : va_G) (cI cR : ClassId) (ad : Nat → Nat) (h sz : Nat) : Met l y_C_init (wd y_C_init b_C_init 1 none) { frames := 2, cells := 2, slots := 58, locals := 33 } (al_P D cI cR ad (z_C h) [.ref h] sz) (va_Qv (fun _ : Nat × Nat => True) (fun u t => va_P D cls_ (wC cI cR ad h u.1 u.2 (fun _ => 0) 1 0 9223372036854775807 false) t.heap ∧ va_D (va_A (z_C h) sz) (wC cI cR ad h u.1 u.2 (fun _ => 0) 1 0 9223372036854775807 false)) (va_A (z_C h) sz)) 2 58 (va_A (z_C h) sz) := by
  refine al_ofW (by decide) (Nat.le_of_ble_eq_true rfl) ?_
  intro p e s m below meth c args ls hx hb hr hml hown hts hlk hin hA hP hX hE hV hl hD hS
  have hown : s.vm.findClass cn_C = some m.cls := hown
  have hl : lv_has ls 1 [(0, .ref h)] := hl
  refine lv_aload_n (pc := 0) hx hb d_C_init_0 rfl (lv_at hl 0 rfl) ?_
  refine W.objInit hx hb hown (hts _ km_C_1) (hts _ ko_O_init) (hts _ kc_O_init) rfl (by rw [hml]; exact hl.1) rfl d_C_init_1 (Nat.le_of_ble_eq_true rfl) (Nat.le_of_ble_eq_true rfl) ?_
  refine W.eq (g2 := F0 m 4 ls []) rfl ?_
  refine lv_aload_n (pc := 4) hx hb d_C_init_4 rfl (lv_at hl 0 rfl) ?_
  refine vs_call (pc := 5) hx hb hml hl.1 hown hts (c_E_values l D cI cR ad) ⟨Nat.le_of_ble_eq_true rfl, Nat.le_of_ble_eq_true rfl⟩ hP hD hS hA hX hV (Nat.le_of_ble_eq_true rfl) ⟨Nat.le_of_ble_eq_true rfl, Nat.le_of_ble_eq_true rfl⟩ d_C_init_5 (fun q1 H hP hD hS => ?_)
  have hP : va_P D cls_ [(h, .inr (0, [.null, .null, .int 0, .long 0, .long 0, .int (bI false)])), (q1, .inl (cR, arR ad))] H := hP
  have hD : va_D _ [(h, .inr (0, [.null, .null, .int 0, .long 0, .long 0, .int (bI false)])), (q1, .inl (cR, arR ad))] := hD
  refine W.widen (k := 1) (n := 29) (Nat.le_of_ble_eq_true rfl) (Nat.le_of_ble_eq_true rfl) ?_
  refine va_putF (pc := 8) (D := D) (ci := 0) (v := .ref q1) (ty := .array (.object "ControlFile$Control")) (C := cn_C) (T := fT_C) (N := 6) hx hb hts in_C tT_C tt_C nn_C hown hX.1 hP hD hS 0 rfl rfl 0 (by decide) (hts _ kf_C_13) (fun _ h9 => h9) rfl hin rfl (by decide +kernel) rfl rfl (Nat.le_of_ble_eq_true rfl) d_C_init_8 (fun H locs hP hD hS => ?_)
  have hP : va_P D cls_ [(h, .inr (0, [.ref q1, .null, .int 0, .long 0, .long 0, .int (bI false)])), (q1, .inl (cR, arR ad))] H := hP
  have hD : va_D _ [(h, .inr (0, [.ref q1, .null, .int 0, .long 0, .long 0, .int (bI false)])), (q1, .inl (cR, arR ad))] := hD
  refine lv_aload_n (pc := 11) hx hb d_C_init_11 rfl (lv_at hl 0 rfl) ?_
  refine lv_bipush (pc := 12) (v := 29) hx hb d_C_init_12 (by decide) ?_
  refine va_newa (pc := 14) (atype := .int) (ty := .int) (N' := 29) (a0 := (29, .inl (fun _ => 0))) hx hb (hts _ kz_int) rfl hX.1 hP hD hS hA (fun cA => rfl) (by decide) (by decide) (by decide) (Nat.le_of_ble_eq_true rfl) (Nat.le_of_ble_eq_true rfl) d_C_init_14 (fun q2 cA H hK hP hD hS => ?_)
  rw [cA_eq hX hK] at hP hD
  have hP : va_P D cls_ [(h, .inr (0, [.ref q1, .null, .int 0, .long 0, .long 0, .int (bI false)])), (q1, .inl (cR, arR ad)), (q2, .inl (cI, 29, .inl (fun _ => 0)))] H := hP
  have hD : va_D _ [(h, .inr (0, [.ref q1, .null, .int 0, .long 0, .long 0, .int (bI false)])), (q1, .inl (cR, arR ad)), (q2, .inl (cI, 29, .inl (fun _ => 0)))] := hD
  refine W.widen (k := 2) (n := 58) (Nat.le_of_ble_eq_true rfl) (Nat.le_of_ble_eq_true rfl) ?_
  refine va_putF (pc := 16) (D := D) (ci := 0) (v := .ref q2) (ty := .array .int) (C := cn_C) (T := fT_C) (N := 6) hx hb hts in_C tT_C tt_C nn_C hown hX.1 hP hD hS 0 rfl rfl 1 (by decide) (hts _ kf_C_19) (fun _ h9 => h9) rfl hin rfl (by decide +kernel) rfl rfl (Nat.le_of_ble_eq_true rfl) d_C_init_16 (fun H locs hP hD hS => ?_)
  have hP : va_P D cls_ (wC cI cR ad h q1 q2 (fun _ => 0) 0 0 0 false) H := hP
  have hD : va_D _ (wC cI cR ad h q1 q2 (fun _ => 0) 0 0 0 false) := hD
  refine lv_aload_n (pc := 19) hx hb d_C_init_19 rfl (lv_at hl 0 rfl) ?_
  refine mu_V (pc := 20) (As := []) (rest := []) hx hb hml hl.1 hown hts (c_C_begin l D cI cR ad h q1 q2 (fun _ => 0) 0 0 0 false) g_C_22 ⟨Nat.le_of_ble_eq_true rfl, Nat.le_of_ble_eq_true rfl⟩ (va_recv hX.1 hP (ci := 0) (q0 := 0) rfl rfl) hP hD hS hX hE [0, 1, 2] (by decide) rfl rfl rfl (Nat.le_of_ble_eq_true rfl) ⟨Nat.le_of_ble_eq_true rfl, Nat.le_of_ble_eq_true rfl⟩ d_C_init_20 (fun H locs hP hD hS => ?_)
  have hP : va_P D cls_ (wC cI cR ad h q1 q2 (fun _ => 0) 1 0 9223372036854775807 false) H := hP
  have hD : va_D _ (wC cI cR ad h q1 q2 (fun _ => 0) 1 0 9223372036854775807 false) := hD
  refine W.eq (g2 := F0 m 23 ls []) rfl ?_
  exact W.vret (pc := 23) hx hb hr (fun t ht hW => ⟨⟨(q1, q2), rfl, trivial, by rw [ht]; exact hP, hD⟩, hS.F ht⟩) hS.2.2 d_C_init_23 hlk
set_option maxHeartbeats 4000000 in
set_option maxRecDepth 100000 in
/-- ControlFileModel(): 29 zeros, and begin() -/
theorem c_M_init (l : Launch) (D : va_G) (cI cR : ClassId) (ad : Nat → Nat) (h sz : Nat) : Met l y_M_init (wd y_M_init b_M_init 1 none) { frames := 1, cells := 1, slots := 29, locals := 21 } (al_P D cI cR ad (z_M h) [.ref h] sz) (va_Qv (fun _ : Nat => True) (fun u t => va_P D cls_ (wM cI h u (fun _ => 0) 1 0 9223372036854775807 false 0) t.heap ∧ va_D (va_A (z_M h) sz) (wM cI h u (fun _ => 0) 1 0 9223372036854775807 false 0)) (va_A (z_M h) sz)) 1 29 (va_A (z_M h) sz) := by
  refine al_ofW (by decide) (Nat.le_of_ble_eq_true rfl) ?_
  intro p e s m below meth c args ls hx hb hr hml hown hts hlk hin hA hP hX hE hV hl hD hS
  have hown : s.vm.findClass cn_M = some m.cls := hown
  have hl : lv_has ls 1 [(0, .ref h)] := hl
  refine lv_aload_n (pc := 0) hx hb d_M_init_0 rfl (lv_at hl 0 rfl) ?_
  refine W.objInit hx hb hown (hts _ km_M_1) (hts _ ko_O_init) (hts _ kc_O_init) rfl (by rw [hml]; exact hl.1) rfl d_M_init_1 (Nat.le_of_ble_eq_true rfl) (Nat.le_of_ble_eq_true rfl) ?_
  refine W.eq (g2 := F0 m 4 ls []) rfl ?_
  refine lv_aload_n (pc := 4) hx hb d_M_init_4 rfl (lv_at hl 0 rfl) ?_
  refine lv_bipush (pc := 5) (v := 29) hx hb d_M_init_5 (by decide) ?_
  refine va_newa (pc := 7) (atype := .int) (ty := .int) (N' := 29) (a0 := (29, .inl (fun _ => 0))) hx hb (hts _ kz_int) rfl hX.1 hP hD hS hA (fun cA => rfl) (by decide) (by decide) (by decide) (Nat.le_of_ble_eq_true rfl) (Nat.le_of_ble_eq_true rfl) d_M_init_7 (fun q2 cA H hK hP hD hS => ?_)
  rw [cA_eq hX hK] at hP hD
  have hP : va_P D cls_ [(h, .inr (2, [.null, .int 0, .long 0, .long 0, .int (bI false), .int 0])), (q2, .inl (cI, 29, .inl (fun _ => 0)))] H := hP
  have hD : va_D _ [(h, .inr (2, [.null, .int 0, .long 0, .long 0, .int (bI false), .int 0])), (q2, .inl (cI, 29, .inl (fun _ => 0)))] := hD
  refine W.widen (k := 1) (n := 29) (Nat.le_of_ble_eq_true rfl) (Nat.le_of_ble_eq_true rfl) ?_
  refine va_putF (pc := 9) (D := D) (ci := 2) (v := .ref q2) (ty := .array .int) (C := cn_M) (T := fT_M) (N := 6) hx hb hts in_M tT_M tt_M nn_M hown hX.1 hP hD hS 0 rfl rfl 0 (by decide) (hts _ kf_M_7) (fun _ h9 => h9) rfl hin rfl (by decide +kernel) rfl rfl (Nat.le_of_ble_eq_true rfl) d_M_init_9 (fun H locs hP hD hS => ?_)
  have hP : va_P D cls_ (wM cI h q2 (fun _ => 0) 0 0 0 false 0) H := hP
  have hD : va_D _ (wM cI h q2 (fun _ => 0) 0 0 0 false 0) := hD
  refine lv_aload_n (pc := 12) hx hb d_M_init_12 rfl (lv_at hl 0 rfl) ?_
  refine mu_V (pc := 13) (As := []) (rest := []) hx hb hml hl.1 hown hts (c_M_begin l D cI cR ad h q2 (fun _ => 0) 0 0 0 false 0) g_M_13 ⟨Nat.le_of_ble_eq_true rfl, Nat.le_of_ble_eq_true rfl⟩ (va_recv hX.1 hP (ci := 2) (q0 := 0) rfl rfl) hP hD hS hX hE [0, 1] (by decide) rfl rfl rfl (Nat.le_of_ble_eq_true rfl) ⟨Nat.le_of_ble_eq_true rfl, Nat.le_of_ble_eq_true rfl⟩ d_M_init_13 (fun H locs hP hD hS => ?_)
  have hP : va_P D cls_ (wM cI h q2 (fun _ => 0) 1 0 9223372036854775807 false 0) H := hP
  have hD : va_D _ (wM cI h q2 (fun _ => 0) 1 0 9223372036854775807 false 0) := hD
  refine W.eq (g2 := F0 m 16 ls []) rfl ?_
  exact W.vret (pc := 16) hx hb hr (fun t ht hW => ⟨⟨q2, rfl, trivial, by rw [ht]; exact hP, hD⟩, hS.F ht⟩) hS.2.2 d_M_init_16 hlk
set_option maxHeartbeats 4000000 in
set_option maxRecDepth 100000 in
/-- ControlFile(): new Controls() -/
theorem c_F_init (l : Launch) (D : va_G) (cI cR : ClassId) (ad : Nat → Nat) (h0 sz : Nat) : Met l y_F_init (wd y_F_init b_F_init 1 none) { frames := 3, cells := 3, slots := 64, locals := 53 } (al_P D cI cR ad (z_F h0) [.ref h0] sz) (va_Qv (fun _ : Nat × Nat × Nat => True) (fun u t => va_P D cls_ (wF cI cR ad h0 u.1 u.2.1 u.2.2 (fun _ => 0) 1 0 9223372036854775807 false 0) t.heap ∧ va_D (va_A (z_F h0) sz) (wF cI cR ad h0 u.1 u.2.1 u.2.2 (fun _ => 0) 1 0 9223372036854775807 false 0)) (va_A (z_F h0) sz)) 3 64 (va_A (z_F h0) sz) := by
  refine al_ofW (by decide) (Nat.le_of_ble_eq_true rfl) ?_
  intro p e s m below meth c args ls hx hb hr hml hown hts hlk hin hA hP hX hE hV hl hD hS
  have hown : s.vm.findClass cn_F = some m.cls := hown
  have hl : lv_has ls 1 [(0, .ref h0)] := hl
  refine lv_aload_n (pc := 0) hx hb d_F_init_0 rfl (lv_at hl 0 rfl) ?_
  refine W.objInit hx hb hown (hts _ km_F_1) (hts _ ko_O_init) (hts _ kc_O_init) rfl (by rw [hml]; exact hl.1) rfl d_F_init_1 (Nat.le_of_ble_eq_true rfl) (Nat.le_of_ble_eq_true rfl) ?_
  refine W.eq (g2 := F0 m 4 ls []) rfl ?_
  refine lv_aload_n (pc := 4) hx hb d_F_init_4 rfl (lv_at hl 0 rfl) ?_
  refine va_new (pc := 5) (ci := 0) (fs := [.null, .null, .int 0, .long 0, .long 0, .int (bI false)]) (C := cn_C) (T := fT_C) (N := 6) hx hb hts in_C tT_C tt_C hown (hts _ kl_F_7) (hts _ kn_C) (hts _ ki_C) hX.1 hP hD hS hA rfl (fun j hj => by rcases (show j = 0 ∨ j = 1 ∨ j = 2 ∨ j = 3 ∨ j = 4 ∨ j = 5 by omega) with rfl | rfl | rfl | rfl | rfl | rfl <;> rfl) (Nat.le_of_ble_eq_true rfl) (Nat.le_of_ble_eq_true rfl) d_F_init_5 (fun h H hP hD hS => ?_)
  have hP : va_P D cls_ [(h0, .inr (1, [.null, .int 0])), (h, .inr (0, [.null, .null, .int 0, .long 0, .long 0, .int (bI false)]))] H := hP
  have hD : va_D _ [(h0, .inr (1, [.null, .int 0])), (h, .inr (0, [.null, .null, .int 0, .long 0, .long 0, .int (bI false)]))] := hD
  refine W.widen (k := 1) (n := 6) (Nat.le_of_ble_eq_true rfl) (Nat.le_of_ble_eq_true rfl) ?_
  refine lv_dup (pc := 8) hx hb d_F_init_8 rfl ?_
  have hFc := va_free (wc := z_C h) hD hS hA [1] rfl
  refine va_callv (pc := 9) (va_runI (As := []) (rest := [.ref h, .ref h0]) ⟨hx, hb, hml, hown, hts⟩ (c_C_init l D cI cR ad h H.size) (cwI 0 hts (gd_wd kc_C_init) rfl rfl rfl (hts _ ki_C) (hts _ km_F_9) (hts _ ko_C_init) rfl (by decide +kernel) ⟨Nat.le_of_ble_eq_true rfl, Nat.le_of_ble_eq_true rfl⟩) ⟨al_blind, al_pre hP hD hS hA hX hE hV [1] (by decide) rfl⟩ rfl rfl hl.1 rfl (lv_room (Nat.le_of_ble_eq_true rfl)) d_F_init_9 ⟨Nat.le_of_ble_eq_true rfl, Nat.le_of_ble_eq_true rfl⟩) hS (fun q _ h => hFc q h) hFc (fun u t H1 locs ht hvm hw hB hz1 hk1 hS => ?_)
  obtain ⟨ha, hv⟩ := u
  obtain ⟨hP1, hD1⟩ := hB
  rw [ht] at hP1
  obtain ⟨hP, hD⟩ := va_join (wr := z_F h0) (w1 := wC cI cR ad h ha hv (fun _ => 0) 1 0 9223372036854775807 false) hP hD [1] [0] rfl rfl (by decide) (by decide) hk1 hFc hP1 hD1
  generalize H1 = H at hP hS ⊢
  have hP : va_P D cls_ ((h0, .inr (1, [.null, .int 0])) :: wC cI cR ad h ha hv (fun _ => 0) 1 0 9223372036854775807 false) H := hP
  have hD : va_D _ ((h0, .inr (1, [.null, .int 0])) :: wC cI cR ad h ha hv (fun _ => 0) 1 0 9223372036854775807 false) := hD
  refine W.widen (k := 3) (n := 64) (Nat.le_of_ble_eq_true rfl) (Nat.le_of_ble_eq_true rfl) ?_
  refine va_putF (pc := 12) (D := D) (ci := 1) (v := .ref h) (ty := .object "ControlFile$Controls") (C := cn_F) (T := fT_F) (N := 2) hx hb hts in_F tT_F tt_F nn_F hown hX.1 hP hD hS 0 rfl rfl 0 (by decide) (hts _ kf_F_10) (fun _ h9 => h9) rfl hin rfl (by decide +kernel) rfl rfl (Nat.le_of_ble_eq_true rfl) d_F_init_12 (fun H locs hP hD hS => ?_)
  have hP : va_P D cls_ (wF cI cR ad h0 h ha hv (fun _ => 0) 1 0 9223372036854775807 false 0) H := hP
  have hD : va_D _ (wF cI cR ad h0 h ha hv (fun _ => 0) 1 0 9223372036854775807 false 0) := hD
  exact W.vret (pc := 15) hx hb hr (fun t ht hW => ⟨⟨(h, ha, hv), rfl, trivial, by rw [ht]; exact hP, hD⟩, hS.F ht⟩) hS.2.2 d_F_init_15 hlk
end
section
-- the kit's skeleton (starting text), its middle
/-! THE CLAIM OUT OF ONE WALK OF THE LAW'S BODY. Your part is whole_start (and what it stands on); all else here is the same for every law, but numbers. -/
def R_law : String := "ControlFileLaw"
def lw_P (b : Addr) (xs : List Int32) (args : Array Value) (s : State) : Prop := args = #[.ref b] ∧ s.IntsAt b xs ∧ xs.length ≤ 2048 ∧ (Jvm.Cond.and given_1 narrow_1).before args s = true
def lw_Q (_ : Array Value) (s : State) (o : Outcome) (t : State) : Prop := o = .returned (some (.int 1)) ∧ Framed s o t [] 600000 7302250
def lw_Z (below : List Frame) (a : Array Value) (s : State) : State → Prop := fun t => ∃ o, t.status = .running ∧ Ended t below o ∧ lw_Q a s o t
/-- the law's own end, with 1 on the stack, nothing written that was there before, its room as the claim has it -/
theorem lw_ret {p : Program} {l : Launch} {e : Env} {s : State} {m : MethodId} {below : List Frame} {meth : Method} {c : Code} {b : Nat} (hx : p.tables.exec = Jvm.exec) (hb : c.code = code) (hr : meth.sig.returnType = ret) (hlocks : meth.locks = false) {pc : Nat} {H : Heap} {ls : Array Slot} (hdg : decode code pc = .ok (.ireturn, 1)) : W p l e room_1 s m #[Value.ref b] below meth c H [] 600000 7302250 (lw_Z below #[Value.ref b] s) (F0 m pc ls [.int 1]) := by
  intro T hT X
  obtain ⟨fs, hret, hrun, hended, hW, hframe⟩ := X.leave (v := some (.int 1)) (hlocks := hlocks) (fun h => by rw [hr] at h; cases h)
  have hmeth' : T.vm.method? m = some meth := X.method'
  refine ⟨T.setFrames fs, ?_, .returned (some (.int 1)), hrun, hended, rfl, ⟨_, rfl⟩, hW, hframe⟩
  jvm_step X.here [X.here.top, hx, hb, hdg, hmeth', hr, ret, narrow_b1]
  (try refine ⟨rfl, ?_⟩); (try refine ⟨rfl, ?_⟩)
  first | (intro acts; rw [hret _ acts rfl rfl rfl]) | rw [hret _ _ rfl rfl rfl]
  exact Steps.refl _
/-- what holds at the law's entry: the machine, the code, the tables' words (any of lw_tbl by 'hts w (by decide +kernel)'), the script of L ints xs at the cell b, what the Statement gives of the start (any of its parts by flat_of_before) -/
def lw_At (p : Program) (s : State) (m : MethodId) (meth : Method) (c : Code) (b L : Nat) (xs : Nat → Int32) : Prop :=
  p.tables.exec = Jvm.exec ∧ c.code = code ∧ meth.sig.returnType = ret ∧ c.maxLocals = 4 ∧ s.vm.findClass R_law = some m.cls ∧ (∀ w ∈ lw_tbl, w.before #[Value.ref b] s = true) ∧ va_X b L xs s s.heap ∧ b < s.heap.size ∧ meth.locks = false ∧ (Jvm.Cond.and given_1 narrow_1).before #[Value.ref b] s = true
-- WHAT HOLDS AT THE START of this claim's worlds
theorem st_mem1 : ∀ i, i < 29 → Cond.exactly (.static "ControlFile$Control" (en_nm.getD i "") "LControlFile$Control;") "ControlFile$Control" ∈ flatC (Jvm.Cond.and given_1 narrow_1) := by decide +kernel
theorem st_mem2 : ∀ i, i < 29 → Cond.eq (.field (.static "ControlFile$Control" (en_nm.getD i "") "LControlFile$Control;") "java/lang/Enum" "ordinal" "I") (.int (en_ord.getD i 0)) ∈ flatC (Jvm.Cond.and given_1 narrow_1) := by decide +kernel
theorem st_mem3 : ∀ i, i < 29 → Cond.eq (.field (.static "ControlFile$Control" (en_nm.getD i "") "LControlFile$Control;") "ControlFile$Control" "number" "I") (.int (en_num.getD i 0)) ∈ flatC (Jvm.Cond.and given_1 narrow_1) := by decide +kernel
theorem st_mem4 : ∀ i, i < 29 → Cond.eq (.field (.static "ControlFile$Control" (en_nm.getD i "") "LControlFile$Control;") "ControlFile$Control" "keeps" "I") (.int (en_keep.getD i 0)) ∈ flatC (Jvm.Cond.and given_1 narrow_1) := by decide +kernel
theorem st_mem5 : ∀ i, i < 29 → Cond.eq (.elem (.static "ControlFile$Control" "$VALUES" "[LControlFile$Control;") (.int (Int32.ofNat i))) (.static "ControlFile$Control" (en_nm.getD i "") "LControlFile$Control;") ∈ flatC (Jvm.Cond.and given_1 narrow_1) := by decide +kernel
theorem st_lays : ∀ i, i < 29 → Cond.laysStatic "ControlFile$Control" (en_nm.getD i "") "LControlFile$Control;" ∈ lw_tbl := by decide +kernel
theorem st_ord : ∀ i, i < 29 → ∀ j, j < 29 → en_ord.getD i 0 = en_ord.getD j 0 → i = j := by decide +kernel
theorem st_nest : ∀ w ∈ nwL, w ∈ lw_tbl := by decide +kernel
theorem st_ne {args : Array Value} {s : State} {t u : Term} {a b : Nat} (ht : t.eval args s none [] s = some (.ref a)) (hu : u.eval args s none [] s = some (.ref b)) (h : a ≠ b) : (Cond.not (.eq t u)).before args s = true := by
  simp [Cond.before, Cond.holds, Cond.value, ht, hu, h]
theorem st_en {args : Array Value} {s : State} {A : Nat → Prop} (hts : ∀ w ∈ lw_tbl, w.before args s = true) (hg : (Jvm.Cond.and given_1 narrow_1).before args s = true) (hA : ∀ a : Nat, a < s.heap.size → ¬ A a) :
    ∃ ad : Nat → Nat, EN ad A s s.heap ∧ ∀ i, i < 29 → (Term.static "ControlFile$Control" (en_nm.getD i "") "LControlFile$Control;").eval args s none [] s = some (.ref (ad i)) := by
  have hs := flat_of_before _ hg
  have hf : ∀ q ∈ en_F, ∀ i, i < en_nm.length → (Cond.eq (.field (.static cn_E (en_nm.getD i "") "LControlFile$Control;") q.1 q.2.1 q.2.2.1) (.int (q.2.2.2.getD i 0))).before args s = true := by
    intro q hq i hi
    simp only [en_F, List.mem_cons, List.not_mem_nil, or_false] at hq
    rcases hq with e | e | e <;> rw [e]
    · exact hs _ (st_mem2 i hi)
    · exact hs _ (st_mem3 i hi)
    · exact hs _ (st_mem4 i hi)
  refine va_Enof2 (nm := en_nm) (F := en_F) (fun i hi => hts _ (st_lays i hi)) (hts _ (List.mem_filter.mp ki_E).1) (fun i hi => hs _ (st_mem1 i hi)) hf (fun i j hi hj hij => Or.inl ?_) hA
  obtain ⟨a, c1, cell1, k1, q1, -⟩ := Cond.exactly_spec (hs _ (st_mem1 i hi))
  obtain ⟨b, c2, cell2, k2, q2, -⟩ := Cond.exactly_spec (hs _ (st_mem1 j hj))
  refine st_ne q1 q2 (fun e => hij ?_)
  subst e
  have h1 := va_eqt (hs _ (st_mem2 i hi))
  have h2 := va_eqt (hs _ (st_mem2 j hj))
  rw [va_fe q1] at h1
  rw [va_fe q2] at h2
  exact st_ord i hi j hj (Value.int.inj (Option.some.inj (h1.symm.trans h2)))
theorem st_kx {args : Array Value} {s : State} (hts : ∀ w ∈ lw_tbl, w.before args s = true) : ∃ (D : va_G) (cI cR : ClassId), KX D cI cR s ∧ s.vm.findClass "[LControlFile$Control;" = some cR := by
  obtain ⟨c0, iS0, hK0⟩ := u_known (C := cn_C) (T := fT_C) (N := 6) (n := 6) hts (fun w hw => (List.mem_filter.mp (in_C w hw)).1) (hts _ (List.mem_filter.mp kn_C).1)
  obtain ⟨c1, iS1, hK1⟩ := u_known (C := cn_F) (T := fT_F) (N := 2) (n := 2) hts (fun w hw => (List.mem_filter.mp (in_F w hw)).1) (hts _ (List.mem_filter.mp kn_F).1)
  obtain ⟨c2, iS2, hK2⟩ := u_known (C := cn_M) (T := fT_M) (N := 6) (n := 6) hts (fun w hw => (List.mem_filter.mp (in_M w hw)).1) (hts _ (List.mem_filter.mp kn_M).1)
  obtain ⟨cI, kI, compI, i1, i2, i3⟩ := Cond.arrayClass_spec (hts _ (List.mem_filter.mp kz_int).1)
  obtain ⟨compR, cR, kR, r1, -, r3, r4, r5⟩ := Cond.arrayOver_spec (n := "ControlFile$Control") (hts _ (List.mem_of_getElem? (i := 37) (by decide +kernel)))
  have r6 : s.vm.findClass "[LControlFile$Control;" = some cR := by
    rw [← r5]
    congr 1
  refine ⟨(fun k => if k = 0 then c0 else if k = 1 then c1 else c2, fun k => if k = 0 then iS0 else if k = 1 then iS1 else iS2), cI, cR, ⟨⟨?_, ?_⟩, fun w hw => ?_⟩, r6⟩
  · intro k q hq
    match k, hq with
    | 0, hq => cases hq; exact hK0
    | 1, hq => cases hq; exact hK1
    | 2, hq => cases hq; exact hK2
    | k + 3, hq => simp [cls_] at hq
  · intro k q hq
    match k, hq with
    | 0, hq => cases hq; exact ⟨fun n z => ⟨fun k h => (by cases h), kI, i2, compI, i3⟩, i1⟩
    | 1, hq => cases hq; exact ⟨fun n z => ⟨fun k h => (by cases h), kR, r3, compR, r4⟩, kR, compR, r3, r4, r1, r5⟩
    | k + 2, hq => simp at hq
  · obtain ⟨a, i, b, n, d, q, e⟩ := nwL_nest w hw
    have h1 := hts w (st_nest w hw)
    subst e
    exact va_Nw.of rfl h1
theorem st_vs {args : Array Value} {s : State} {A : Nat → Prop} {cR : ClassId} {ad : Nat → Nat} (hts : ∀ w ∈ lw_tbl, w.before args s = true) (hg : (Jvm.Cond.and given_1 narrow_1).before args s = true) (hA : ∀ a : Nat, a < s.heap.size → ¬ A a) (hcR : s.vm.findClass "[LControlFile$Control;" = some cR)
    (hev : ∀ i, i < 29 → (Term.static "ControlFile$Control" (en_nm.getD i "") "LControlFile$Control;").eval args s none [] s = some (.ref (ad i))) : VS cR ad A s s.heap := by
  have hs := flat_of_before _ hg
  have harr : (Cond.arrayOf (.static "ControlFile$Control" "$VALUES" "[LControlFile$Control;") (.object "ControlFile$Control")).before args s = true := hs _ (by decide +kernel)
  have hlen : (Cond.eq (.length (.static "ControlFile$Control" "$VALUES" "[LControlFile$Control;")) (.int 29)).before args s = true := hs _ (by decide +kernel)
  have hexa : (Cond.exactly (.static "ControlFile$Control" "$VALUES" "[LControlFile$Control;") "[LControlFile$Control;").before args s = true := hs _ (by decide +kernel)
  have hall : (Cond.all (.static "ControlFile$Control" "$VALUES" "[LControlFile$Control;") (.le (.index 0) (.int 28))).before args s = true := hs _ (by decide +kernel)
  obtain ⟨t, ht, hT⟩ := va_Tof (N := 29) (f := fun j => Value.ref (ad j)) (A := A) (by decide) harr (va_eqt hlen) (fun j hj => va_eqv (hs _ (st_mem5 j hj)) (hev j hj)) hA
  obtain ⟨cell, h1, h2, h3, h4, h5, h6, h7⟩ := hT
  obtain ⟨t', c, cell', k, e1, e2, e3, e4, e5, e6, -⟩ := Cond.exactly_spec hexa
  cases ht.symm.trans e1
  cases h1.symm.trans e3
  cases hcR.symm.trans e2
  obtain ⟨t2, cell2, q1, q2, -⟩ := Term.length_spec (va_eqt hlen)
  cases ht.symm.trans q1
  have q3 := (State.arrayAt?_spec q2).1
  cases h1.symm.trans q3
  have hle : cell.slots.size ≤ 29 := by
    rcases Nat.lt_or_ge 29 cell.slots.size with q | q
    · have hv := Cond.all_elim ht q2 (by simpa [Cond.before, Cond.holds] using hall) 29 q
      have hw : (Cond.le (.index 0) (.int 28)).value args s none s [29] = some (decide ((29 : Nat).toInt32 ≤ 28)) := Cond.le_ints rfl rfl
      rw [hw] at hv
      exact absurd hv (by decide)
    · exact q
  have hsz : cell.slots.size = 29 := by omega
  refine ⟨t, cell, va_Zref (hts _ (List.mem_of_getElem? (i := 30) (by decide +kernel))) (hts _ (List.mem_filter.mp ki_E).1) ht hA, h7, hcR, va_Nw.of rfl (hts _ (List.mem_of_getElem? (i := 36) (by decide +kernel))), h1, e5, h3, e6, ?_⟩
  refine Array.ext (by rw [hsz, arrV_size]) (fun j g1 g2 => ?_)
  have hj : j < 29 := by rw [← hsz]; exact g1
  have a1 := h6 j hj
  have a2 := arrV_read cR (fun j => Value.ref (ad j)) hj
  rw [Array.getElem?_eq_getElem g1] at a1
  rw [Array.getElem?_eq_getElem g2] at a2
  exact Option.some.inj (a1.trans a2.symm)
theorem lg_self (x : Int64) : lg_cmp x x = 0 := by simp [lg_cmp]
theorem law_le {L i : Nat} (hL : L ≤ 2048) (hi : i ≤ L) (h : ¬ Int32.ofNat L - 4 < nI i) : i + 4 ≤ L := by
  rcases Nat.lt_or_ge L (i + 4) with q | q
  · refine absurd ?_ h
    rw [Int32.lt_iff_toInt_lt]
    have e : (nI L - nI 4).toInt = (L : Int) - (4 : Nat) := pk_sub_toInt (by omega) (by decide)
    show (nI L - nI 4).toInt < (nI i).toInt
    rw [e, nI_toInt (by omega)]
    omega
  · exact q
end
section
-- THE LAW
section ScW
variable {p : Program} {l : Launch} {e : Env} {R : Room} {s : State} {m : MethodId} {args : Array Value} {below : List Frame} {meth : Method} {c : Code} {H : Heap} {locs : List Loc} {cells slots : Nat} {Q : State → Prop}
variable {cc : ByteArray} {pc : Nat} {ls : Array Slot} {rest : List Value} {A : Nat → Prop} {H0 : Heap}
theorem sc_ld (hx : p.tables.exec = Jvm.exec) (hb : c.code = cc) {b L : Nat} {xs : Nat → Int32} (hX : va_X b L xs s H0) (hbl : b < H0.size) (hbA : ¬ A b) (hS : va_S A H0 H locs) {i : Int32} (j : Nat) (hj : i = nI j) (hlt : j < L) (hL : L ≤ 2048) (hdg : decode cc pc = .ok (.iaload, 1))
    (kk : W p l e R s m args below meth c H locs cells slots Q (F0 m (pc + 1) ls (.int (xs j) :: rest))) : W p l e R s m args below meth c H locs cells slots Q (F0 m pc ls (.int i :: .ref b :: rest)) := by
  subst hj
  refine va_sld hx hb hX hbl hbA hS (vp_in_nI hlt (by omega)) hdg ?_
  rw [nI_clamp (by omega)]
  exact kk
end ScW
set_option maxHeartbeats 4000000 in
set_option maxRecDepth 100000 in
/-- THE LAW'S LOOP: at its head the component and the reference hold the same numbers -/
theorem law_loop {p : Program} {l : Launch} {e : Env} {s : State} {m : MethodId} {below : List Frame} {meth : Method} {c : Code} {D : va_G} {cI cR : ClassId} {ad : Nat → Nat} {b L : Nat} {xs : Nat → Int32} (hL : L ≤ 2048) (C0 : lw_At p s m meth c b L xs) (hX : KX D cI cR s) (hE : EN ad (fun q : Nat => s.heap.size ≤ q) s s.heap) (h0 h ha hv hm hk : Nat) :
    ∀ (n i : Nat) (f : Nat → Int32) (md : Int32) (tm al : Int64) (ln : Bool) (od : Int32) (H : Heap) (locs : List Loc) (ls : Array Slot), i ≤ L → L + 1 ≤ i + n → okF f → va_P D cls_ [(h0, .inr (1, [.ref h, .int od])), (h, .inr (0, [.ref ha, .ref hv, .int md, .long tm, .long al, .int (bI ln)])), (ha, .inl (cR, 29, .inr (.inr (.inr (.inr (gA ad)))))), (hv, .inl (cI, 29, .inl f)), (hm, .inr (2, [.ref hk, .int md, .long tm, .long al, .int (bI ln), .int od])), (hk, .inl (cI, 29, .inl f))] H → va_D (fun q : Nat => s.heap.size ≤ q) [(h0, .inr (1, [.ref h, .int od])), (h, .inr (0, [.ref ha, .ref hv, .int md, .long tm, .long al, .int (bI ln)])), (ha, .inl (cR, 29, .inr (.inr (.inr (.inr (gA ad)))))), (hv, .inl (cI, 29, .inl f)), (hm, .inr (2, [.ref hk, .int md, .long tm, .long al, .int (bI ln), .int od])), (hk, .inl (cI, 29, .inl f))] → va_S (fun q : Nat => s.heap.size ≤ q) s.heap H locs → lv_has ls 4 [(0, .ref b), (1, .ref h0), (2, .ref hm), (3, .int (nI i))] → W p l e room_1 s m #[Value.ref b] below meth c H locs 6 101 (lw_Z below #[Value.ref b] s) (F0 m 18 ls []) := by
  obtain ⟨hx, hb, hr, hml, hown, hts0, hsX, hbl, hlk, hgv⟩ := C0
  have hts : ∀ w ∈ lw_g, w.before #[Value.ref b] s = true := fun w hw => hts0 w (List.mem_filter.mp hw).1
  have hbA : ¬ (fun q : Nat => s.heap.size ≤ q) b := Nat.not_le.mpr hbl
  intro n
  induction n with
  | zero => intro i f md tm al ln od H locs ls h1 h2; exact absurd h2 (by omega)
  | succ n ih =>
    intro i f md tm al ln od H locs ls hi1 hi2 hok hP hD hS hl
    refine lv_iload_n (pc := 18) hx hb d_L_law_18 rfl (lv_at hl 3 rfl) ?_
    refine lv_aload_n (pc := 19) hx hb d_L_law_19 rfl (lv_at hl 0 rfl) ?_
    refine va_slen (pc := 20) hx hb hsX hbl hbA hS d_L_law_20 ?_
    refine lv_iconst (pc := 21) (v := 4) hx hb d_L_law_21 (by decide) ?_
    refine lv_isub (pc := 22) hx hb d_L_law_22 ?_
    refine lv_icmp_gt (pc := 23) (tgt := 380) hx hb d_L_law_23 (by decide) (fun c_1 => ?_) (fun c_1 => ?_)
    · refine lv_iconst (pc := 380) (v := 1) hx hb d_L_law_380 (by decide) ?_
      refine va_forget (fun q hq => hS.2.2 q hq) ?_
      refine W.widen (k := 600000) (n := 7302250) (Nat.le_of_ble_eq_true rfl) (Nat.le_of_ble_eq_true rfl) ?_
      exact lw_ret (pc := 381) hx hb hr hlk d_L_law_381
    · have hi4 : i + 4 ≤ L := law_le hL hi1 c_1
      refine lv_aload_n (pc := 26) hx hb d_L_law_26 rfl (lv_at hl 0 rfl) ?_
      refine lv_iload_n (pc := 27) hx hb d_L_law_27 rfl (lv_at hl 3 rfl) ?_
      refine sc_ld (pc := 28) hx hb hsX hbl hbA hS i rfl (by omega) hL d_L_law_28 ?_
      refine lv_bipush (pc := 29) (v := 15) hx hb d_L_law_29 (by decide) ?_
      refine lv_iand (pc := 31) hx hb d_L_law_31 ?_
      obtain ⟨j, hj, ej⟩ := pk_andE (xs i) (m := 15) 4 (by decide)
      refine top_eq (pc := 32) (y := nI j) ej ?_
      rcases (show j = 0 ∨ j = 1 ∨ j = 2 ∨ j = 3 ∨ j = 4 ∨ j = 5 ∨ j = 6 ∨ j = 7 ∨ j = 8 ∨ j = 9 ∨ 10 ≤ j by omega) with rfl | rfl | rfl | rfl | rfl | rfl | rfl | rfl | rfl | rfl | hj10
      · refine lv_tableIn (pc := 32) (off := 56) (tgt := 88) hx hb d_L_law_32 (by decide) (by decide) rfl (by decide) ?_
        refine lv_aload_n (pc := 88) hx hb d_L_law_88 rfl (lv_at hl 1 rfl) ?_
        refine mu_V (pc := 89) (As := []) (rest := []) hx hb hml hl.1 hown hts (c_F_begin l D cI cR ad h0 h ha hv f md tm al ln od) g_L_13 ⟨Nat.le_of_ble_eq_true rfl, Nat.le_of_ble_eq_true rfl⟩ (va_recv hX.1 hP (ci := 1) (q0 := 0) rfl rfl) hP hD hS hX hE [0, 1, 2, 3] (by decide) rfl rfl rfl (Nat.le_of_ble_eq_true rfl) ⟨Nat.le_of_ble_eq_true rfl, Nat.le_of_ble_eq_true rfl⟩ d_L_law_89 (fun H locs hP hD hS => ?_)
        have hP : va_P D cls_ [(h0, .inr (1, [.ref h, .int 0])), (h, .inr (0, [.ref ha, .ref hv, .int 1, .long 0, .long 9223372036854775807, .int (bI false)])), (ha, .inl (cR, 29, .inr (.inr (.inr (.inr (gA ad)))))), (hv, .inl (cI, 29, .inl (fun _ => 0))), (hm, .inr (2, [.ref hk, .int md, .long tm, .long al, .int (bI ln), .int od])), (hk, .inl (cI, 29, .inl f))] H := hP
        have hD : va_D _ [(h0, .inr (1, [.ref h, .int 0])), (h, .inr (0, [.ref ha, .ref hv, .int 1, .long 0, .long 9223372036854775807, .int (bI false)])), (ha, .inl (cR, 29, .inr (.inr (.inr (.inr (gA ad)))))), (hv, .inl (cI, 29, .inl (fun _ => 0))), (hm, .inr (2, [.ref hk, .int md, .long tm, .long al, .int (bI ln), .int od])), (hk, .inl (cI, 29, .inl f))] := hD
        refine W.eq (g2 := F0 m 92 ls []) rfl ?_
        refine lv_aload_n (pc := 92) hx hb d_L_law_92 rfl (lv_at hl 2 rfl) ?_
        refine mu_V (pc := 93) (As := []) (rest := []) hx hb hml hl.1 hown hts (c_M_begin l D cI cR ad hm hk f md tm al ln od) g_L_16 ⟨Nat.le_of_ble_eq_true rfl, Nat.le_of_ble_eq_true rfl⟩ (va_recv hX.1 hP (ci := 2) (q0 := 4) rfl rfl) hP hD hS hX hE [4, 5] (by decide) rfl rfl rfl (Nat.le_of_ble_eq_true rfl) ⟨Nat.le_of_ble_eq_true rfl, Nat.le_of_ble_eq_true rfl⟩ d_L_law_93 (fun H locs hP hD hS => ?_)
        have hP : va_P D cls_ [(h0, .inr (1, [.ref h, .int 0])), (h, .inr (0, [.ref ha, .ref hv, .int 1, .long 0, .long 9223372036854775807, .int (bI false)])), (ha, .inl (cR, 29, .inr (.inr (.inr (.inr (gA ad)))))), (hv, .inl (cI, 29, .inl (fun _ => 0))), (hm, .inr (2, [.ref hk, .int 1, .long 0, .long 9223372036854775807, .int (bI false), .int 0])), (hk, .inl (cI, 29, .inl (fun _ => 0)))] H := hP
        have hD : va_D _ [(h0, .inr (1, [.ref h, .int 0])), (h, .inr (0, [.ref ha, .ref hv, .int 1, .long 0, .long 9223372036854775807, .int (bI false)])), (ha, .inl (cR, 29, .inr (.inr (.inr (.inr (gA ad)))))), (hv, .inl (cI, 29, .inl (fun _ => 0))), (hm, .inr (2, [.ref hk, .int 1, .long 0, .long 9223372036854775807, .int (bI false), .int 0])), (hk, .inl (cI, 29, .inl (fun _ => 0)))] := hD
        refine W.eq (g2 := F0 m 96 ls []) rfl ?_
        refine lv_goto (pc := 96) (tgt := 374) hx hb d_L_law_96 (by decide) ?_
        refine lv_iinc (pc := 374) (v := (nI i) + 4) (lv' := [(3, .int ((nI i) + 4)), (0, .ref b), (1, .ref h0), (2, .ref hm)]) hx hb d_L_law_374 hl (k := 3) rfl rfl (by decide) rfl (fun ls hl => ?_)
        refine lv_goto (pc := 377) (tgt := 18) hx hb d_L_law_377 (by decide) ?_
        exact ih (i + 4) (fun _ => 0) 1 0 9223372036854775807 false 0 H locs ls (by omega) (by omega) ok_0 hP hD hS (by rw [← nI_add]; exact lv_sub hl [1, 2, 3, 0] rfl)
      · refine lv_tableIn (pc := 32) (off := 67) (tgt := 99) hx hb d_L_law_32 (by decide) (by decide) rfl (by decide) ?_
        refine lv_aload_n (pc := 99) hx hb d_L_law_99 rfl (lv_at hl 1 rfl) ?_
        refine lv_aload_n (pc := 100) hx hb d_L_law_100 rfl (lv_at hl 0 rfl) ?_
        refine lv_iload_n (pc := 101) hx hb d_L_law_101 rfl (lv_at hl 3 rfl) ?_
        refine lv_iconst (pc := 102) (v := 1) hx hb d_L_law_102 (by decide) ?_
        refine lv_iadd (pc := 103) hx hb d_L_law_103 ?_
        refine sc_ld (pc := 104) hx hb hsX hbl hbA hS (i + 1) (nI_add i 1) (by omega) hL d_L_law_104 ?_
        refine mu_V (pc := 105) (As := [.int (xs (i + 1))]) (rest := []) hx hb hml hl.1 hown hts (c_F_mode l D cI cR ad h0 h ha hv f md tm al ln od (xs (i + 1))) g_L_17 ⟨Nat.le_of_ble_eq_true rfl, Nat.le_of_ble_eq_true rfl⟩ (va_recv hX.1 hP (ci := 1) (q0 := 0) rfl rfl) hP hD hS hX hE [0, 1, 2, 3] (by decide) rfl rfl rfl (Nat.le_of_ble_eq_true rfl) ⟨Nat.le_of_ble_eq_true rfl, Nat.le_of_ble_eq_true rfl⟩ d_L_law_105 (fun H locs hP hD hS => ?_)
        have hP : va_P D cls_ [(h0, .inr (1, [.ref h, .int od])), (h, .inr (0, [.ref ha, .ref hv, .int (modeS md (xs (i + 1))), .long tm, .long al, .int (bI ln)])), (ha, .inl (cR, 29, .inr (.inr (.inr (.inr (gA ad)))))), (hv, .inl (cI, 29, .inl f)), (hm, .inr (2, [.ref hk, .int md, .long tm, .long al, .int (bI ln), .int od])), (hk, .inl (cI, 29, .inl f))] H := hP
        have hD : va_D _ [(h0, .inr (1, [.ref h, .int od])), (h, .inr (0, [.ref ha, .ref hv, .int (modeS md (xs (i + 1))), .long tm, .long al, .int (bI ln)])), (ha, .inl (cR, 29, .inr (.inr (.inr (.inr (gA ad)))))), (hv, .inl (cI, 29, .inl f)), (hm, .inr (2, [.ref hk, .int md, .long tm, .long al, .int (bI ln), .int od])), (hk, .inl (cI, 29, .inl f))] := hD
        refine W.eq (g2 := F0 m 108 ls [.int (modeR md (xs (i + 1)))]) rfl ?_
        refine lv_aload_n (pc := 108) hx hb d_L_law_108 rfl (lv_at hl 2 rfl) ?_
        refine lv_aload_n (pc := 109) hx hb d_L_law_109 rfl (lv_at hl 0 rfl) ?_
        refine lv_iload_n (pc := 110) hx hb d_L_law_110 rfl (lv_at hl 3 rfl) ?_
        refine lv_iconst (pc := 111) (v := 1) hx hb d_L_law_111 (by decide) ?_
        refine lv_iadd (pc := 112) hx hb d_L_law_112 ?_
        refine sc_ld (pc := 113) hx hb hsX hbl hbA hS (i + 1) (nI_add i 1) (by omega) hL d_L_law_113 ?_
        refine mu_V (pc := 114) (As := [.int (xs (i + 1))]) (rest := [.int (modeR md (xs (i + 1)))]) hx hb hml hl.1 hown hts (c_M_mode l D cI cR ad hm hk f md tm al ln od (xs (i + 1))) g_L_21 ⟨Nat.le_of_ble_eq_true rfl, Nat.le_of_ble_eq_true rfl⟩ (va_recv hX.1 hP (ci := 2) (q0 := 4) rfl rfl) hP hD hS hX hE [4, 5] (by decide) rfl rfl rfl (Nat.le_of_ble_eq_true rfl) ⟨Nat.le_of_ble_eq_true rfl, Nat.le_of_ble_eq_true rfl⟩ d_L_law_114 (fun H locs hP hD hS => ?_)
        have hP : va_P D cls_ [(h0, .inr (1, [.ref h, .int od])), (h, .inr (0, [.ref ha, .ref hv, .int (modeS md (xs (i + 1))), .long tm, .long al, .int (bI ln)])), (ha, .inl (cR, 29, .inr (.inr (.inr (.inr (gA ad)))))), (hv, .inl (cI, 29, .inl f)), (hm, .inr (2, [.ref hk, .int (modeS md (xs (i + 1))), .long tm, .long al, .int (bI ln), .int od])), (hk, .inl (cI, 29, .inl f))] H := hP
        have hD : va_D _ [(h0, .inr (1, [.ref h, .int od])), (h, .inr (0, [.ref ha, .ref hv, .int (modeS md (xs (i + 1))), .long tm, .long al, .int (bI ln)])), (ha, .inl (cR, 29, .inr (.inr (.inr (.inr (gA ad)))))), (hv, .inl (cI, 29, .inl f)), (hm, .inr (2, [.ref hk, .int (modeS md (xs (i + 1))), .long tm, .long al, .int (bI ln), .int od])), (hk, .inl (cI, 29, .inl f))] := hD
        refine W.eq (g2 := F0 m 117 ls [.int (modeR md (xs (i + 1))), .int (modeR md (xs (i + 1)))]) rfl ?_
        refine lv_icmp_eq (pc := 117) (tgt := 374) hx hb d_L_law_117 (by decide) (fun c_2 => ?_) (fun c_2 => absurd rfl c_2)
        refine lv_iinc (pc := 374) (v := (nI i) + 4) (lv' := [(3, .int ((nI i) + 4)), (0, .ref b), (1, .ref h0), (2, .ref hm)]) hx hb d_L_law_374 hl (k := 3) rfl rfl (by decide) rfl (fun ls hl => ?_)
        refine lv_goto (pc := 377) (tgt := 18) hx hb d_L_law_377 (by decide) ?_
        exact ih (i + 4) f (modeS md (xs (i + 1))) tm al ln od H locs ls (by omega) (by omega) hok hP hD hS (by rw [← nI_add]; exact lv_sub hl [1, 2, 3, 0] rfl)
      · refine lv_tableIn (pc := 32) (off := 90) (tgt := 122) hx hb d_L_law_32 (by decide) (by decide) rfl (by decide) ?_
        refine lv_aload_n (pc := 122) hx hb d_L_law_122 rfl (lv_at hl 1 rfl) ?_
        refine lv_aload_n (pc := 123) hx hb d_L_law_123 rfl (lv_at hl 0 rfl) ?_
        refine lv_iload_n (pc := 124) hx hb d_L_law_124 rfl (lv_at hl 3 rfl) ?_
        refine lv_iconst (pc := 125) (v := 1) hx hb d_L_law_125 (by decide) ?_
        refine lv_iadd (pc := 126) hx hb d_L_law_126 ?_
        refine sc_ld (pc := 127) hx hb hsX hbl hbA hS (i + 1) (nI_add i 1) (by omega) hL d_L_law_127 ?_
        refine lv_i2l (pc := 128) (v := (xs (i + 1)).toInt64) hx hb d_L_law_128 rfl ?_
        refine lv_bipush (pc := 129) (v := 32) hx hb d_L_law_129 (by decide) ?_
        refine lv_lshl (pc := 131) (v := ((xs (i + 1)).toInt64) <<< ((32 : Int32).toInt64 &&& 63)) hx hb d_L_law_131 rfl ?_
        refine lv_aload_n (pc := 132) hx hb d_L_law_132 rfl (lv_at hl 0 rfl) ?_
        refine lv_iload_n (pc := 133) hx hb d_L_law_133 rfl (lv_at hl 3 rfl) ?_
        refine lv_iconst (pc := 134) (v := 2) hx hb d_L_law_134 (by decide) ?_
        refine lv_iadd (pc := 135) hx hb d_L_law_135 ?_
        refine sc_ld (pc := 136) hx hb hsX hbl hbA hS (i + 2) (nI_add i 2) (by omega) hL d_L_law_136 ?_
        refine lv_i2l (pc := 137) (v := (xs (i + 2)).toInt64) hx hb d_L_law_137 rfl ?_
        refine lv_ldc2 (pc := 138) (v := 4294967295) hx hb hown (hts _ kk_L_22) d_L_law_138 ?_
        refine lv_land (pc := 141) hx hb d_L_law_141 ?_
        refine lv_lor (pc := 142) hx hb d_L_law_142 ?_
        refine mu_V (pc := 143) (As := [.long ((((xs (i + 1)).toInt64) <<< ((32 : Int32).toInt64 &&& 63)) ||| (((xs (i + 2)).toInt64) &&& 4294967295))]) (rest := []) hx hb hml hl.1 hown hts (c_F_time l D cI cR ad h0 h ha hv f md tm al ln od ((((xs (i + 1)).toInt64) <<< ((32 : Int32).toInt64 &&& 63)) ||| (((xs (i + 2)).toInt64) &&& 4294967295))) g_L_24 ⟨Nat.le_of_ble_eq_true rfl, Nat.le_of_ble_eq_true rfl⟩ (va_recv hX.1 hP (ci := 1) (q0 := 0) rfl rfl) hP hD hS hX hE [0, 1, 2, 3] (by decide) rfl rfl rfl (Nat.le_of_ble_eq_true rfl) ⟨Nat.le_of_ble_eq_true rfl, Nat.le_of_ble_eq_true rfl⟩ d_L_law_143 (fun H locs hP hD hS => ?_)
        have hP : va_P D cls_ [(h0, .inr (1, [.ref h, .int od])), (h, .inr (0, [.ref ha, .ref hv, .int md, .long (timeS tm ((((xs (i + 1)).toInt64) <<< ((32 : Int32).toInt64 &&& 63)) ||| (((xs (i + 2)).toInt64) &&& 4294967295))), .long al, .int (bI ln)])), (ha, .inl (cR, 29, .inr (.inr (.inr (.inr (gA ad)))))), (hv, .inl (cI, 29, .inl f)), (hm, .inr (2, [.ref hk, .int md, .long tm, .long al, .int (bI ln), .int od])), (hk, .inl (cI, 29, .inl f))] H := hP
        have hD : va_D _ [(h0, .inr (1, [.ref h, .int od])), (h, .inr (0, [.ref ha, .ref hv, .int md, .long (timeS tm ((((xs (i + 1)).toInt64) <<< ((32 : Int32).toInt64 &&& 63)) ||| (((xs (i + 2)).toInt64) &&& 4294967295))), .long al, .int (bI ln)])), (ha, .inl (cR, 29, .inr (.inr (.inr (.inr (gA ad)))))), (hv, .inl (cI, 29, .inl f)), (hm, .inr (2, [.ref hk, .int md, .long tm, .long al, .int (bI ln), .int od])), (hk, .inl (cI, 29, .inl f))] := hD
        refine W.eq (g2 := F0 m 146 ls [.long (timeR tm ((((xs (i + 1)).toInt64) <<< ((32 : Int32).toInt64 &&& 63)) ||| (((xs (i + 2)).toInt64) &&& 4294967295)))]) rfl ?_
        refine lv_aload_n (pc := 146) hx hb d_L_law_146 rfl (lv_at hl 2 rfl) ?_
        refine lv_aload_n (pc := 147) hx hb d_L_law_147 rfl (lv_at hl 0 rfl) ?_
        refine lv_iload_n (pc := 148) hx hb d_L_law_148 rfl (lv_at hl 3 rfl) ?_
        refine lv_iconst (pc := 149) (v := 1) hx hb d_L_law_149 (by decide) ?_
        refine lv_iadd (pc := 150) hx hb d_L_law_150 ?_
        refine sc_ld (pc := 151) hx hb hsX hbl hbA hS (i + 1) (nI_add i 1) (by omega) hL d_L_law_151 ?_
        refine lv_i2l (pc := 152) (v := (xs (i + 1)).toInt64) hx hb d_L_law_152 rfl ?_
        refine lv_bipush (pc := 153) (v := 32) hx hb d_L_law_153 (by decide) ?_
        refine lv_lshl (pc := 155) (v := ((xs (i + 1)).toInt64) <<< ((32 : Int32).toInt64 &&& 63)) hx hb d_L_law_155 rfl ?_
        refine lv_aload_n (pc := 156) hx hb d_L_law_156 rfl (lv_at hl 0 rfl) ?_
        refine lv_iload_n (pc := 157) hx hb d_L_law_157 rfl (lv_at hl 3 rfl) ?_
        refine lv_iconst (pc := 158) (v := 2) hx hb d_L_law_158 (by decide) ?_
        refine lv_iadd (pc := 159) hx hb d_L_law_159 ?_
        refine sc_ld (pc := 160) hx hb hsX hbl hbA hS (i + 2) (nI_add i 2) (by omega) hL d_L_law_160 ?_
        refine lv_i2l (pc := 161) (v := (xs (i + 2)).toInt64) hx hb d_L_law_161 rfl ?_
        refine lv_ldc2 (pc := 162) (v := 4294967295) hx hb hown (hts _ kk_L_22) d_L_law_162 ?_
        refine lv_land (pc := 165) hx hb d_L_law_165 ?_
        refine lv_lor (pc := 166) hx hb d_L_law_166 ?_
        refine mu_V (pc := 167) (As := [.long ((((xs (i + 1)).toInt64) <<< ((32 : Int32).toInt64 &&& 63)) ||| (((xs (i + 2)).toInt64) &&& 4294967295))]) (rest := [.long (timeR tm ((((xs (i + 1)).toInt64) <<< ((32 : Int32).toInt64 &&& 63)) ||| (((xs (i + 2)).toInt64) &&& 4294967295)))]) hx hb hml hl.1 hown hts (c_M_time l D cI cR ad hm hk f md tm al ln od ((((xs (i + 1)).toInt64) <<< ((32 : Int32).toInt64 &&& 63)) ||| (((xs (i + 2)).toInt64) &&& 4294967295))) g_L_28 ⟨Nat.le_of_ble_eq_true rfl, Nat.le_of_ble_eq_true rfl⟩ (va_recv hX.1 hP (ci := 2) (q0 := 4) rfl rfl) hP hD hS hX hE [4, 5] (by decide) rfl rfl rfl (Nat.le_of_ble_eq_true rfl) ⟨Nat.le_of_ble_eq_true rfl, Nat.le_of_ble_eq_true rfl⟩ d_L_law_167 (fun H locs hP hD hS => ?_)
        have hP : va_P D cls_ [(h0, .inr (1, [.ref h, .int od])), (h, .inr (0, [.ref ha, .ref hv, .int md, .long (timeS tm ((((xs (i + 1)).toInt64) <<< ((32 : Int32).toInt64 &&& 63)) ||| (((xs (i + 2)).toInt64) &&& 4294967295))), .long al, .int (bI ln)])), (ha, .inl (cR, 29, .inr (.inr (.inr (.inr (gA ad)))))), (hv, .inl (cI, 29, .inl f)), (hm, .inr (2, [.ref hk, .int md, .long (timeS tm ((((xs (i + 1)).toInt64) <<< ((32 : Int32).toInt64 &&& 63)) ||| (((xs (i + 2)).toInt64) &&& 4294967295))), .long al, .int (bI ln), .int od])), (hk, .inl (cI, 29, .inl f))] H := hP
        have hD : va_D _ [(h0, .inr (1, [.ref h, .int od])), (h, .inr (0, [.ref ha, .ref hv, .int md, .long (timeS tm ((((xs (i + 1)).toInt64) <<< ((32 : Int32).toInt64 &&& 63)) ||| (((xs (i + 2)).toInt64) &&& 4294967295))), .long al, .int (bI ln)])), (ha, .inl (cR, 29, .inr (.inr (.inr (.inr (gA ad)))))), (hv, .inl (cI, 29, .inl f)), (hm, .inr (2, [.ref hk, .int md, .long (timeS tm ((((xs (i + 1)).toInt64) <<< ((32 : Int32).toInt64 &&& 63)) ||| (((xs (i + 2)).toInt64) &&& 4294967295))), .long al, .int (bI ln), .int od])), (hk, .inl (cI, 29, .inl f))] := hD
        refine W.eq (g2 := F0 m 170 ls [.long (timeR tm ((((xs (i + 1)).toInt64) <<< ((32 : Int32).toInt64 &&& 63)) ||| (((xs (i + 2)).toInt64) &&& 4294967295))), .long (timeR tm ((((xs (i + 1)).toInt64) <<< ((32 : Int32).toInt64 &&& 63)) ||| (((xs (i + 2)).toInt64) &&& 4294967295)))]) rfl ?_
        refine W.lcmp (pc := 170) hx hb d_L_law_170 ?_
        refine top_eq (pc := 171) (y := 0) (lg_self _) ?_
        refine lv_if_eq (pc := 171) (tgt := 374) hx hb d_L_law_171 (by decide) (fun c_3 => ?_) (fun c_3 => absurd rfl c_3)
        refine lv_iinc (pc := 374) (v := (nI i) + 4) (lv' := [(3, .int ((nI i) + 4)), (0, .ref b), (1, .ref h0), (2, .ref hm)]) hx hb d_L_law_374 hl (k := 3) rfl rfl (by decide) rfl (fun ls hl => ?_)
        refine lv_goto (pc := 377) (tgt := 18) hx hb d_L_law_377 (by decide) ?_
        exact ih (i + 4) f md (timeS tm ((((xs (i + 1)).toInt64) <<< ((32 : Int32).toInt64 &&& 63)) ||| (((xs (i + 2)).toInt64) &&& 4294967295))) al ln od H locs ls (by omega) (by omega) hok hP hD hS (by rw [← nI_add]; exact lv_sub hl [1, 2, 3, 0] rfl)
      · refine lv_tableIn (pc := 32) (off := 144) (tgt := 176) hx hb d_L_law_32 (by decide) (by decide) rfl (by decide) ?_
        refine lv_aload_n (pc := 176) hx hb d_L_law_176 rfl (lv_at hl 1 rfl) ?_
        refine lv_aload_n (pc := 177) hx hb d_L_law_177 rfl (lv_at hl 0 rfl) ?_
        refine lv_iload_n (pc := 178) hx hb d_L_law_178 rfl (lv_at hl 3 rfl) ?_
        refine lv_iconst (pc := 179) (v := 1) hx hb d_L_law_179 (by decide) ?_
        refine lv_iadd (pc := 180) hx hb d_L_law_180 ?_
        refine sc_ld (pc := 181) hx hb hsX hbl hbA hS (i + 1) (nI_add i 1) (by omega) hL d_L_law_181 ?_
        refine lv_i2l (pc := 182) (v := (xs (i + 1)).toInt64) hx hb d_L_law_182 rfl ?_
        refine lv_bipush (pc := 183) (v := 32) hx hb d_L_law_183 (by decide) ?_
        refine lv_lshl (pc := 185) (v := ((xs (i + 1)).toInt64) <<< ((32 : Int32).toInt64 &&& 63)) hx hb d_L_law_185 rfl ?_
        refine lv_aload_n (pc := 186) hx hb d_L_law_186 rfl (lv_at hl 0 rfl) ?_
        refine lv_iload_n (pc := 187) hx hb d_L_law_187 rfl (lv_at hl 3 rfl) ?_
        refine lv_iconst (pc := 188) (v := 2) hx hb d_L_law_188 (by decide) ?_
        refine lv_iadd (pc := 189) hx hb d_L_law_189 ?_
        refine sc_ld (pc := 190) hx hb hsX hbl hbA hS (i + 2) (nI_add i 2) (by omega) hL d_L_law_190 ?_
        refine lv_i2l (pc := 191) (v := (xs (i + 2)).toInt64) hx hb d_L_law_191 rfl ?_
        refine lv_ldc2 (pc := 192) (v := 4294967295) hx hb hown (hts _ kk_L_22) d_L_law_192 ?_
        refine lv_land (pc := 195) hx hb d_L_law_195 ?_
        refine lv_lor (pc := 196) hx hb d_L_law_196 ?_
        refine mu_V (pc := 197) (As := [.long ((((xs (i + 1)).toInt64) <<< ((32 : Int32).toInt64 &&& 63)) ||| (((xs (i + 2)).toInt64) &&& 4294967295))]) (rest := []) hx hb hml hl.1 hown hts (c_F_alarm l D cI cR ad h0 h ha hv f md tm al ln od ((((xs (i + 1)).toInt64) <<< ((32 : Int32).toInt64 &&& 63)) ||| (((xs (i + 2)).toInt64) &&& 4294967295))) g_L_29 ⟨Nat.le_of_ble_eq_true rfl, Nat.le_of_ble_eq_true rfl⟩ (va_recv hX.1 hP (ci := 1) (q0 := 0) rfl rfl) hP hD hS hX hE [0, 1, 2, 3] (by decide) rfl rfl rfl (Nat.le_of_ble_eq_true rfl) ⟨Nat.le_of_ble_eq_true rfl, Nat.le_of_ble_eq_true rfl⟩ d_L_law_197 (fun H locs hP hD hS => ?_)
        have hP : va_P D cls_ [(h0, .inr (1, [.ref h, .int od])), (h, .inr (0, [.ref ha, .ref hv, .int md, .long tm, .long (alarmS ((((xs (i + 1)).toInt64) <<< ((32 : Int32).toInt64 &&& 63)) ||| (((xs (i + 2)).toInt64) &&& 4294967295))), .int (bI ln)])), (ha, .inl (cR, 29, .inr (.inr (.inr (.inr (gA ad)))))), (hv, .inl (cI, 29, .inl f)), (hm, .inr (2, [.ref hk, .int md, .long tm, .long al, .int (bI ln), .int od])), (hk, .inl (cI, 29, .inl f))] H := hP
        have hD : va_D _ [(h0, .inr (1, [.ref h, .int od])), (h, .inr (0, [.ref ha, .ref hv, .int md, .long tm, .long (alarmS ((((xs (i + 1)).toInt64) <<< ((32 : Int32).toInt64 &&& 63)) ||| (((xs (i + 2)).toInt64) &&& 4294967295))), .int (bI ln)])), (ha, .inl (cR, 29, .inr (.inr (.inr (.inr (gA ad)))))), (hv, .inl (cI, 29, .inl f)), (hm, .inr (2, [.ref hk, .int md, .long tm, .long al, .int (bI ln), .int od])), (hk, .inl (cI, 29, .inl f))] := hD
        refine W.eq (g2 := F0 m 200 ls [.long al]) rfl ?_
        refine lv_aload_n (pc := 200) hx hb d_L_law_200 rfl (lv_at hl 2 rfl) ?_
        refine lv_aload_n (pc := 201) hx hb d_L_law_201 rfl (lv_at hl 0 rfl) ?_
        refine lv_iload_n (pc := 202) hx hb d_L_law_202 rfl (lv_at hl 3 rfl) ?_
        refine lv_iconst (pc := 203) (v := 1) hx hb d_L_law_203 (by decide) ?_
        refine lv_iadd (pc := 204) hx hb d_L_law_204 ?_
        refine sc_ld (pc := 205) hx hb hsX hbl hbA hS (i + 1) (nI_add i 1) (by omega) hL d_L_law_205 ?_
        refine lv_i2l (pc := 206) (v := (xs (i + 1)).toInt64) hx hb d_L_law_206 rfl ?_
        refine lv_bipush (pc := 207) (v := 32) hx hb d_L_law_207 (by decide) ?_
        refine lv_lshl (pc := 209) (v := ((xs (i + 1)).toInt64) <<< ((32 : Int32).toInt64 &&& 63)) hx hb d_L_law_209 rfl ?_
        refine lv_aload_n (pc := 210) hx hb d_L_law_210 rfl (lv_at hl 0 rfl) ?_
        refine lv_iload_n (pc := 211) hx hb d_L_law_211 rfl (lv_at hl 3 rfl) ?_
        refine lv_iconst (pc := 212) (v := 2) hx hb d_L_law_212 (by decide) ?_
        refine lv_iadd (pc := 213) hx hb d_L_law_213 ?_
        refine sc_ld (pc := 214) hx hb hsX hbl hbA hS (i + 2) (nI_add i 2) (by omega) hL d_L_law_214 ?_
        refine lv_i2l (pc := 215) (v := (xs (i + 2)).toInt64) hx hb d_L_law_215 rfl ?_
        refine lv_ldc2 (pc := 216) (v := 4294967295) hx hb hown (hts _ kk_L_22) d_L_law_216 ?_
        refine lv_land (pc := 219) hx hb d_L_law_219 ?_
        refine lv_lor (pc := 220) hx hb d_L_law_220 ?_
        refine mu_V (pc := 221) (As := [.long ((((xs (i + 1)).toInt64) <<< ((32 : Int32).toInt64 &&& 63)) ||| (((xs (i + 2)).toInt64) &&& 4294967295))]) (rest := [.long al]) hx hb hml hl.1 hown hts (c_M_alarm l D cI cR ad hm hk f md tm al ln od ((((xs (i + 1)).toInt64) <<< ((32 : Int32).toInt64 &&& 63)) ||| (((xs (i + 2)).toInt64) &&& 4294967295))) g_L_32 ⟨Nat.le_of_ble_eq_true rfl, Nat.le_of_ble_eq_true rfl⟩ (va_recv hX.1 hP (ci := 2) (q0 := 4) rfl rfl) hP hD hS hX hE [4, 5] (by decide) rfl rfl rfl (Nat.le_of_ble_eq_true rfl) ⟨Nat.le_of_ble_eq_true rfl, Nat.le_of_ble_eq_true rfl⟩ d_L_law_221 (fun H locs hP hD hS => ?_)
        have hP : va_P D cls_ [(h0, .inr (1, [.ref h, .int od])), (h, .inr (0, [.ref ha, .ref hv, .int md, .long tm, .long (alarmS ((((xs (i + 1)).toInt64) <<< ((32 : Int32).toInt64 &&& 63)) ||| (((xs (i + 2)).toInt64) &&& 4294967295))), .int (bI ln)])), (ha, .inl (cR, 29, .inr (.inr (.inr (.inr (gA ad)))))), (hv, .inl (cI, 29, .inl f)), (hm, .inr (2, [.ref hk, .int md, .long tm, .long (alarmS ((((xs (i + 1)).toInt64) <<< ((32 : Int32).toInt64 &&& 63)) ||| (((xs (i + 2)).toInt64) &&& 4294967295))), .int (bI ln), .int od])), (hk, .inl (cI, 29, .inl f))] H := hP
        have hD : va_D _ [(h0, .inr (1, [.ref h, .int od])), (h, .inr (0, [.ref ha, .ref hv, .int md, .long tm, .long (alarmS ((((xs (i + 1)).toInt64) <<< ((32 : Int32).toInt64 &&& 63)) ||| (((xs (i + 2)).toInt64) &&& 4294967295))), .int (bI ln)])), (ha, .inl (cR, 29, .inr (.inr (.inr (.inr (gA ad)))))), (hv, .inl (cI, 29, .inl f)), (hm, .inr (2, [.ref hk, .int md, .long tm, .long (alarmS ((((xs (i + 1)).toInt64) <<< ((32 : Int32).toInt64 &&& 63)) ||| (((xs (i + 2)).toInt64) &&& 4294967295))), .int (bI ln), .int od])), (hk, .inl (cI, 29, .inl f))] := hD
        refine W.eq (g2 := F0 m 224 ls [.long al, .long al]) rfl ?_
        refine W.lcmp (pc := 224) hx hb d_L_law_224 ?_
        refine top_eq (pc := 225) (y := 0) (lg_self _) ?_
        refine lv_if_eq (pc := 225) (tgt := 374) hx hb d_L_law_225 (by decide) (fun c_4 => ?_) (fun c_4 => absurd rfl c_4)
        refine lv_iinc (pc := 374) (v := (nI i) + 4) (lv' := [(3, .int ((nI i) + 4)), (0, .ref b), (1, .ref h0), (2, .ref hm)]) hx hb d_L_law_374 hl (k := 3) rfl rfl (by decide) rfl (fun ls hl => ?_)
        refine lv_goto (pc := 377) (tgt := 18) hx hb d_L_law_377 (by decide) ?_
        exact ih (i + 4) f md tm (alarmS ((((xs (i + 1)).toInt64) <<< ((32 : Int32).toInt64 &&& 63)) ||| (((xs (i + 2)).toInt64) &&& 4294967295))) ln od H locs ls (by omega) (by omega) hok hP hD hS (by rw [← nI_add]; exact lv_sub hl [1, 2, 3, 0] rfl)
      · refine lv_tableIn (pc := 32) (off := 198) (tgt := 230) hx hb d_L_law_32 (by decide) (by decide) rfl (by decide) ?_
        refine lv_aload_n (pc := 230) hx hb d_L_law_230 rfl (lv_at hl 1 rfl) ?_
        refine lv_aload_n (pc := 231) hx hb d_L_law_231 rfl (lv_at hl 0 rfl) ?_
        refine lv_iload_n (pc := 232) hx hb d_L_law_232 rfl (lv_at hl 3 rfl) ?_
        refine lv_iconst (pc := 233) (v := 1) hx hb d_L_law_233 (by decide) ?_
        refine lv_iadd (pc := 234) hx hb d_L_law_234 ?_
        refine sc_ld (pc := 235) hx hb hsX hbl hbA hS (i + 1) (nI_add i 1) (by omega) hL d_L_law_235 ?_
        refine lv_if_eq (pc := 236) (tgt := 243) hx hb d_L_law_236 (by decide) (fun c_5 => ?_) (fun c_5 => ?_)
        · refine lv_iconst (pc := 243) (v := 0) hx hb d_L_law_243 (by decide) ?_
          refine mu_V (pc := 244) (As := [.int 0]) (rest := []) hx hb hml hl.1 hown hts (c_F_line l D cI cR ad h0 h ha hv f md tm al ln od false) g_L_33 ⟨Nat.le_of_ble_eq_true rfl, Nat.le_of_ble_eq_true rfl⟩ (va_recv hX.1 hP (ci := 1) (q0 := 0) rfl rfl) hP hD hS hX hE [0, 1, 2, 3] (by decide) rfl rfl rfl (Nat.le_of_ble_eq_true rfl) ⟨Nat.le_of_ble_eq_true rfl, Nat.le_of_ble_eq_true rfl⟩ d_L_law_244 (fun H locs hP hD hS => ?_)
          have hP : va_P D cls_ [(h0, .inr (1, [.ref h, .int od])), (h, .inr (0, [.ref ha, .ref hv, .int md, .long tm, .long al, .int (bI false)])), (ha, .inl (cR, 29, .inr (.inr (.inr (.inr (gA ad)))))), (hv, .inl (cI, 29, .inl f)), (hm, .inr (2, [.ref hk, .int md, .long tm, .long al, .int (bI ln), .int od])), (hk, .inl (cI, 29, .inl f))] H := hP
          have hD : va_D _ [(h0, .inr (1, [.ref h, .int od])), (h, .inr (0, [.ref ha, .ref hv, .int md, .long tm, .long al, .int (bI false)])), (ha, .inl (cR, 29, .inr (.inr (.inr (.inr (gA ad)))))), (hv, .inl (cI, 29, .inl f)), (hm, .inr (2, [.ref hk, .int md, .long tm, .long al, .int (bI ln), .int od])), (hk, .inl (cI, 29, .inl f))] := hD
          refine W.eq (g2 := F0 m 247 ls [.int (bI ln)]) rfl ?_
          refine lv_aload_n (pc := 247) hx hb d_L_law_247 rfl (lv_at hl 2 rfl) ?_
          refine lv_aload_n (pc := 248) hx hb d_L_law_248 rfl (lv_at hl 0 rfl) ?_
          refine lv_iload_n (pc := 249) hx hb d_L_law_249 rfl (lv_at hl 3 rfl) ?_
          refine lv_iconst (pc := 250) (v := 1) hx hb d_L_law_250 (by decide) ?_
          refine lv_iadd (pc := 251) hx hb d_L_law_251 ?_
          refine sc_ld (pc := 252) hx hb hsX hbl hbA hS (i + 1) (nI_add i 1) (by omega) hL d_L_law_252 ?_
          refine lv_if_eq (pc := 253) (tgt := 260) hx hb d_L_law_253 (by decide) (fun c_6 => ?_) (fun c_6 => absurd c_5 c_6)
          refine lv_iconst (pc := 260) (v := 0) hx hb d_L_law_260 (by decide) ?_
          refine mu_V (pc := 261) (As := [.int 0]) (rest := [.int (bI ln)]) hx hb hml hl.1 hown hts (c_M_line l D cI cR ad hm hk f md tm al ln od false) g_L_37 ⟨Nat.le_of_ble_eq_true rfl, Nat.le_of_ble_eq_true rfl⟩ (va_recv hX.1 hP (ci := 2) (q0 := 4) rfl rfl) hP hD hS hX hE [4, 5] (by decide) rfl rfl rfl (Nat.le_of_ble_eq_true rfl) ⟨Nat.le_of_ble_eq_true rfl, Nat.le_of_ble_eq_true rfl⟩ d_L_law_261 (fun H locs hP hD hS => ?_)
          have hP : va_P D cls_ [(h0, .inr (1, [.ref h, .int od])), (h, .inr (0, [.ref ha, .ref hv, .int md, .long tm, .long al, .int (bI false)])), (ha, .inl (cR, 29, .inr (.inr (.inr (.inr (gA ad)))))), (hv, .inl (cI, 29, .inl f)), (hm, .inr (2, [.ref hk, .int md, .long tm, .long al, .int (bI false), .int od])), (hk, .inl (cI, 29, .inl f))] H := hP
          have hD : va_D _ [(h0, .inr (1, [.ref h, .int od])), (h, .inr (0, [.ref ha, .ref hv, .int md, .long tm, .long al, .int (bI false)])), (ha, .inl (cR, 29, .inr (.inr (.inr (.inr (gA ad)))))), (hv, .inl (cI, 29, .inl f)), (hm, .inr (2, [.ref hk, .int md, .long tm, .long al, .int (bI false), .int od])), (hk, .inl (cI, 29, .inl f))] := hD
          refine W.eq (g2 := F0 m 264 ls [.int (bI ln), .int (bI ln)]) rfl ?_
          refine lv_icmp_eq (pc := 264) (tgt := 374) hx hb d_L_law_264 (by decide) (fun c_7 => ?_) (fun c_7 => absurd rfl c_7)
          refine lv_iinc (pc := 374) (v := (nI i) + 4) (lv' := [(3, .int ((nI i) + 4)), (0, .ref b), (1, .ref h0), (2, .ref hm)]) hx hb d_L_law_374 hl (k := 3) rfl rfl (by decide) rfl (fun ls hl => ?_)
          refine lv_goto (pc := 377) (tgt := 18) hx hb d_L_law_377 (by decide) ?_
          exact ih (i + 4) f md tm al false od H locs ls (by omega) (by omega) hok hP hD hS (by rw [← nI_add]; exact lv_sub hl [1, 2, 3, 0] rfl)
        · refine lv_iconst (pc := 239) (v := 1) hx hb d_L_law_239 (by decide) ?_
          refine lv_goto (pc := 240) (tgt := 244) hx hb d_L_law_240 (by decide) ?_
          refine mu_V (pc := 244) (As := [.int 1]) (rest := []) hx hb hml hl.1 hown hts (c_F_line l D cI cR ad h0 h ha hv f md tm al ln od true) g_L_33 ⟨Nat.le_of_ble_eq_true rfl, Nat.le_of_ble_eq_true rfl⟩ (va_recv hX.1 hP (ci := 1) (q0 := 0) rfl rfl) hP hD hS hX hE [0, 1, 2, 3] (by decide) rfl rfl rfl (Nat.le_of_ble_eq_true rfl) ⟨Nat.le_of_ble_eq_true rfl, Nat.le_of_ble_eq_true rfl⟩ d_L_law_244 (fun H locs hP hD hS => ?_)
          have hP : va_P D cls_ [(h0, .inr (1, [.ref h, .int od])), (h, .inr (0, [.ref ha, .ref hv, .int md, .long tm, .long al, .int (bI true)])), (ha, .inl (cR, 29, .inr (.inr (.inr (.inr (gA ad)))))), (hv, .inl (cI, 29, .inl f)), (hm, .inr (2, [.ref hk, .int md, .long tm, .long al, .int (bI ln), .int od])), (hk, .inl (cI, 29, .inl f))] H := hP
          have hD : va_D _ [(h0, .inr (1, [.ref h, .int od])), (h, .inr (0, [.ref ha, .ref hv, .int md, .long tm, .long al, .int (bI true)])), (ha, .inl (cR, 29, .inr (.inr (.inr (.inr (gA ad)))))), (hv, .inl (cI, 29, .inl f)), (hm, .inr (2, [.ref hk, .int md, .long tm, .long al, .int (bI ln), .int od])), (hk, .inl (cI, 29, .inl f))] := hD
          refine W.eq (g2 := F0 m 247 ls [.int (bI ln)]) rfl ?_
          refine lv_aload_n (pc := 247) hx hb d_L_law_247 rfl (lv_at hl 2 rfl) ?_
          refine lv_aload_n (pc := 248) hx hb d_L_law_248 rfl (lv_at hl 0 rfl) ?_
          refine lv_iload_n (pc := 249) hx hb d_L_law_249 rfl (lv_at hl 3 rfl) ?_
          refine lv_iconst (pc := 250) (v := 1) hx hb d_L_law_250 (by decide) ?_
          refine lv_iadd (pc := 251) hx hb d_L_law_251 ?_
          refine sc_ld (pc := 252) hx hb hsX hbl hbA hS (i + 1) (nI_add i 1) (by omega) hL d_L_law_252 ?_
          refine lv_if_eq (pc := 253) (tgt := 260) hx hb d_L_law_253 (by decide) (fun c_8 => absurd c_8 c_5) (fun c_8 => ?_)
          refine lv_iconst (pc := 256) (v := 1) hx hb d_L_law_256 (by decide) ?_
          refine lv_goto (pc := 257) (tgt := 261) hx hb d_L_law_257 (by decide) ?_
          refine mu_V (pc := 261) (As := [.int 1]) (rest := [.int (bI ln)]) hx hb hml hl.1 hown hts (c_M_line l D cI cR ad hm hk f md tm al ln od true) g_L_37 ⟨Nat.le_of_ble_eq_true rfl, Nat.le_of_ble_eq_true rfl⟩ (va_recv hX.1 hP (ci := 2) (q0 := 4) rfl rfl) hP hD hS hX hE [4, 5] (by decide) rfl rfl rfl (Nat.le_of_ble_eq_true rfl) ⟨Nat.le_of_ble_eq_true rfl, Nat.le_of_ble_eq_true rfl⟩ d_L_law_261 (fun H locs hP hD hS => ?_)
          have hP : va_P D cls_ [(h0, .inr (1, [.ref h, .int od])), (h, .inr (0, [.ref ha, .ref hv, .int md, .long tm, .long al, .int (bI true)])), (ha, .inl (cR, 29, .inr (.inr (.inr (.inr (gA ad)))))), (hv, .inl (cI, 29, .inl f)), (hm, .inr (2, [.ref hk, .int md, .long tm, .long al, .int (bI true), .int od])), (hk, .inl (cI, 29, .inl f))] H := hP
          have hD : va_D _ [(h0, .inr (1, [.ref h, .int od])), (h, .inr (0, [.ref ha, .ref hv, .int md, .long tm, .long al, .int (bI true)])), (ha, .inl (cR, 29, .inr (.inr (.inr (.inr (gA ad)))))), (hv, .inl (cI, 29, .inl f)), (hm, .inr (2, [.ref hk, .int md, .long tm, .long al, .int (bI true), .int od])), (hk, .inl (cI, 29, .inl f))] := hD
          refine W.eq (g2 := F0 m 264 ls [.int (bI ln), .int (bI ln)]) rfl ?_
          refine lv_icmp_eq (pc := 264) (tgt := 374) hx hb d_L_law_264 (by decide) (fun c_9 => ?_) (fun c_9 => absurd rfl c_9)
          refine lv_iinc (pc := 374) (v := (nI i) + 4) (lv' := [(3, .int ((nI i) + 4)), (0, .ref b), (1, .ref h0), (2, .ref hm)]) hx hb d_L_law_374 hl (k := 3) rfl rfl (by decide) rfl (fun ls hl => ?_)
          refine lv_goto (pc := 377) (tgt := 18) hx hb d_L_law_377 (by decide) ?_
          exact ih (i + 4) f md tm al true od H locs ls (by omega) (by omega) hok hP hD hS (by rw [← nI_add]; exact lv_sub hl [1, 2, 3, 0] rfl)
      · refine lv_tableIn (pc := 32) (off := 237) (tgt := 269) hx hb d_L_law_32 (by decide) (by decide) rfl (by decide) ?_
        refine lv_aload_n (pc := 269) hx hb d_L_law_269 rfl (lv_at hl 1 rfl) ?_
        refine lv_aload_n (pc := 270) hx hb d_L_law_270 rfl (lv_at hl 0 rfl) ?_
        refine lv_iload_n (pc := 271) hx hb d_L_law_271 rfl (lv_at hl 3 rfl) ?_
        refine lv_iconst (pc := 272) (v := 1) hx hb d_L_law_272 (by decide) ?_
        refine lv_iadd (pc := 273) hx hb d_L_law_273 ?_
        refine sc_ld (pc := 274) hx hb hsX hbl hbA hS (i + 1) (nI_add i 1) (by omega) hL d_L_law_274 ?_
        refine lv_aload_n (pc := 275) hx hb d_L_law_275 rfl (lv_at hl 0 rfl) ?_
        refine lv_iload_n (pc := 276) hx hb d_L_law_276 rfl (lv_at hl 3 rfl) ?_
        refine lv_iconst (pc := 277) (v := 2) hx hb d_L_law_277 (by decide) ?_
        refine lv_iadd (pc := 278) hx hb d_L_law_278 ?_
        refine sc_ld (pc := 279) hx hb hsX hbl hbA hS (i + 2) (nI_add i 2) (by omega) hL d_L_law_279 ?_
        refine lv_aload_n (pc := 280) hx hb d_L_law_280 rfl (lv_at hl 0 rfl) ?_
        refine lv_iload_n (pc := 281) hx hb d_L_law_281 rfl (lv_at hl 3 rfl) ?_
        refine lv_iconst (pc := 282) (v := 3) hx hb d_L_law_282 (by decide) ?_
        refine lv_iadd (pc := 283) hx hb d_L_law_283 ?_
        refine sc_ld (pc := 284) hx hb hsX hbl hbA hS (i + 3) (nI_add i 3) (by omega) hL d_L_law_284 ?_
        refine mu_V (pc := 285) (As := [.int (xs (i + 1)), .int (xs (i + 2)), .int (xs (i + 3))]) (rest := []) hx hb hml hl.1 hown hts (c_F_access l D cI cR ad h0 h ha hv f md tm al ln od (xs (i + 1)) (xs (i + 2)) (xs (i + 3)) hok) g_L_38 ⟨Nat.le_of_ble_eq_true rfl, Nat.le_of_ble_eq_true rfl⟩ (va_recv hX.1 hP (ci := 1) (q0 := 0) rfl rfl) hP hD hS hX hE [0, 1, 2, 3] (by decide) rfl rfl rfl (Nat.le_of_ble_eq_true rfl) ⟨Nat.le_of_ble_eq_true rfl, Nat.le_of_ble_eq_true rfl⟩ d_L_law_285 (fun H locs hP hD hS => ?_)
        have hP : va_P D cls_ [(h0, .inr (1, [.ref h, .int (accO f md tm al ln od (xs (i + 1)) (xs (i + 2)))])), (h, .inr (0, [.ref ha, .ref hv, .int md, .long tm, .long al, .int (bI ln)])), (ha, .inl (cR, 29, .inr (.inr (.inr (.inr (gA ad)))))), (hv, .inl (cI, 29, .inl (accS f md tm al ln (xs (i + 1)) (xs (i + 2)) (xs (i + 3))))), (hm, .inr (2, [.ref hk, .int md, .long tm, .long al, .int (bI ln), .int od])), (hk, .inl (cI, 29, .inl f))] H := hP
        have hD : va_D _ [(h0, .inr (1, [.ref h, .int (accO f md tm al ln od (xs (i + 1)) (xs (i + 2)))])), (h, .inr (0, [.ref ha, .ref hv, .int md, .long tm, .long al, .int (bI ln)])), (ha, .inl (cR, 29, .inr (.inr (.inr (.inr (gA ad)))))), (hv, .inl (cI, 29, .inl (accS f md tm al ln (xs (i + 1)) (xs (i + 2)) (xs (i + 3))))), (hm, .inr (2, [.ref hk, .int md, .long tm, .long al, .int (bI ln), .int od])), (hk, .inl (cI, 29, .inl f))] := hD
        refine W.eq (g2 := F0 m 288 ls [.int (accR f md (xs (i + 1)) (xs (i + 2)))]) rfl ?_
        refine lv_aload_n (pc := 288) hx hb d_L_law_288 rfl (lv_at hl 2 rfl) ?_
        refine lv_aload_n (pc := 289) hx hb d_L_law_289 rfl (lv_at hl 0 rfl) ?_
        refine lv_iload_n (pc := 290) hx hb d_L_law_290 rfl (lv_at hl 3 rfl) ?_
        refine lv_iconst (pc := 291) (v := 1) hx hb d_L_law_291 (by decide) ?_
        refine lv_iadd (pc := 292) hx hb d_L_law_292 ?_
        refine sc_ld (pc := 293) hx hb hsX hbl hbA hS (i + 1) (nI_add i 1) (by omega) hL d_L_law_293 ?_
        refine lv_aload_n (pc := 294) hx hb d_L_law_294 rfl (lv_at hl 0 rfl) ?_
        refine lv_iload_n (pc := 295) hx hb d_L_law_295 rfl (lv_at hl 3 rfl) ?_
        refine lv_iconst (pc := 296) (v := 2) hx hb d_L_law_296 (by decide) ?_
        refine lv_iadd (pc := 297) hx hb d_L_law_297 ?_
        refine sc_ld (pc := 298) hx hb hsX hbl hbA hS (i + 2) (nI_add i 2) (by omega) hL d_L_law_298 ?_
        refine lv_aload_n (pc := 299) hx hb d_L_law_299 rfl (lv_at hl 0 rfl) ?_
        refine lv_iload_n (pc := 300) hx hb d_L_law_300 rfl (lv_at hl 3 rfl) ?_
        refine lv_iconst (pc := 301) (v := 3) hx hb d_L_law_301 (by decide) ?_
        refine lv_iadd (pc := 302) hx hb d_L_law_302 ?_
        refine sc_ld (pc := 303) hx hb hsX hbl hbA hS (i + 3) (nI_add i 3) (by omega) hL d_L_law_303 ?_
        refine mu_V (pc := 304) (As := [.int (xs (i + 1)), .int (xs (i + 2)), .int (xs (i + 3))]) (rest := [.int (accR f md (xs (i + 1)) (xs (i + 2)))]) hx hb hml hl.1 hown hts (c_M_access l D cI cR ad hm hk f md tm al ln od (xs (i + 1)) (xs (i + 2)) (xs (i + 3))) g_L_42 ⟨Nat.le_of_ble_eq_true rfl, Nat.le_of_ble_eq_true rfl⟩ (va_recv hX.1 hP (ci := 2) (q0 := 4) rfl rfl) hP hD hS hX hE [4, 5] (by decide) rfl rfl rfl (Nat.le_of_ble_eq_true rfl) ⟨Nat.le_of_ble_eq_true rfl, Nat.le_of_ble_eq_true rfl⟩ d_L_law_304 (fun H locs hP hD hS => ?_)
        have hP : va_P D cls_ [(h0, .inr (1, [.ref h, .int (accO f md tm al ln od (xs (i + 1)) (xs (i + 2)))])), (h, .inr (0, [.ref ha, .ref hv, .int md, .long tm, .long al, .int (bI ln)])), (ha, .inl (cR, 29, .inr (.inr (.inr (.inr (gA ad)))))), (hv, .inl (cI, 29, .inl (accS f md tm al ln (xs (i + 1)) (xs (i + 2)) (xs (i + 3))))), (hm, .inr (2, [.ref hk, .int md, .long tm, .long al, .int (bI ln), .int (accO f md tm al ln od (xs (i + 1)) (xs (i + 2)))])), (hk, .inl (cI, 29, .inl (accS f md tm al ln (xs (i + 1)) (xs (i + 2)) (xs (i + 3)))))] H := hP
        have hD : va_D _ [(h0, .inr (1, [.ref h, .int (accO f md tm al ln od (xs (i + 1)) (xs (i + 2)))])), (h, .inr (0, [.ref ha, .ref hv, .int md, .long tm, .long al, .int (bI ln)])), (ha, .inl (cR, 29, .inr (.inr (.inr (.inr (gA ad)))))), (hv, .inl (cI, 29, .inl (accS f md tm al ln (xs (i + 1)) (xs (i + 2)) (xs (i + 3))))), (hm, .inr (2, [.ref hk, .int md, .long tm, .long al, .int (bI ln), .int (accO f md tm al ln od (xs (i + 1)) (xs (i + 2)))])), (hk, .inl (cI, 29, .inl (accS f md tm al ln (xs (i + 1)) (xs (i + 2)) (xs (i + 3)))))] := hD
        refine W.eq (g2 := F0 m 307 ls [.int (accR f md (xs (i + 1)) (xs (i + 2))), .int (accR f md (xs (i + 1)) (xs (i + 2)))]) rfl ?_
        refine lv_icmp_eq (pc := 307) (tgt := 374) hx hb d_L_law_307 (by decide) (fun c_10 => ?_) (fun c_10 => absurd rfl c_10)
        refine lv_iinc (pc := 374) (v := (nI i) + 4) (lv' := [(3, .int ((nI i) + 4)), (0, .ref b), (1, .ref h0), (2, .ref hm)]) hx hb d_L_law_374 hl (k := 3) rfl rfl (by decide) rfl (fun ls hl => ?_)
        refine lv_goto (pc := 377) (tgt := 18) hx hb d_L_law_377 (by decide) ?_
        exact ih (i + 4) (accS f md tm al ln (xs (i + 1)) (xs (i + 2)) (xs (i + 3))) md tm al ln (accO f md tm al ln od (xs (i + 1)) (xs (i + 2))) H locs ls (by omega) (by omega) (ok_acc hok) hP hD hS (by rw [← nI_add]; exact lv_sub hl [1, 2, 3, 0] rfl)
      · refine lv_tableIn (pc := 32) (off := 280) (tgt := 312) hx hb d_L_law_32 (by decide) (by decide) rfl (by decide) ?_
        refine lv_aload_n (pc := 312) hx hb d_L_law_312 rfl (lv_at hl 1 rfl) ?_
        refine ro_V (pc := 313) (As := []) (rest := []) hx hb hml hl.1 hown hts (c_F_old l D cI cR ad h0 h ha hv f md tm al ln od) g_L_43 ⟨Nat.le_of_ble_eq_true rfl, Nat.le_of_ble_eq_true rfl⟩ (va_recv hX.1 hP (ci := 1) (q0 := 0) rfl rfl) (wc_P hP [0, 1, 2, 3] rfl) hX (hE.ro hS) rfl (Nat.le_of_ble_eq_true rfl) ⟨Nat.le_of_ble_eq_true rfl, Nat.le_of_ble_eq_true rfl⟩ d_L_law_313 ?_
        refine lv_aload_n (pc := 316) hx hb d_L_law_316 rfl (lv_at hl 2 rfl) ?_
        refine ro_V (pc := 317) (As := []) (rest := [.int od]) hx hb hml hl.1 hown hts (c_M_old l D cI cR ad hm hk f md tm al ln od) g_L_47 ⟨Nat.le_of_ble_eq_true rfl, Nat.le_of_ble_eq_true rfl⟩ (va_recv hX.1 hP (ci := 2) (q0 := 4) rfl rfl) (wc_P hP [4, 5] rfl) hX (hE.ro hS) rfl (Nat.le_of_ble_eq_true rfl) ⟨Nat.le_of_ble_eq_true rfl, Nat.le_of_ble_eq_true rfl⟩ d_L_law_317 ?_
        refine lv_icmp_eq (pc := 320) (tgt := 374) hx hb d_L_law_320 (by decide) (fun c_11 => ?_) (fun c_11 => absurd rfl c_11)
        refine lv_iinc (pc := 374) (v := (nI i) + 4) (lv' := [(3, .int ((nI i) + 4)), (0, .ref b), (1, .ref h0), (2, .ref hm)]) hx hb d_L_law_374 hl (k := 3) rfl rfl (by decide) rfl (fun ls hl => ?_)
        refine lv_goto (pc := 377) (tgt := 18) hx hb d_L_law_377 (by decide) ?_
        exact ih (i + 4) f md tm al ln od H locs ls (by omega) (by omega) hok hP hD hS (by rw [← nI_add]; exact lv_sub hl [1, 2, 3, 0] rfl)
      · refine lv_tableIn (pc := 32) (off := 293) (tgt := 325) hx hb d_L_law_32 (by decide) (by decide) rfl (by decide) ?_
        refine lv_aload_n (pc := 325) hx hb d_L_law_325 rfl (lv_at hl 1 rfl) ?_
        refine lv_aload_n (pc := 326) hx hb d_L_law_326 rfl (lv_at hl 0 rfl) ?_
        refine lv_iload_n (pc := 327) hx hb d_L_law_327 rfl (lv_at hl 3 rfl) ?_
        refine lv_iconst (pc := 328) (v := 1) hx hb d_L_law_328 (by decide) ?_
        refine lv_iadd (pc := 329) hx hb d_L_law_329 ?_
        refine sc_ld (pc := 330) hx hb hsX hbl hbA hS (i + 1) (nI_add i 1) (by omega) hL d_L_law_330 ?_
        refine ro_V (pc := 331) (As := [.int (xs (i + 1))]) (rest := []) hx hb hml hl.1 hown hts (c_F_control l D cI cR ad h0 h ha hv f md tm al ln od (xs (i + 1))) g_L_48 ⟨Nat.le_of_ble_eq_true rfl, Nat.le_of_ble_eq_true rfl⟩ (va_recv hX.1 hP (ci := 1) (q0 := 0) rfl rfl) (wc_P hP [0, 1, 2, 3] rfl) hX (hE.ro hS) rfl (Nat.le_of_ble_eq_true rfl) ⟨Nat.le_of_ble_eq_true rfl, Nat.le_of_ble_eq_true rfl⟩ d_L_law_331 ?_
        refine lv_aload_n (pc := 334) hx hb d_L_law_334 rfl (lv_at hl 2 rfl) ?_
        refine lv_aload_n (pc := 335) hx hb d_L_law_335 rfl (lv_at hl 0 rfl) ?_
        refine lv_iload_n (pc := 336) hx hb d_L_law_336 rfl (lv_at hl 3 rfl) ?_
        refine lv_iconst (pc := 337) (v := 1) hx hb d_L_law_337 (by decide) ?_
        refine lv_iadd (pc := 338) hx hb d_L_law_338 ?_
        refine sc_ld (pc := 339) hx hb hsX hbl hbA hS (i + 1) (nI_add i 1) (by omega) hL d_L_law_339 ?_
        refine ro_V (pc := 340) (As := [.int (xs (i + 1))]) (rest := [.int (ctlF f tm al ln (xs (i + 1)))]) hx hb hml hl.1 hown hts (c_M_control l D cI cR ad hm hk f md tm al ln od (xs (i + 1))) g_L_51 ⟨Nat.le_of_ble_eq_true rfl, Nat.le_of_ble_eq_true rfl⟩ (va_recv hX.1 hP (ci := 2) (q0 := 4) rfl rfl) (wc_P hP [4, 5] rfl) hX (hE.ro hS) rfl (Nat.le_of_ble_eq_true rfl) ⟨Nat.le_of_ble_eq_true rfl, Nat.le_of_ble_eq_true rfl⟩ d_L_law_340 ?_
        refine lv_icmp_eq (pc := 343) (tgt := 374) hx hb d_L_law_343 (by decide) (fun c_12 => ?_) (fun c_12 => absurd rfl c_12)
        refine lv_iinc (pc := 374) (v := (nI i) + 4) (lv' := [(3, .int ((nI i) + 4)), (0, .ref b), (1, .ref h0), (2, .ref hm)]) hx hb d_L_law_374 hl (k := 3) rfl rfl (by decide) rfl (fun ls hl => ?_)
        refine lv_goto (pc := 377) (tgt := 18) hx hb d_L_law_377 (by decide) ?_
        exact ih (i + 4) f md tm al ln od H locs ls (by omega) (by omega) hok hP hD hS (by rw [← nI_add]; exact lv_sub hl [1, 2, 3, 0] rfl)
      · refine lv_tableIn (pc := 32) (off := 316) (tgt := 348) hx hb d_L_law_32 (by decide) (by decide) rfl (by decide) ?_
        refine lv_aload_n (pc := 348) hx hb d_L_law_348 rfl (lv_at hl 1 rfl) ?_
        refine ro_V (pc := 349) (As := []) (rest := []) hx hb hml hl.1 hown hts (c_F_used l D cI cR ad h0 h ha hv f md tm al ln od) g_L_52 ⟨Nat.le_of_ble_eq_true rfl, Nat.le_of_ble_eq_true rfl⟩ (va_recv hX.1 hP (ci := 1) (q0 := 0) rfl rfl) (wc_P hP [0, 1, 2, 3] rfl) hX (hE.ro hS) rfl (Nat.le_of_ble_eq_true rfl) ⟨Nat.le_of_ble_eq_true rfl, Nat.le_of_ble_eq_true rfl⟩ d_L_law_349 ?_
        refine lv_aload_n (pc := 352) hx hb d_L_law_352 rfl (lv_at hl 2 rfl) ?_
        refine ro_V (pc := 353) (As := []) (rest := [.int (usedF f tm al ln 29)]) hx hb hml hl.1 hown hts (c_M_used l D cI cR ad hm hk f md tm al ln od) g_L_55 ⟨Nat.le_of_ble_eq_true rfl, Nat.le_of_ble_eq_true rfl⟩ (va_recv hX.1 hP (ci := 2) (q0 := 4) rfl rfl) (wc_P hP [4, 5] rfl) hX (hE.ro hS) rfl (Nat.le_of_ble_eq_true rfl) ⟨Nat.le_of_ble_eq_true rfl, Nat.le_of_ble_eq_true rfl⟩ d_L_law_353 ?_
        refine lv_icmp_eq (pc := 356) (tgt := 374) hx hb d_L_law_356 (by decide) (fun c_13 => ?_) (fun c_13 => absurd rfl c_13)
        refine lv_iinc (pc := 374) (v := (nI i) + 4) (lv' := [(3, .int ((nI i) + 4)), (0, .ref b), (1, .ref h0), (2, .ref hm)]) hx hb d_L_law_374 hl (k := 3) rfl rfl (by decide) rfl (fun ls hl => ?_)
        refine lv_goto (pc := 377) (tgt := 18) hx hb d_L_law_377 (by decide) ?_
        exact ih (i + 4) f md tm al ln od H locs ls (by omega) (by omega) hok hP hD hS (by rw [← nI_add]; exact lv_sub hl [1, 2, 3, 0] rfl)
      · refine lv_tableIn (pc := 32) (off := 329) (tgt := 361) hx hb d_L_law_32 (by decide) (by decide) rfl (by decide) ?_
        refine lv_aload_n (pc := 361) hx hb d_L_law_361 rfl (lv_at hl 1 rfl) ?_
        refine ro_V (pc := 362) (As := []) (rest := []) hx hb hml hl.1 hown hts (c_F_due l D cI cR ad h0 h ha hv f md tm al ln od) g_L_56 ⟨Nat.le_of_ble_eq_true rfl, Nat.le_of_ble_eq_true rfl⟩ (va_recv hX.1 hP (ci := 1) (q0 := 0) rfl rfl) (wc_P hP [0, 1, 2, 3] rfl) hX (hE.ro hS) rfl (Nat.le_of_ble_eq_true rfl) ⟨Nat.le_of_ble_eq_true rfl, Nat.le_of_ble_eq_true rfl⟩ d_L_law_362 ?_
        refine lv_aload_n (pc := 365) hx hb d_L_law_365 rfl (lv_at hl 2 rfl) ?_
        refine ro_V (pc := 366) (As := []) (rest := [.int (dueF f md tm al ln)]) hx hb hml hl.1 hown hts (c_M_due l D cI cR ad hm hk f md tm al ln od) g_L_59 ⟨Nat.le_of_ble_eq_true rfl, Nat.le_of_ble_eq_true rfl⟩ (va_recv hX.1 hP (ci := 2) (q0 := 4) rfl rfl) (wc_P hP [4, 5] rfl) hX (hE.ro hS) rfl (Nat.le_of_ble_eq_true rfl) ⟨Nat.le_of_ble_eq_true rfl, Nat.le_of_ble_eq_true rfl⟩ d_L_law_366 ?_
        refine lv_icmp_eq (pc := 369) (tgt := 374) hx hb d_L_law_369 (by decide) (fun c_14 => ?_) (fun c_14 => absurd rfl c_14)
        refine lv_iinc (pc := 374) (v := (nI i) + 4) (lv' := [(3, .int ((nI i) + 4)), (0, .ref b), (1, .ref h0), (2, .ref hm)]) hx hb d_L_law_374 hl (k := 3) rfl rfl (by decide) rfl (fun ls hl => ?_)
        refine lv_goto (pc := 377) (tgt := 18) hx hb d_L_law_377 (by decide) ?_
        exact ih (i + 4) f md tm al ln od H locs ls (by omega) (by omega) hok hP hD hS (by rw [← nI_add]; exact lv_sub hl [1, 2, 3, 0] rfl)
      · refine lv_tableOut (pc := 32) (tgt := 374) hx hb d_L_law_32 (Or.inr (by rw [nI_toInt (show j < 2 ^ 31 by omega)]; omega)) (by decide) ?_
        refine lv_iinc (pc := 374) (v := (nI i) + 4) (lv' := [(3, .int ((nI i) + 4)), (0, .ref b), (1, .ref h0), (2, .ref hm)]) hx hb d_L_law_374 hl (k := 3) rfl rfl (by decide) rfl (fun ls hl => ?_)
        refine lv_goto (pc := 377) (tgt := 18) hx hb d_L_law_377 (by decide) ?_
        exact ih (i + 4) f md tm al ln od H locs ls (by omega) (by omega) hok hP hD hS (by rw [← nI_add]; exact lv_sub hl [1, 2, 3, 0] rfl)
end
section
-- THE LAW from its entry
set_option maxHeartbeats 4000000 in
set_option maxRecDepth 100000 in
/-- from the entry, for every script of at most 2048 ints, the law comes to its end with true -/
theorem whole_start {p : Program} {e : Env} {s : State} {m : MethodId} {below : List Frame} {meth : Method} {c : Code} (l : Launch) {b L : Nat} {xs : Nat → Int32} (hL : L ≤ 2048) (C0 : lw_At p s m meth c b L xs) : W p l e room_1 s m #[Value.ref b] below meth c s.heap [] 0 0 (lw_Z below #[Value.ref b] s) (entryFrame m ([Value.ref b] : List Value).toArray 4) := by
  obtain ⟨hx, hb, hr, hml, hown, hts0, hsX, hbl, hlk, hgv⟩ := id C0
  have hts : ∀ w ∈ lw_g, w.before #[Value.ref b] s = true := fun w hw => hts0 w (List.mem_filter.mp hw).1
  have hA : ∀ q : Nat, s.heap.size ≤ q → (fun q : Nat => s.heap.size ≤ q) q := fun _ h => h
  have hA0 : ∀ a : Nat, a < s.heap.size → ¬ (fun q : Nat => s.heap.size ≤ q) a := fun a h => Nat.not_le.mpr h
  obtain ⟨D, cI, cR, hX, hcR⟩ := st_kx hts0
  obtain ⟨ad, hE, hev⟩ := st_en (A := fun q : Nat => s.heap.size ≤ q) hts0 hgv hA0
  have hV : VS cR ad (fun q : Nat => s.heap.size ≤ q) s s.heap := st_vs hts0 hgv hA0 hcR hev
  have hS : va_S (fun q : Nat => s.heap.size ≤ q) s.heap s.heap [] := va_S.rf
  have hP : va_P D cls_ [] s.heap := fun k q h => by simp at h
  have hD : va_D (fun q : Nat => s.heap.size ≤ q) [] := ⟨fun i j p q h => by simp at h, fun k q h => by simp at h⟩
  have hl := lv_entry ([.ref b]) (n := 4) (Nat.le_of_ble_eq_true rfl)
  rw [lg_entry_eq]
  generalize (lg_sl ([.ref b]) ++ List.replicate (4 - (lg_sl ([.ref b])).length) Slot.unset).toArray = ls at hl ⊢
  have hl : lv_has ls 4 [(0, .ref b)] := hl
  refine va_new (pc := 0) (ci := 1) (fs := [.null, .int 0]) (C := cn_F) (T := fT_F) (N := 2) hx hb hts in_F tT_F tt_F hown (hts _ kl_L_7) (hts _ kn_F) (hts _ ki_F) hX.1 hP hD hS hA rfl (fun j hj => by rcases (show j = 0 ∨ j = 1 by omega) with rfl | rfl <;> rfl) (Nat.le_of_ble_eq_true rfl) (Nat.le_of_ble_eq_true rfl) d_L_law_0 (fun h0 H hP hD hS => ?_)
  have hP : va_P D cls_ (z_F h0) H := hP
  have hD : va_D (fun q : Nat => s.heap.size ≤ q) (z_F h0) := hD
  refine W.widen (k := 1) (n := 2) (Nat.le_of_ble_eq_true rfl) (Nat.le_of_ble_eq_true rfl) ?_
  refine lv_dup (pc := 3) hx hb d_L_law_3 rfl ?_
  have hFc := va_free (wc := z_F h0) hD hS hA [0] rfl
  refine va_callv (pc := 4) (va_runI (As := []) (rest := [.ref h0]) ⟨hx, hb, hml, hown, hts⟩ (c_F_init l D cI cR ad h0 H.size) (cwI 0 hts (gd_wd kc_F_init) rfl rfl rfl (hts _ ki_F) (hts _ km_L_9) (hts _ ko_F_init) rfl (by decide +kernel) ⟨Nat.le_of_ble_eq_true rfl, Nat.le_of_ble_eq_true rfl⟩) ⟨al_blind, al_pre hP hD hS hA hX hE hV [0] (by decide) rfl⟩ rfl rfl hl.1 rfl (lv_room (Nat.le_of_ble_eq_true rfl)) d_L_law_4 ⟨Nat.le_of_ble_eq_true rfl, Nat.le_of_ble_eq_true rfl⟩) hS (fun q _ h => hFc q h) hFc (fun u t H1 locs ht hvm hw hB hz1 hk1 hS => ?_)
  obtain ⟨h, ha, hv⟩ := u
  obtain ⟨hP1, hD1⟩ := hB
  rw [ht] at hP1
  obtain ⟨hP, hD⟩ := va_join (wr := []) (w1 := wF cI cR ad h0 h ha hv (fun _ => 0) 1 0 9223372036854775807 false 0) hP hD [0] [] rfl rfl (by decide) (by decide) hk1 hFc hP1 hD1
  generalize H1 = H at hP hS ⊢
  have hP : va_P D cls_ (wF cI cR ad h0 h ha hv (fun _ => 0) 1 0 9223372036854775807 false 0) H := hP
  have hD : va_D (fun q : Nat => s.heap.size ≤ q) (wF cI cR ad h0 h ha hv (fun _ => 0) 1 0 9223372036854775807 false 0) := hD
  refine W.widen (k := 4) (n := 66) (Nat.le_of_ble_eq_true rfl) (Nat.le_of_ble_eq_true rfl) ?_
  refine lv_astore_n (pc := 7) (lv' := [(1, .ref h0), (0, .ref b)]) hx hb d_L_law_7 rfl hl (by decide) rfl (fun ls hl => ?_)
  refine va_new (pc := 8) (ci := 2) (fs := [.null, .int 0, .long 0, .long 0, .int (bI false), .int 0]) (C := cn_M) (T := fT_M) (N := 6) hx hb hts in_M tT_M tt_M hown (hts _ kl_L_10) (hts _ kn_M) (hts _ ki_M) hX.1 hP hD hS hA rfl (fun j hj => by rcases (show j = 0 ∨ j = 1 ∨ j = 2 ∨ j = 3 ∨ j = 4 ∨ j = 5 by omega) with rfl | rfl | rfl | rfl | rfl | rfl <;> rfl) (Nat.le_of_ble_eq_true rfl) (Nat.le_of_ble_eq_true rfl) d_L_law_8 (fun hm H hP hD hS => ?_)
  have hP : va_P D cls_ (wF cI cR ad h0 h ha hv (fun _ => 0) 1 0 9223372036854775807 false 0 ++ z_M hm) H := hP
  have hD : va_D (fun q : Nat => s.heap.size ≤ q) (wF cI cR ad h0 h ha hv (fun _ => 0) 1 0 9223372036854775807 false 0 ++ z_M hm) := hD
  refine W.widen (k := 5) (n := 72) (Nat.le_of_ble_eq_true rfl) (Nat.le_of_ble_eq_true rfl) ?_
  refine lv_dup (pc := 11) hx hb d_L_law_11 rfl ?_
  have hFc := va_free (wc := z_M hm) hD hS hA [4] rfl
  refine va_callv (pc := 12) (va_runI (As := []) (rest := [.ref hm]) ⟨hx, hb, hml, hown, hts⟩ (c_M_init l D cI cR ad hm H.size) (cwI 0 hts (gd_wd kc_M_init) rfl rfl rfl (hts _ ki_M) (hts _ km_L_12) (hts _ ko_M_init) rfl (by decide +kernel) ⟨Nat.le_of_ble_eq_true rfl, Nat.le_of_ble_eq_true rfl⟩) ⟨al_blind, al_pre hP hD hS hA hX hE hV [4] (by decide) rfl⟩ rfl rfl hl.1 rfl (lv_room (Nat.le_of_ble_eq_true rfl)) d_L_law_12 ⟨Nat.le_of_ble_eq_true rfl, Nat.le_of_ble_eq_true rfl⟩) hS (fun q _ h => hFc q h) hFc (fun hk t H1 locs ht hvm hw hB hz1 hk1 hS => ?_)
  obtain ⟨hP1, hD1⟩ := hB
  rw [ht] at hP1
  obtain ⟨hP, hD⟩ := va_join (wr := wF cI cR ad h0 h ha hv (fun _ => 0) 1 0 9223372036854775807 false 0) (w1 := wM cI hm hk (fun _ => 0) 1 0 9223372036854775807 false 0) hP hD [4] [0, 1, 2, 3] rfl rfl (by decide) (by decide) hk1 hFc hP1 hD1
  generalize H1 = H at hP hS ⊢
  refine W.widen (k := 6) (n := 101) (Nat.le_of_ble_eq_true rfl) (Nat.le_of_ble_eq_true rfl) ?_
  refine lv_astore_n (pc := 15) (lv' := [(2, .ref hm), (1, .ref h0), (0, .ref b)]) hx hb d_L_law_15 rfl hl (by decide) rfl (fun ls hl => ?_)
  refine lv_iconst (pc := 16) (v := 0) hx hb d_L_law_16 (by decide) ?_
  refine lv_istore_n (pc := 17) (lv' := [(3, .int 0), (2, .ref hm), (1, .ref h0), (0, .ref b)]) hx hb d_L_law_17 rfl hl (by decide) rfl (fun ls hl => ?_)
  exact law_loop hL C0 hX hE h0 h ha hv hm hk (L + 1) 0 (fun _ => 0) 1 0 9223372036854775807 false 0 H locs ls (Nat.zero_le L) (by omega) ok_0 hP hD hS (lv_sub hl [3, 2, 1, 0] rfl)
end
section
-- the kit's skeleton (starting text), its end
set_option maxHeartbeats 4000000 in
theorem lw_walk (l : Launch) (b : Addr) (xs : List Int32) : MetFree l x (headSpec (Jvm.Cond.code x code maxLocals ret :: tables_1) room_1) (lw_P b xs) (fun _ _ _ _ _ => True) lw_Q := by
  refine MetFree.of_bodyS (code := code) (maxLocals := maxLocals) (ret := ret) (by decide) ?_ ?_
  · intro args s m h hn
    obtain ⟨meth, c, h1, h2, h3, h4, h5, h6, -, -⟩ := Cond.code_spec hn (atoms_spec (ws := Jvm.Cond.code x code maxLocals ret :: tables_1) h _ List.mem_cons_self)
    exact ⟨meth, c, h1, h2, h3, h4, h5, h6⟩
  · intro p e s m args below meth c s₁ B hml0 hP _
    obtain ⟨rfl, hx, hbd, hgv⟩ := hP
    obtain ⟨scr, harrAt, hlist, hof, hsmall⟩ := hx
    obtain ⟨hcb, hkn, -, -⟩ := State.arrayAt?_spec harrAt
    have hown : s.vm.findClass R_law = some m.cls := findClass_of_methodNamed B.named
    have hts0 : ∀ c ∈ (Jvm.Cond.code x code maxLocals ret :: tables_1), c.before #[Value.ref b] s = true := atoms_spec (ws := Jvm.Cond.code x code maxLocals ret :: tables_1) B.pre
    have hts : ∀ w ∈ lw_tbl, w.before #[Value.ref b] s = true := k2_hts_sels lw_privs (fun w hw => hts0 w (List.mem_cons_of_mem _ hw)) lw_privs_ok
    have hml : c.maxLocals = 4 := B.maxLocals_eq (hts0 _ List.mem_cons_self)
    have X₀ : Stand p l e room_1 s m #[Value.ref b] below meth c s₁ [] 0 0 := Stand.of_body B
    have hh0 : s₁.heap = s.heap := by rw [B.state]; rfl
    have hsz : scr.slots.size = xs.length := by rw [← Array.length_toList, hlist, List.length_map]
    have hval : ∀ j : Nat, j < xs.length → scr.slots[j]? = some (.int (xs.getD j 0)) := fun j hj => by
      rw [← Array.getElem?_toList, hlist]
      simp [hj]
    have hbl : b < s.heap.size := (Array.getElem?_eq_some_iff.mp hcb).1
    have hX : va_X b xs.length (fun j => xs.getD j 0) s s.heap := ⟨scr, hcb, hof, hkn, hsz, hval⟩
    have K : W p l e room_1 s m #[Value.ref b] below meth c s₁.heap [] 0 0 (lw_Z below #[Value.ref b] s) (entryFrame m ([Value.ref b] : List Value).toArray 4) := by
      rw [hh0]
      exact whole_start l hbd ⟨B.exec, B.bytes, B.returns, hml, hown, hts, hX, hbl, B.notSynchronized, hgv⟩
    obtain ⟨t, a1, o, b1, b2, b3⟩ := K s₁ rfl X₀
    exact ⟨t, o, a1, b1, b2, b3⟩
theorem lw_pre_spec {args : Array Value} {s : State} (h : (Jvm.Cond.and given_1 narrow_1).before args s = true) (hr : rest_1_c.before args s = true) : ∃ (b : Addr) (xs : List Int32), lw_P b xs args s := by
  have hs := flat_of_before _ h
  have hq := flat_of_before _ hr
  have hc : (Cond.count 1).before args s = true := hs _ (by decide +kernel)
  have harr : (Cond.arrayOf (.arg 0) .int).before args s = true := hs _ (by decide +kernel)
  have hle : (Cond.le (.length (.arg 0)) (.int 2048)).before args s = true := hs _ (by decide +kernel)
  have hlen : (Cond.isInt (.length (.arg 0))).before args s = true := hq _ (by decide +kernel)
  have hall : (Cond.all (.arg 0) (.isInt (.elem (.arg 0) (.index 0)))).before args s = true := hq _ (by decide +kernel)
  obtain ⟨b, xs, hb, hx⟩ := State.ints_of_pre rfl harr hlen hall
  have hsm : xs.length < 2 ^ 31 := hx.choose_spec.2.2.2
  have hev : (Term.length (.arg 0)).eval args s none [] s = some (.int xs.length.toInt32) := hx.length_eval hb
  have hv := Cond.le_ints hev (show (Term.int 2048).eval args s none [] s = some (.int 2048) from rfl)
  have hd : xs.length.toInt32 ≤ 2048 := by
    simpa [Cond.before, Cond.holds, hv] using hle
  have hN : xs.length ≤ 2048 := (Int32.ofNat_le_ofNat hsm (by decide)).mp (show Int32.ofNat xs.length ≤ Int32.ofNat 2048 from hd)
  exact ⟨b, xs, Cond.one_arg hc (show args[0]? = some (.ref b) from hb), hx, hN, h⟩
theorem lw_comes (l : Launch) : Comes l x (Jvm.Cond.code x code maxLocals ret :: tables_1) room_1 (fun tb e args s => Calls_1 tb e args s ∧ rest_1 tb e args s ∧ Pre_1 tb e args s)
    (fun _ _ args s o t => lw_Q args s o t) := by
  intro p e ha hc hk s m args below hf hfit hheap happ hpre
  obtain ⟨b, xs, hP⟩ := lw_pre_spec hpre.2.2 hpre.2.1
  obtain ⟨k, o, h1, h2, h3, hQ⟩ := lw_walk l b xs p e ha hc hk s m args below hf ((Spec.applies_iff_loose hf).mp happ).1 hP trivial
  exact ⟨k, o, h1, h2, h3, hQ⟩
theorem lw_frame {s t : State} {o : Outcome} {args : Array Value} (h : Framed s o t [] 600000 7302250) :
    Framed s o t (fieldLocs frame_1_writes args s ++ arrayLocs frame_1_arrays args s ++ staticLocs frame_1_statics s) 600000 7302250 := h
theorem lw_limb (L : Cond) (hL : ∀ (args : Array Value) (s t : State), L.after args s (.returned (some (.int 1))) t = true) :
    ArmFor flags0 classFile x code maxLocals ret World_1 tables_1 room_1 Calls_1 rest_1 Pre_1
      (fun tb e a s o t => postC L tb e a s o t ∧ Framed s o t (fieldLocs frame_1_writes a s ++ arrayLocs frame_1_arrays a s ++ staticLocs frame_1_statics s) 600000 7302250) := by
  intro l _ _ _ p e ha hc hk s m args below hf hfit hheap happ hpre
  obtain ⟨k, o, h1, h2, h3, rfl, hF⟩ := lw_comes l p e ha hc hk s m args below hf hfit hheap happ hpre
  exact ⟨k, _, h1, h2, h3, hL args s _, lw_frame hF⟩
theorem i_vc : Claimed_1_1 ∧ Claimed_1_2 := ⟨lw_limb limb_1_1 (fun args s t => by simp [limb_1_1, Cond.after, Cond.holds, Cond.value]), lw_limb limb_1_2 (fun args s t => Cond.after_iff.mpr (by
  first | (rw [show limb_1_2 = Cond.eq .result (.int 1) from rfl, Cond.eq_ints (x := 1) (y := 1) rfl rfl]; simp; done) | (simp [limb_1_2, Cond.value, Term.eval]; done)))⟩
end
