section
-- ===== PART A: goes FIRST, ahead of the names: the tables' words, and 'selects' of the private methods out of them =====
/-- a private method of a class that the tables say can be made, by its rows of tables_1 -/
def lw_okq (q : MethodName × Nat) : Prop := (q.1.cls ≠ "java/lang/invoke/MethodHandle" ∧ q.1.cls ≠ "java/lang/invoke/VarHandle") ∧ Cond.instantiable q.1.cls q.2 ∈ tables_1 ∧ Cond.privateMethod q.1 ∈ tables_1 ∧ Cond.instanceMethod q.1 ∈ tables_1
theorem lw_p0 : lw_okq (⟨"java/util/ArrayList", "add", "(Ljava/lang/Object;[Ljava/lang/Object;I)V"⟩, 3) := ⟨⟨by decide +kernel, by decide +kernel⟩, List.mem_of_getElem? (i := 24) (by decide +kernel), List.mem_of_getElem? (i := 112) (by decide +kernel), List.mem_of_getElem? (i := 113) (by decide +kernel)⟩
theorem lw_p1 : lw_okq (⟨"java/util/ArrayList", "grow", "()[Ljava/lang/Object;"⟩, 3) := ⟨⟨by decide +kernel, by decide +kernel⟩, List.mem_of_getElem? (i := 24) (by decide +kernel), List.mem_of_getElem? (i := 116) (by decide +kernel), List.mem_of_getElem? (i := 117) (by decide +kernel)⟩
theorem lw_p2 : lw_okq (⟨"java/util/ArrayList", "grow", "(I)[Ljava/lang/Object;"⟩, 3) := ⟨⟨by decide +kernel, by decide +kernel⟩, List.mem_of_getElem? (i := 24) (by decide +kernel), List.mem_of_getElem? (i := 120) (by decide +kernel), List.mem_of_getElem? (i := 121) (by decide +kernel)⟩
theorem lw_p3 : lw_okq (⟨"PostDrawer$Drawing", "spoil", "()V"⟩, 3) := ⟨⟨by decide +kernel, by decide +kernel⟩, List.mem_of_getElem? (i := 77) (by decide +kernel), List.mem_of_getElem? (i := 161) (by decide +kernel), List.mem_of_getElem? (i := 162) (by decide +kernel)⟩
theorem lw_p4 : lw_okq (⟨"PostDrawer$Drawing", "behind", "(I)I"⟩, 3) := ⟨⟨by decide +kernel, by decide +kernel⟩, List.mem_of_getElem? (i := 77) (by decide +kernel), List.mem_of_getElem? (i := 183) (by decide +kernel), List.mem_of_getElem? (i := 184) (by decide +kernel)⟩
theorem lw_p5 : lw_okq (⟨"PostDrawer", "all", "()I"⟩, 4) := ⟨⟨by decide +kernel, by decide +kernel⟩, List.mem_of_getElem? (i := 16) (by decide +kernel), List.mem_of_getElem? (i := 209) (by decide +kernel), List.mem_of_getElem? (i := 210) (by decide +kernel)⟩
theorem lw_p6 : lw_okq (⟨"PostDrawer", "isPart", "(I)Z"⟩, 4) := ⟨⟨by decide +kernel, by decide +kernel⟩, List.mem_of_getElem? (i := 16) (by decide +kernel), List.mem_of_getElem? (i := 218) (by decide +kernel), List.mem_of_getElem? (i := 219) (by decide +kernel)⟩
theorem lw_p7 : lw_okq (⟨"PostDrawer", "told", "(I)LPostDrawer$Verdict;"⟩, 4) := ⟨⟨by decide +kernel, by decide +kernel⟩, List.mem_of_getElem? (i := 16) (by decide +kernel), List.mem_of_getElem? (i := 245) (by decide +kernel), List.mem_of_getElem? (i := 246) (by decide +kernel)⟩
theorem lw_p8 : lw_okq (⟨"PostDrawer", "stays", "(I)Z"⟩, 4) := ⟨⟨by decide +kernel, by decide +kernel⟩, List.mem_of_getElem? (i := 16) (by decide +kernel), List.mem_of_getElem? (i := 268) (by decide +kernel), List.mem_of_getElem? (i := 269) (by decide +kernel)⟩
theorem lw_p9 : lw_okq (⟨"PostDrawer", "lessened", "(I)I"⟩, 4) := ⟨⟨by decide +kernel, by decide +kernel⟩, List.mem_of_getElem? (i := 16) (by decide +kernel), List.mem_of_getElem? (i := 272) (by decide +kernel), List.mem_of_getElem? (i := 273) (by decide +kernel)⟩
theorem lw_p10 : lw_okq (⟨"PostDrawerModel", "placeOf", "(I)I"⟩, 10) := ⟨⟨by decide +kernel, by decide +kernel⟩, List.mem_of_getElem? (i := 300) (by decide +kernel), List.mem_of_getElem? (i := 383) (by decide +kernel), List.mem_of_getElem? (i := 384) (by decide +kernel)⟩
theorem lw_p11 : lw_okq (⟨"PostDrawerModel", "stays", "(I)Z"⟩, 10) := ⟨⟨by decide +kernel, by decide +kernel⟩, List.mem_of_getElem? (i := 300) (by decide +kernel), List.mem_of_getElem? (i := 391) (by decide +kernel), List.mem_of_getElem? (i := 392) (by decide +kernel)⟩
theorem lw_p12 : lw_okq (⟨"PostDrawerModel", "without", "(II)I"⟩, 10) := ⟨⟨by decide +kernel, by decide +kernel⟩, List.mem_of_getElem? (i := 300) (by decide +kernel), List.mem_of_getElem? (i := 395) (by decide +kernel), List.mem_of_getElem? (i := 396) (by decide +kernel)⟩
def lw_privs_1 : List (MethodName × Nat) := [(⟨"java/util/ArrayList", "add", "(Ljava/lang/Object;[Ljava/lang/Object;I)V"⟩, 3), (⟨"java/util/ArrayList", "grow", "()[Ljava/lang/Object;"⟩, 3), (⟨"java/util/ArrayList", "grow", "(I)[Ljava/lang/Object;"⟩, 3), (⟨"PostDrawer$Drawing", "spoil", "()V"⟩, 3), (⟨"PostDrawer$Drawing", "behind", "(I)I"⟩, 3), (⟨"PostDrawer", "all", "()I"⟩, 4), (⟨"PostDrawer", "isPart", "(I)Z"⟩, 4), (⟨"PostDrawer", "told", "(I)LPostDrawer$Verdict;"⟩, 4), (⟨"PostDrawer", "stays", "(I)Z"⟩, 4), (⟨"PostDrawer", "lessened", "(I)I"⟩, 4), (⟨"PostDrawerModel", "placeOf", "(I)I"⟩, 10), (⟨"PostDrawerModel", "stays", "(I)Z"⟩, 10), (⟨"PostDrawerModel", "without", "(II)I"⟩, 10)]
theorem lw_r1 : ∀ q ∈ lw_privs_1, lw_okq q := List.forall_mem_cons.mpr ⟨lw_p0, List.forall_mem_cons.mpr ⟨lw_p1, List.forall_mem_cons.mpr ⟨lw_p2, List.forall_mem_cons.mpr ⟨lw_p3, List.forall_mem_cons.mpr ⟨lw_p4, List.forall_mem_cons.mpr ⟨lw_p5, List.forall_mem_cons.mpr ⟨lw_p6, List.forall_mem_cons.mpr ⟨lw_p7, List.forall_mem_cons.mpr ⟨lw_p8, List.forall_mem_cons.mpr ⟨lw_p9, List.forall_mem_cons.mpr ⟨lw_p10, List.forall_mem_cons.mpr ⟨lw_p11, List.forall_mem_cons.mpr ⟨lw_p12, fun _ h => absurd h List.not_mem_nil⟩⟩⟩⟩⟩⟩⟩⟩⟩⟩⟩⟩⟩
def lw_privs : List (MethodName × Nat) := lw_privs_1
def lw_tbl : List Cond := k2_sels lw_privs ++ tables_1
theorem lw_privs_ok : ∀ q ∈ lw_privs, lw_okq q := lw_r1
-- ===== end of PART A; then your names; then what follows =====
end
section
/-! NAMES: classes, fields, methods, the words of the tables (printed by gen/names.py) -/
def R_PD : String := "PostDrawer"
def R_DR : String := "PostDrawer$Drawing"
def R_PT : String := "PostDrawer$Part"
def R_VD : String := "PostDrawer$Verdict"
def R_MO : String := "PostDrawerModel"
def R_AL : String := "java/util/ArrayList"
def R_AB : String := "java/util/AbstractList"
def R_AC : String := "java/util/AbstractCollection"
def R_AR : String := "java/util/Arrays"
def R_AS : String := "jdk/internal/util/ArraysSupport"
def R_MA : String := "java/lang/Math"
def R_OB : String := "java/util/Objects"
def R_PC : String := "jdk/internal/util/Preconditions"
def R_SY : String := "java/lang/System"
def R_OJ : String := "java/lang/Object"
def R_LW : String := "PostDrawerLaw"
def F_PD : u_T := fun k => match k with
  | 0 => (R_PD, "seed", "J", false)
  | 1 => (R_PD, "drawing", "LPostDrawer$Drawing;", false)
  | 2 => (R_PD, "verdicts", "Ljava/util/ArrayList;", true)
  | _ => (R_PD, "left", "I", false)
def T_PD : Nat → FieldType := fun k => match k with
  | 0 => .long
  | 1 => .object "PostDrawer$Drawing"
  | 2 => .object "java/util/ArrayList"
  | _ => .int
theorem n_PD : ∀ a, a < 4 → ∀ b, b < 4 → a ≠ b → (F_PD a).2.1 ≠ (F_PD b).2.1 := by decide +kernel
theorem k_PD : ∀ k, k < 4 → parseFieldDescriptor (F_PD k).2.2.1 = some (T_PD k) := by decide +kernel
def F_DR : u_T := fun k => match k with
  | 0 => (R_DR, "seed", "J", true)
  | 1 => (R_DR, "kind", "I", true)
  | _ => (R_DR, "parts", "Ljava/util/ArrayList;", true)
def T_DR : Nat → FieldType := fun k => match k with
  | 0 => .long
  | 1 => .int
  | _ => .object "java/util/ArrayList"
theorem n_DR : ∀ a, a < 3 → ∀ b, b < 3 → a ≠ b → (F_DR a).2.1 ≠ (F_DR b).2.1 := by decide +kernel
theorem k_DR : ∀ k, k < 3 → parseFieldDescriptor (F_DR k).2.2.1 = some (T_DR k) := by decide +kernel
def F_PT : u_T := fun k => match k with
  | 0 => (R_PT, "z", "J", true)
  | _ => (R_PT, "faulty", "Z", false)
def T_PT : Nat → FieldType := fun k => match k with
  | 0 => .long
  | _ => .boolean
theorem n_PT : ∀ a, a < 2 → ∀ b, b < 2 → a ≠ b → (F_PT a).2.1 ≠ (F_PT b).2.1 := by decide +kernel
theorem k_PT : ∀ k, k < 2 → parseFieldDescriptor (F_PT k).2.2.1 = some (T_PT k) := by decide +kernel
def F_VD : u_T := fun k => match k with
  | 0 => (R_VD, "bits", "I", true)
  | _ => (R_VD, "stays", "Z", false)
def T_VD : Nat → FieldType := fun k => match k with
  | 0 => .int
  | _ => .boolean
theorem n_VD : ∀ a, a < 2 → ∀ b, b < 2 → a ≠ b → (F_VD a).2.1 ≠ (F_VD b).2.1 := by decide +kernel
theorem k_VD : ∀ k, k < 2 → parseFieldDescriptor (F_VD k).2.2.1 = some (T_VD k) := by decide +kernel
def F_AL : u_T := fun k => match k with
  | 0 => (R_AL, "elementData", "[Ljava/lang/Object;", false)
  | 1 => (R_AL, "size", "I", false)
  | _ => (R_AB, "modCount", "I", false)
def T_AL : Nat → FieldType := fun k => match k with
  | 0 => .array (.object "java/lang/Object")
  | 1 => .int
  | _ => .int
theorem n_AL : ∀ a, a < 3 → ∀ b, b < 3 → a ≠ b → (F_AL a).2.1 ≠ (F_AL b).2.1 := by decide +kernel
theorem k_AL : ∀ k, k < 3 → parseFieldDescriptor (F_AL k).2.2.1 = some (T_AL k) := by decide +kernel
def F_MO : u_T := fun k => match k with
  | 0 => (R_MO, "thrown", "I", false)
  | 1 => (R_MO, "seed", "J", false)
  | 2 => (R_MO, "drawnBy", "J", false)
  | 3 => (R_MO, "parts", "I", false)
  | 4 => (R_MO, "kind", "I", false)
  | 5 => (R_MO, "leftBits", "I", false)
  | 6 => (R_MO, "sets", "I", false)
  | 7 => (R_MO, "set", "[I", true)
  | 8 => (R_MO, "staying", "[Z", true)
  | _ => (R_MO, "inks", "[I", true)
def T_MO : Nat → FieldType := fun k => match k with
  | 0 => .int
  | 1 => .long
  | 2 => .long
  | 3 => .int
  | 4 => .int
  | 5 => .int
  | 6 => .int
  | 7 => .array .int
  | 8 => .array .boolean
  | _ => .array .int
theorem n_MO : ∀ a, a < 10 → ∀ b, b < 10 → a ≠ b → (F_MO a).2.1 ≠ (F_MO b).2.1 := by decide +kernel
theorem k_MO : ∀ k, k < 10 → parseFieldDescriptor (F_MO k).2.2.1 = some (T_MO k) := by decide +kernel
abbrev classes : List vw_C := [(R_PD, F_PD, 4), (R_DR, F_DR, 3), (R_PT, F_PT, 2), (R_VD, F_VD, 2), (R_AL, F_AL, 3), (R_MO, F_MO, 10)]
def y_PD_init : MethodName := ⟨R_PD, "<init>", "(I)V"⟩
def y_OJ_init : MethodName := ⟨R_OJ, "<init>", "()V"⟩
def y_AL_init : MethodName := ⟨R_AL, "<init>", "()V"⟩
def y_AB_init : MethodName := ⟨R_AB, "<init>", "()V"⟩
def y_AC_init : MethodName := ⟨R_AC, "<init>", "()V"⟩
def y_PD_seed : MethodName := ⟨R_PD, "seed", "(J)J"⟩
def y_PD_draw : MethodName := ⟨R_PD, "draw", "(II)I"⟩
def y_PD_isDrawing : MethodName := ⟨R_PD, "isDrawing", "(II)Z"⟩
def y_PD_within : MethodName := ⟨R_PD, "within", "(III)Z"⟩
def y_DR_init : MethodName := ⟨R_DR, "<init>", "(JII)V"⟩
def y_PD_mixed : MethodName := ⟨R_PD, "mixed", "(JII)J"⟩
def y_PT_init : MethodName := ⟨R_PT, "<init>", "(J)V"⟩
def y_AL_add : MethodName := ⟨R_AL, "add", "(Ljava/lang/Object;)Z"⟩
def y_AL_add2 : MethodName := ⟨R_AL, "add", "(Ljava/lang/Object;[Ljava/lang/Object;I)V"⟩
def y_AL_grow : MethodName := ⟨R_AL, "grow", "()[Ljava/lang/Object;"⟩
def y_AL_grow2 : MethodName := ⟨R_AL, "grow", "(I)[Ljava/lang/Object;"⟩
def y_AS_newLength : MethodName := ⟨R_AS, "newLength", "(III)I"⟩
def y_MA_max : MethodName := ⟨R_MA, "max", "(II)I"⟩
def y_AS_hugeLength : MethodName := ⟨R_AS, "hugeLength", "(II)I"⟩
def y_AR_copyOf : MethodName := ⟨R_AR, "copyOf", "([Ljava/lang/Object;I)[Ljava/lang/Object;"⟩
def y_OJ_getClass : MethodName := ⟨R_OJ, "getClass", "()Ljava/lang/Class;"⟩
def y_AR_copyOf2 : MethodName := ⟨R_AR, "copyOf", "([Ljava/lang/Object;ILjava/lang/Class;)[Ljava/lang/Object;"⟩
def y_MA_min : MethodName := ⟨R_MA, "min", "(II)I"⟩
def y_SY_arraycopy : MethodName := ⟨R_SY, "arraycopy", "(Ljava/lang/Object;ILjava/lang/Object;II)V"⟩
def y_DR_spoil : MethodName := ⟨R_DR, "spoil", "()V"⟩
def y_AL_size : MethodName := ⟨R_AL, "size", "()I"⟩
def y_AL_get : MethodName := ⟨R_AL, "get", "(I)Ljava/lang/Object;"⟩
def y_OB_checkIndex : MethodName := ⟨R_OB, "checkIndex", "(II)I"⟩
def y_PC_checkIndex : MethodName := ⟨R_PC, "checkIndex", "(IILjava/util/function/BiFunction;)I"⟩
def y_AL_elementData : MethodName := ⟨R_AL, "elementData", "(I)Ljava/lang/Object;"⟩
def y_DR_behind : MethodName := ⟨R_DR, "behind", "(I)I"⟩
def y_PT_isGreater : MethodName := ⟨R_PT, "isGreater", "(LPostDrawer$Part;)Z"⟩
def y_AL_clear : MethodName := ⟨R_AL, "clear", "()V"⟩
def y_PD_all : MethodName := ⟨R_PD, "all", "()I"⟩
def y_PD_part : MethodName := ⟨R_PD, "part", "(II)I"⟩
def y_PD_isPart : MethodName := ⟨R_PD, "isPart", "(I)Z"⟩
def y_PT_fact : MethodName := ⟨R_PT, "fact", "(I)I"⟩
def y_PD_rest : MethodName := ⟨R_PD, "rest", "(JI)I"⟩
def y_PD_point : MethodName := ⟨R_PD, "point", "(III)I"⟩
def y_PD_sign : MethodName := ⟨R_PD, "sign", "(I)I"⟩
def y_PD_verdict : MethodName := ⟨R_PD, "verdict", "(IZ)I"⟩
def y_PD_told : MethodName := ⟨R_PD, "told", "(I)LPostDrawer$Verdict;"⟩
def y_VD_init : MethodName := ⟨R_VD, "<init>", "(I)V"⟩
def y_PD_shorter : MethodName := ⟨R_PD, "shorter", "()I"⟩
def y_PD_stays : MethodName := ⟨R_PD, "stays", "(I)Z"⟩
def y_PD_lessened : MethodName := ⟨R_PD, "lessened", "(I)I"⟩
def y_PD_left : MethodName := ⟨R_PD, "left", "(I)I"⟩
def y_PD_minimal : MethodName := ⟨R_PD, "minimal", "()Z"⟩
def y_PD_faultless : MethodName := ⟨R_PD, "faultless", "(I)Z"⟩
def y_PD_same : MethodName := ⟨R_PD, "same", "(JII)Z"⟩
def y_DR_isLike : MethodName := ⟨R_DR, "isLike", "(LPostDrawer$Drawing;)Z"⟩
def y_LW_cell : MethodName := ⟨R_LW, "cell", "([II)I"⟩
def y_MO_init : MethodName := ⟨R_MO, "<init>", "(I)V"⟩
def y_MO_seed : MethodName := ⟨R_MO, "seed", "(J)J"⟩
def y_MO_draw : MethodName := ⟨R_MO, "draw", "(II)I"⟩
def y_MO_in : MethodName := ⟨R_MO, "in", "(III)Z"⟩
def y_MO_part : MethodName := ⟨R_MO, "part", "(II)I"⟩
def y_MO_hasFaults : MethodName := ⟨R_MO, "hasFaults", "(JIII)Z"⟩
def y_MO_number : MethodName := ⟨R_MO, "number", "(JII)J"⟩
def y_MO_isLess : MethodName := ⟨R_MO, "isLess", "(JJ)Z"⟩
def y_MO_fact : MethodName := ⟨R_MO, "fact", "(JI)I"⟩
def y_MO_rest : MethodName := ⟨R_MO, "rest", "(JI)I"⟩
def y_MO_point : MethodName := ⟨R_MO, "point", "(III)I"⟩
def y_MO_verdict : MethodName := ⟨R_MO, "verdict", "(IZ)I"⟩
def y_MO_placeOf : MethodName := ⟨R_MO, "placeOf", "(I)I"⟩
def y_MO_shorter : MethodName := ⟨R_MO, "shorter", "()I"⟩
def y_MO_stays : MethodName := ⟨R_MO, "stays", "(I)Z"⟩
def y_MO_without : MethodName := ⟨R_MO, "without", "(II)I"⟩
def y_MO_countOf : MethodName := ⟨R_MO, "countOf", "(I)I"⟩
def y_MO_left : MethodName := ⟨R_MO, "left", "(I)I"⟩
def y_MO_minimal : MethodName := ⟨R_MO, "minimal", "()Z"⟩
def y_MO_faultless : MethodName := ⟨R_MO, "faultless", "(I)Z"⟩
def y_MO_same : MethodName := ⟨R_MO, "same", "(JII)Z"⟩
abbrev b_PD_init : ByteArray := prog_1_method_4_code
abbrev b_OJ_init : ByteArray := object_method_1_code
abbrev b_AL_init : ByteArray := prog_14_method_2_code
abbrev b_AB_init : ByteArray := prog_13_method_1_code
abbrev b_AC_init : ByteArray := prog_12_method_1_code
abbrev b_PD_seed : ByteArray := prog_1_method_6_code
abbrev b_PD_draw : ByteArray := prog_1_method_9_code
abbrev b_PD_isDrawing : ByteArray := prog_1_method_7_code
abbrev b_PD_within : ByteArray := prog_1_method_5_code
abbrev b_DR_init : ByteArray := prog_2_method_1_code
abbrev b_PD_mixed : ByteArray := prog_1_method_1_code
abbrev b_PT_init : ByteArray := prog_3_method_1_code
abbrev b_AL_add : ByteArray := prog_14_method_25_code
abbrev b_AL_add2 : ByteArray := prog_14_method_24_code
abbrev b_AL_grow : ByteArray := prog_14_method_7_code
abbrev b_AL_grow2 : ByteArray := prog_14_method_6_code
abbrev b_AS_newLength : ByteArray := prog_21_method_27_code
abbrev b_MA_max : ByteArray := prog_10_method_65_code
abbrev b_AS_hugeLength : ByteArray := prog_21_method_28_code
abbrev b_AR_copyOf : ByteArray := prog_15_method_119_code
abbrev b_AR_copyOf2 : ByteArray := prog_15_method_120_code
abbrev b_MA_min : ByteArray := prog_10_method_69_code
abbrev b_DR_spoil : ByteArray := prog_2_method_3_code
abbrev b_AL_size : ByteArray := prog_14_method_8_code
abbrev b_AL_get : ByteArray := prog_14_method_20_code
abbrev b_OB_checkIndex : ByteArray := prog_18_method_17_code
abbrev b_PC_checkIndex : ByteArray := prog_22_method_11_code
abbrev b_AL_elementData : ByteArray := prog_14_method_18_code
abbrev b_DR_behind : ByteArray := prog_2_method_2_code
abbrev b_PT_isGreater : ByteArray := prog_3_method_3_code
abbrev b_AL_clear : ByteArray := prog_14_method_40_code
abbrev b_PD_all : ByteArray := prog_1_method_8_code
abbrev b_PD_part : ByteArray := prog_1_method_11_code
abbrev b_PD_isPart : ByteArray := prog_1_method_10_code
abbrev b_PT_fact : ByteArray := prog_3_method_2_code
abbrev b_PD_rest : ByteArray := prog_1_method_2_code
abbrev b_PD_point : ByteArray := prog_1_method_12_code
abbrev b_PD_sign : ByteArray := prog_1_method_3_code
abbrev b_PD_verdict : ByteArray := prog_1_method_14_code
abbrev b_PD_told : ByteArray := prog_1_method_13_code
abbrev b_VD_init : ByteArray := prog_4_method_1_code
abbrev b_PD_shorter : ByteArray := prog_1_method_17_code
abbrev b_PD_stays : ByteArray := prog_1_method_15_code
abbrev b_PD_lessened : ByteArray := prog_1_method_16_code
abbrev b_PD_left : ByteArray := prog_1_method_18_code
abbrev b_PD_minimal : ByteArray := prog_1_method_19_code
abbrev b_PD_faultless : ByteArray := prog_1_method_20_code
abbrev b_PD_same : ByteArray := prog_1_method_21_code
abbrev b_DR_isLike : ByteArray := prog_2_method_4_code
abbrev b_LW_cell : ByteArray := method_2_code
abbrev b_MO_init : ByteArray := prog_6_method_1_code
abbrev b_MO_seed : ByteArray := prog_6_method_9_code
abbrev b_MO_draw : ByteArray := prog_6_method_10_code
abbrev b_MO_in : ByteArray := prog_6_method_3_code
abbrev b_MO_part : ByteArray := prog_6_method_11_code
abbrev b_MO_hasFaults : ByteArray := prog_6_method_8_code
abbrev b_MO_number : ByteArray := prog_6_method_4_code
abbrev b_MO_isLess : ByteArray := prog_6_method_6_code
abbrev b_MO_fact : ByteArray := prog_6_method_7_code
abbrev b_MO_rest : ByteArray := prog_6_method_5_code
abbrev b_MO_point : ByteArray := prog_6_method_12_code
abbrev b_MO_verdict : ByteArray := prog_6_method_15_code
abbrev b_MO_placeOf : ByteArray := prog_6_method_13_code
abbrev b_MO_shorter : ByteArray := prog_6_method_18_code
abbrev b_MO_stays : ByteArray := prog_6_method_14_code
abbrev b_MO_without : ByteArray := prog_6_method_17_code
abbrev b_MO_countOf : ByteArray := prog_6_method_16_code
abbrev b_MO_left : ByteArray := prog_6_method_19_code
abbrev b_MO_minimal : ByteArray := prog_6_method_20_code
abbrev b_MO_faultless : ByteArray := prog_6_method_21_code
abbrev b_MO_same : ByteArray := prog_6_method_22_code
def gw : List Cond := lw_tbl.filter goodWord
theorem g_t {w : Cond} (i : Nat) (h : tables_1[i]? = some w) (hg : goodWord w = true) : w ∈ gw := List.mem_filter.mpr ⟨List.mem_append_right _ (List.mem_of_getElem? h), hg⟩
theorem g_p {w : Cond} (i : Nat) (h : (k2_sels lw_privs)[i]? = some w) (hg : goodWord w = true) : w ∈ gw := List.mem_filter.mpr ⟨List.mem_append_left _ (List.mem_of_getElem? h), hg⟩
theorem g_n {w : Cond} (i : Nat) (h : tables_1[i]? = some w) : w ∈ lw_tbl := List.mem_append_right _ (List.mem_of_getElem? h)
theorem w_0 : (.initialized R_LW : Cond) ∈ gw := g_t 0 rfl rfl
theorem w_1 : (.initialized R_PD : Cond) ∈ gw := g_t 1 rfl rfl
theorem w_2 : (.initialized R_AC : Cond) ∈ gw := g_t 2 rfl rfl
theorem w_3 : (.initialized R_AB : Cond) ∈ gw := g_t 3 rfl rfl
theorem w_4 : (.initialized R_AL : Cond) ∈ gw := g_t 4 rfl rfl
theorem w_5 : (.initialized R_MO : Cond) ∈ gw := g_t 5 rfl rfl
theorem w_6 : (.initialized R_DR : Cond) ∈ gw := g_t 6 rfl rfl
theorem w_7 : (.initialized R_PT : Cond) ∈ gw := g_t 7 rfl rfl
theorem w_8 : (.initialized R_AS : Cond) ∈ gw := g_t 8 rfl rfl
theorem w_9 : (.initialized R_MA : Cond) ∈ gw := g_t 9 rfl rfl
theorem w_10 : (.initialized R_AR : Cond) ∈ gw := g_t 10 rfl rfl
theorem w_11 : (.initialized R_SY : Cond) ∈ gw := g_t 11 rfl rfl
theorem w_12 : (.initialized R_OB : Cond) ∈ gw := g_t 12 rfl rfl
theorem w_13 : (.initialized R_PC : Cond) ∈ gw := g_t 13 rfl rfl
theorem w_14 : (.initialized R_VD : Cond) ∈ gw := g_t 14 rfl rfl
theorem w_15 : (.classLink R_LW 7 R_PD : Cond) ∈ gw := g_t 15 rfl rfl
theorem w_16 : (.instantiable R_PD 4 : Cond) ∈ gw := g_t 16 rfl rfl
theorem w_17 : (.methodLink R_LW 15 y_PD_init : Cond) ∈ gw := g_t 17 rfl rfl
theorem w_18 : (.instanceMethod y_PD_init : Cond) ∈ gw := g_t 18 rfl rfl
theorem w_19 : (.code y_PD_init prog_1_method_4_code 2 none : Cond) ∈ gw := g_t 19 rfl rfl
theorem w_20 : (.methodLink R_PD 11 y_OJ_init : Cond) ∈ gw := g_t 20 rfl rfl
theorem w_21 : (.instanceMethod y_OJ_init : Cond) ∈ gw := g_t 21 rfl rfl
theorem w_22 : (.code y_OJ_init object_method_1_code 1 none : Cond) ∈ gw := g_t 22 rfl rfl
theorem w_23 : (.classLink R_PD 17 R_AL : Cond) ∈ gw := g_t 23 rfl rfl
theorem w_24 : (.instantiable R_AL 3 : Cond) ∈ gw := g_t 24 rfl rfl
theorem w_25 : (.methodLink R_PD 19 y_AL_init : Cond) ∈ gw := g_t 25 rfl rfl
theorem w_26 : (.instanceMethod y_AL_init : Cond) ∈ gw := g_t 26 rfl rfl
theorem w_27 : (.code y_AL_init prog_14_method_2_code 1 none : Cond) ∈ gw := g_t 27 rfl rfl
theorem w_28 : (.methodLink R_AL 1 y_AB_init : Cond) ∈ gw := g_t 28 rfl rfl
theorem w_29 : (.instanceMethod y_AB_init : Cond) ∈ gw := g_t 29 rfl rfl
theorem w_30 : (.code y_AB_init prog_13_method_1_code 1 none : Cond) ∈ gw := g_t 30 rfl rfl
theorem w_31 : (.methodLink R_AB 1 y_AC_init : Cond) ∈ gw := g_t 31 rfl rfl
theorem w_32 : (.instanceMethod y_AC_init : Cond) ∈ gw := g_t 32 rfl rfl
theorem w_33 : (.code y_AC_init prog_12_method_1_code 1 none : Cond) ∈ gw := g_t 33 rfl rfl
theorem w_34 : (.methodLink R_AC 1 y_OJ_init : Cond) ∈ gw := g_t 34 rfl rfl
theorem w_35 : (.fieldLink R_AL 39 R_AL "DEFAULTCAPACITY_EMPTY_ELEMENTDATA" "[Ljava/lang/Object;" : Cond) ∈ gw := g_t 35 rfl rfl
theorem w_36 : (.laysStatic R_AL "DEFAULTCAPACITY_EMPTY_ELEMENTDATA" "[Ljava/lang/Object;" : Cond) ∈ lw_tbl := g_n 36 rfl
theorem w_37 : (.fieldLink R_AL 9 R_AL "elementData" "[Ljava/lang/Object;" : Cond) ∈ gw := g_t 37 rfl rfl
theorem w_38 : (.fieldLink R_AL 48 R_AL "size" "I" : Cond) ∈ gw := g_t 38 rfl rfl
theorem w_39 : (.fieldLink R_AB 7 R_AB "modCount" "I" : Cond) ∈ gw := g_t 39 rfl rfl
theorem w_40 : (.fieldLink R_AL 63 R_AL "modCount" "I" : Cond) ∈ gw := g_t 40 rfl rfl
theorem w_41 : (.sameField R_AL R_AB "modCount" "I" : Cond) ∈ gw := g_t 41 rfl rfl
theorem w_42 : (.lays R_AL R_AL "elementData" "[Ljava/lang/Object;" : Cond) ∈ gw := g_t 42 rfl rfl
theorem w_44 : (.lays R_AL R_AL "size" "I" : Cond) ∈ gw := g_t 44 rfl rfl
theorem w_46 : (.lays R_AL R_AB "modCount" "I" : Cond) ∈ gw := g_t 46 rfl rfl
theorem w_49 : (.fieldLink R_PD 26 R_PD "seed" "J" : Cond) ∈ gw := g_t 49 rfl rfl
theorem w_50 : (.fieldLink R_PD 34 R_PD "drawing" "LPostDrawer$Drawing;" : Cond) ∈ gw := g_t 50 rfl rfl
theorem w_51 : (.fieldLink R_PD 20 R_PD "verdicts" "Ljava/util/ArrayList;" : Cond) ∈ gw := g_t 51 rfl rfl
theorem w_52 : (.fieldLink R_PD 60 R_PD "left" "I" : Cond) ∈ gw := g_t 52 rfl rfl
theorem w_53 : (.lays R_PD R_PD "seed" "J" : Cond) ∈ gw := g_t 53 rfl rfl
theorem w_55 : (.lays R_PD R_PD "drawing" "LPostDrawer$Drawing;" : Cond) ∈ gw := g_t 55 rfl rfl
theorem w_57 : (.laysFinal R_PD R_PD "verdicts" "Ljava/util/ArrayList;" : Cond) ∈ gw := g_t 57 rfl rfl
theorem w_59 : (.lays R_PD R_PD "left" "I" : Cond) ∈ gw := g_t 59 rfl rfl
theorem w_62 : (.methodLink R_LW 23 y_PD_seed : Cond) ∈ gw := g_t 62 rfl rfl
theorem w_63 : (.instanceMethod y_PD_seed : Cond) ∈ gw := g_t 63 rfl rfl
theorem w_64 : (.selects R_PD y_PD_seed y_PD_seed : Cond) ∈ gw := g_t 64 rfl rfl
theorem w_65 : (.code y_PD_seed prog_1_method_6_code 5 (some .long) : Cond) ∈ gw := g_t 65 rfl rfl
theorem w_66 : (.methodLink R_LW 28 y_PD_draw : Cond) ∈ gw := g_t 66 rfl rfl
theorem w_67 : (.instanceMethod y_PD_draw : Cond) ∈ gw := g_t 67 rfl rfl
theorem w_68 : (.selects R_PD y_PD_draw y_PD_draw : Cond) ∈ gw := g_t 68 rfl rfl
theorem w_69 : (.code y_PD_draw prog_1_method_9_code 3 (some .int) : Cond) ∈ gw := g_t 69 rfl rfl
theorem w_70 : (.methodLink R_PD 47 y_PD_isDrawing : Cond) ∈ gw := g_t 70 rfl rfl
theorem w_71 : (.static y_PD_isDrawing : Cond) ∈ gw := g_t 71 rfl rfl
theorem w_72 : (.code y_PD_isDrawing prog_1_method_7_code 2 (some .boolean) : Cond) ∈ gw := g_t 72 rfl rfl
theorem w_73 : (.methodLink R_PD 30 y_PD_within : Cond) ∈ gw := g_t 73 rfl rfl
theorem w_74 : (.static y_PD_within : Cond) ∈ gw := g_t 74 rfl rfl
theorem w_75 : (.code y_PD_within prog_1_method_5_code 3 (some .boolean) : Cond) ∈ gw := g_t 75 rfl rfl
theorem w_76 : (.classLink R_PD 39 R_DR : Cond) ∈ gw := g_t 76 rfl rfl
theorem w_77 : (.instantiable R_DR 3 : Cond) ∈ gw := g_t 77 rfl rfl
theorem w_78 : (.methodLink R_PD 51 y_DR_init : Cond) ∈ gw := g_t 78 rfl rfl
theorem w_79 : (.instanceMethod y_DR_init : Cond) ∈ gw := g_t 79 rfl rfl
theorem w_80 : (.code y_DR_init prog_2_method_1_code 6 none : Cond) ∈ gw := g_t 80 rfl rfl
theorem w_81 : (.methodLink R_DR 3 y_OJ_init : Cond) ∈ gw := g_t 81 rfl rfl
theorem w_82 : (.classLink R_DR 9 R_AL : Cond) ∈ gw := g_t 82 rfl rfl
theorem w_83 : (.methodLink R_DR 11 y_AL_init : Cond) ∈ gw := g_t 83 rfl rfl
theorem w_84 : (.classLink R_DR 26 R_PT : Cond) ∈ gw := g_t 84 rfl rfl
theorem w_85 : (.instantiable R_PT 2 : Cond) ∈ gw := g_t 85 rfl rfl
theorem w_86 : (.methodLinkNest R_DR 28 y_PD_mixed R_PD : Cond) ∈ lw_tbl := g_n 86 rfl
theorem w_87 : (.static y_PD_mixed : Cond) ∈ gw := g_t 87 rfl rfl
theorem w_88 : (.code y_PD_mixed prog_1_method_1_code 6 (some .long) : Cond) ∈ gw := g_t 88 rfl rfl
theorem w_89 : (.constantLong R_PD 1 (64 : Int64) : Cond) ∈ gw := g_t 89 rfl rfl
theorem w_90 : (.constantLong R_PD 3 (-7046029254386353131 : Int64) : Cond) ∈ gw := g_t 90 rfl rfl
theorem w_91 : (.constantLong R_PD 5 (-4658895280553007687 : Int64) : Cond) ∈ gw := g_t 91 rfl rfl
theorem w_92 : (.constantLong R_PD 7 (-7723592293110705685 : Int64) : Cond) ∈ gw := g_t 92 rfl rfl
theorem w_93 : (.methodLink R_DR 32 y_PT_init : Cond) ∈ gw := g_t 93 rfl rfl
theorem w_94 : (.instanceMethod y_PT_init : Cond) ∈ gw := g_t 94 rfl rfl
theorem w_95 : (.code y_PT_init prog_3_method_1_code 3 none : Cond) ∈ gw := g_t 95 rfl rfl
theorem w_96 : (.methodLink R_PT 1 y_OJ_init : Cond) ∈ gw := g_t 96 rfl rfl
theorem w_97 : (.fieldLink R_PT 7 R_PT "z" "J" : Cond) ∈ gw := g_t 97 rfl rfl
theorem w_98 : (.fieldLinkNest R_DR 54 R_PT "z" "J" R_PD : Cond) ∈ lw_tbl := g_n 98 rfl
theorem w_99 : (.fieldLink R_PT 13 R_PT "faulty" "Z" : Cond) ∈ gw := g_t 99 rfl rfl
theorem w_100 : (.fieldLinkNest R_DR 61 R_PT "faulty" "Z" R_PD : Cond) ∈ lw_tbl := g_n 100 rfl
theorem w_101 : (.fieldLinkNest R_PD 118 R_PT "faulty" "Z" R_PD : Cond) ∈ lw_tbl := g_n 101 rfl
theorem w_102 : (.laysFinal R_PT R_PT "z" "J" : Cond) ∈ gw := g_t 102 rfl rfl
theorem w_104 : (.lays R_PT R_PT "faulty" "Z" : Cond) ∈ gw := g_t 104 rfl rfl
theorem w_107 : (.methodLink R_DR 35 y_AL_add : Cond) ∈ gw := g_t 107 rfl rfl
theorem w_108 : (.instanceMethod y_AL_add : Cond) ∈ gw := g_t 108 rfl rfl
theorem w_109 : (.selects R_AL y_AL_add y_AL_add : Cond) ∈ gw := g_t 109 rfl rfl
theorem w_110 : (.code y_AL_add prog_14_method_25_code 2 (some .boolean) : Cond) ∈ gw := g_t 110 rfl rfl
theorem w_111 : (.methodLink R_AL 131 y_AL_add2 : Cond) ∈ gw := g_t 111 rfl rfl
theorem w_113 : (.instanceMethod y_AL_add2 : Cond) ∈ gw := g_t 113 rfl rfl
theorem w_114 : (.code y_AL_add2 prog_14_method_24_code 4 none : Cond) ∈ gw := g_t 114 rfl rfl
theorem w_115 : (.methodLink R_AL 129 y_AL_grow : Cond) ∈ gw := g_t 115 rfl rfl
theorem w_117 : (.instanceMethod y_AL_grow : Cond) ∈ gw := g_t 117 rfl rfl
theorem w_118 : (.code y_AL_grow prog_14_method_7_code 1 (some (.array (.object "java/lang/Object"))) : Cond) ∈ gw := g_t 118 rfl rfl
theorem w_119 : (.methodLink R_AL 69 y_AL_grow2 : Cond) ∈ gw := g_t 119 rfl rfl
theorem w_121 : (.instanceMethod y_AL_grow2 : Cond) ∈ gw := g_t 121 rfl rfl
theorem w_122 : (.code y_AL_grow2 prog_14_method_6_code 4 (some (.array (.object "java/lang/Object"))) : Cond) ∈ gw := g_t 122 rfl rfl
theorem w_123 : (.methodLink R_AL 73 y_AS_newLength : Cond) ∈ gw := g_t 123 rfl rfl
theorem w_124 : (.static y_AS_newLength : Cond) ∈ gw := g_t 124 rfl rfl
theorem w_125 : (.code y_AS_newLength prog_21_method_27_code 4 (some .int) : Cond) ∈ gw := g_t 125 rfl rfl
theorem w_126 : (.methodLink R_AS 194 y_MA_max : Cond) ∈ gw := g_t 126 rfl rfl
theorem w_127 : (.static y_MA_max : Cond) ∈ gw := g_t 127 rfl rfl
theorem w_128 : (.code y_MA_max prog_10_method_65_code 2 (some .int) : Cond) ∈ gw := g_t 128 rfl rfl
theorem w_129 : (.constant R_AS 200 (2147483639 : Int32) : Cond) ∈ gw := g_t 129 rfl rfl
theorem w_130 : (.methodLink R_AS 201 y_AS_hugeLength : Cond) ∈ gw := g_t 130 rfl rfl
theorem w_131 : (.static y_AS_hugeLength : Cond) ∈ gw := g_t 131 rfl rfl
theorem w_132 : (.code y_AS_hugeLength prog_21_method_28_code 3 (some .int) : Cond) ∈ gw := g_t 132 rfl rfl
theorem w_133 : (.methodLink R_AL 66 y_AR_copyOf : Cond) ∈ gw := g_t 133 rfl rfl
theorem w_134 : (.static y_AR_copyOf : Cond) ∈ gw := g_t 134 rfl rfl
theorem w_135 : (.code y_AR_copyOf prog_15_method_119_code 2 (some (.array (.object "java/lang/Object"))) : Cond) ∈ gw := g_t 135 rfl rfl
theorem w_136 : (.methodLink R_AR 86 y_OJ_getClass : Cond) ∈ gw := g_t 136 rfl rfl
theorem w_137 : (.instanceMethod y_OJ_getClass : Cond) ∈ gw := g_t 137 rfl rfl
theorem w_138 : (.sameMethod R_OJ R_OJ "getClass" "()Ljava/lang/Class;" : Cond) ∈ gw := g_t 138 rfl rfl
theorem w_139 : (.selects R_PD y_OJ_getClass y_OJ_getClass : Cond) ∈ gw := g_t 139 rfl rfl
theorem w_140 : (.selects R_DR y_OJ_getClass y_OJ_getClass : Cond) ∈ gw := g_t 140 rfl rfl
theorem w_141 : (.selects R_PT y_OJ_getClass y_OJ_getClass : Cond) ∈ gw := g_t 141 rfl rfl
theorem w_142 : (.selects R_VD y_OJ_getClass y_OJ_getClass : Cond) ∈ gw := g_t 142 rfl rfl
theorem w_143 : (.selects R_MO y_OJ_getClass y_OJ_getClass : Cond) ∈ gw := g_t 143 rfl rfl
theorem w_144 : (.selects R_AL y_OJ_getClass y_OJ_getClass : Cond) ∈ gw := g_t 144 rfl rfl
theorem w_145 : (.native y_OJ_getClass : Cond) ∈ gw := g_t 145 rfl rfl
theorem w_146 : (.methodLink R_AR 300 y_AR_copyOf2 : Cond) ∈ gw := g_t 146 rfl rfl
theorem w_147 : (.static y_AR_copyOf2 : Cond) ∈ gw := g_t 147 rfl rfl
theorem w_148 : (.code y_AR_copyOf2 prog_15_method_120_code 4 (some (.array (.object "java/lang/Object"))) : Cond) ∈ gw := g_t 148 rfl rfl
theorem w_149 : (.classLink R_AR 110 "[Ljava/lang/Object;" : Cond) ∈ gw := g_t 149 rfl rfl
theorem w_150 : (.arrayOver (.object "java/lang/Object") : Cond) ∈ lw_tbl := g_n 150 rfl
theorem w_151 : (.classLink R_AR 2 R_OJ : Cond) ∈ gw := g_t 151 rfl rfl
theorem w_152 : (.methodLink R_AR 304 y_MA_min : Cond) ∈ gw := g_t 152 rfl rfl
theorem w_153 : (.static y_MA_min : Cond) ∈ gw := g_t 153 rfl rfl
theorem w_154 : (.code y_MA_min prog_10_method_69_code 2 (some .int) : Cond) ∈ gw := g_t 154 rfl rfl
theorem w_155 : (.methodLink R_AR 150 y_SY_arraycopy : Cond) ∈ gw := g_t 155 rfl rfl
theorem w_156 : (.static y_SY_arraycopy : Cond) ∈ gw := g_t 156 rfl rfl
theorem w_157 : (.native y_SY_arraycopy : Cond) ∈ gw := g_t 157 rfl rfl
theorem w_158 : (.methodLink R_AL 79 y_MA_max : Cond) ∈ gw := g_t 158 rfl rfl
theorem w_159 : (.classLink R_AL 7 R_OJ : Cond) ∈ gw := g_t 159 rfl rfl
theorem w_160 : (.methodLink R_DR 39 y_DR_spoil : Cond) ∈ gw := g_t 160 rfl rfl
theorem w_162 : (.instanceMethod y_DR_spoil : Cond) ∈ gw := g_t 162 rfl rfl
theorem w_163 : (.code y_DR_spoil prog_2_method_3_code 2 none : Cond) ∈ gw := g_t 163 rfl rfl
theorem w_164 : (.methodLink R_DR 42 y_AL_size : Cond) ∈ gw := g_t 164 rfl rfl
theorem w_165 : (.instanceMethod y_AL_size : Cond) ∈ gw := g_t 165 rfl rfl
theorem w_166 : (.selects R_AL y_AL_size y_AL_size : Cond) ∈ gw := g_t 166 rfl rfl
theorem w_167 : (.code y_AL_size prog_14_method_8_code 1 (some .int) : Cond) ∈ gw := g_t 167 rfl rfl
theorem w_168 : (.methodLink R_DR 46 y_AL_get : Cond) ∈ gw := g_t 168 rfl rfl
theorem w_169 : (.instanceMethod y_AL_get : Cond) ∈ gw := g_t 169 rfl rfl
theorem w_170 : (.selects R_AL y_AL_get y_AL_get : Cond) ∈ gw := g_t 170 rfl rfl
theorem w_171 : (.code y_AL_get prog_14_method_20_code 2 (some (.object "java/lang/Object")) : Cond) ∈ gw := g_t 171 rfl rfl
theorem w_172 : (.methodLink R_AL 118 y_OB_checkIndex : Cond) ∈ gw := g_t 172 rfl rfl
theorem w_173 : (.static y_OB_checkIndex : Cond) ∈ gw := g_t 173 rfl rfl
theorem w_174 : (.code y_OB_checkIndex prog_18_method_17_code 2 (some .int) : Cond) ∈ gw := g_t 174 rfl rfl
theorem w_175 : (.methodLink R_OB 105 y_PC_checkIndex : Cond) ∈ gw := g_t 175 rfl rfl
theorem w_176 : (.static y_PC_checkIndex : Cond) ∈ gw := g_t 176 rfl rfl
theorem w_177 : (.code y_PC_checkIndex prog_22_method_11_code 3 (some .int) : Cond) ∈ gw := g_t 177 rfl rfl
theorem w_178 : (.methodLink R_AL 123 y_AL_elementData : Cond) ∈ gw := g_t 178 rfl rfl
theorem w_179 : (.instanceMethod y_AL_elementData : Cond) ∈ gw := g_t 179 rfl rfl
theorem w_180 : (.selects R_AL y_AL_elementData y_AL_elementData : Cond) ∈ gw := g_t 180 rfl rfl
theorem w_181 : (.code y_AL_elementData prog_14_method_18_code 2 (some (.object "java/lang/Object")) : Cond) ∈ gw := g_t 181 rfl rfl
theorem w_182 : (.methodLink R_DR 57 y_DR_behind : Cond) ∈ gw := g_t 182 rfl rfl
theorem w_184 : (.instanceMethod y_DR_behind : Cond) ∈ gw := g_t 184 rfl rfl
theorem w_185 : (.code y_DR_behind prog_2_method_2_code 6 (some .int) : Cond) ∈ gw := g_t 185 rfl rfl
theorem w_186 : (.methodLink R_DR 50 y_PT_isGreater : Cond) ∈ gw := g_t 186 rfl rfl
theorem w_187 : (.instanceMethod y_PT_isGreater : Cond) ∈ gw := g_t 187 rfl rfl
theorem w_188 : (.selects R_PT y_PT_isGreater y_PT_isGreater : Cond) ∈ gw := g_t 188 rfl rfl
theorem w_189 : (.code y_PT_isGreater prog_3_method_3_code 2 (some .boolean) : Cond) ∈ gw := g_t 189 rfl rfl
theorem w_190 : (.constantLong R_PT 25 (-9223372036854775808 : Int64) : Cond) ∈ gw := g_t 190 rfl rfl
theorem w_191 : (.fieldLink R_DR 18 R_DR "seed" "J" : Cond) ∈ gw := g_t 191 rfl rfl
theorem w_192 : (.fieldLinkNest R_PD 84 R_DR "seed" "J" R_PD : Cond) ∈ lw_tbl := g_n 192 rfl
theorem w_193 : (.fieldLink R_DR 22 R_DR "kind" "I" : Cond) ∈ gw := g_t 193 rfl rfl
theorem w_194 : (.fieldLinkNest R_PD 78 R_DR "kind" "I" R_PD : Cond) ∈ lw_tbl := g_n 194 rfl
theorem w_195 : (.fieldLink R_DR 12 R_DR "parts" "Ljava/util/ArrayList;" : Cond) ∈ gw := g_t 195 rfl rfl
theorem w_196 : (.fieldLinkNest R_PD 38 R_DR "parts" "Ljava/util/ArrayList;" R_PD : Cond) ∈ lw_tbl := g_n 196 rfl
theorem w_197 : (.laysFinal R_DR R_DR "seed" "J" : Cond) ∈ gw := g_t 197 rfl rfl
theorem w_199 : (.laysFinal R_DR R_DR "kind" "I" : Cond) ∈ gw := g_t 199 rfl rfl
theorem w_201 : (.laysFinal R_DR R_DR "parts" "Ljava/util/ArrayList;" : Cond) ∈ gw := g_t 201 rfl rfl
theorem w_204 : (.methodLink R_PD 54 y_AL_clear : Cond) ∈ gw := g_t 204 rfl rfl
theorem w_205 : (.instanceMethod y_AL_clear : Cond) ∈ gw := g_t 205 rfl rfl
theorem w_206 : (.selects R_AL y_AL_clear y_AL_clear : Cond) ∈ gw := g_t 206 rfl rfl
theorem w_207 : (.code y_AL_clear prog_14_method_40_code 4 none : Cond) ∈ gw := g_t 207 rfl rfl
theorem w_208 : (.methodLink R_PD 57 y_PD_all : Cond) ∈ gw := g_t 208 rfl rfl
theorem w_210 : (.instanceMethod y_PD_all : Cond) ∈ gw := g_t 210 rfl rfl
theorem w_211 : (.code y_PD_all prog_1_method_8_code 1 (some .int) : Cond) ∈ gw := g_t 211 rfl rfl
theorem w_212 : (.methodLink R_PD 43 y_AL_size : Cond) ∈ gw := g_t 212 rfl rfl
theorem w_213 : (.methodLink R_LW 33 y_PD_part : Cond) ∈ gw := g_t 213 rfl rfl
theorem w_214 : (.instanceMethod y_PD_part : Cond) ∈ gw := g_t 214 rfl rfl
theorem w_215 : (.selects R_PD y_PD_part y_PD_part : Cond) ∈ gw := g_t 215 rfl rfl
theorem w_216 : (.code y_PD_part prog_1_method_11_code 3 (some .int) : Cond) ∈ gw := g_t 216 rfl rfl
theorem w_217 : (.methodLink R_PD 64 y_PD_isPart : Cond) ∈ gw := g_t 217 rfl rfl
theorem w_219 : (.instanceMethod y_PD_isPart : Cond) ∈ gw := g_t 219 rfl rfl
theorem w_220 : (.code y_PD_isPart prog_1_method_10_code 2 (some .boolean) : Cond) ∈ gw := g_t 220 rfl rfl
theorem w_221 : (.methodLink R_PD 68 y_AL_get : Cond) ∈ gw := g_t 221 rfl rfl
theorem w_222 : (.classLink R_PD 72 R_PT : Cond) ∈ gw := g_t 222 rfl rfl
theorem w_223 : (.methodLink R_PD 74 y_PT_fact : Cond) ∈ gw := g_t 223 rfl rfl
theorem w_224 : (.instanceMethod y_PT_fact : Cond) ∈ gw := g_t 224 rfl rfl
theorem w_225 : (.selects R_PT y_PT_fact y_PT_fact : Cond) ∈ gw := g_t 225 rfl rfl
theorem w_226 : (.code y_PT_fact prog_3_method_2_code 2 (some .int) : Cond) ∈ gw := g_t 226 rfl rfl
theorem w_227 : (.methodLinkNest R_PT 17 y_PD_rest R_PD : Cond) ∈ lw_tbl := g_n 227 rfl
theorem w_228 : (.static y_PD_rest : Cond) ∈ gw := g_t 228 rfl rfl
theorem w_229 : (.code y_PD_rest prog_1_method_2_code 5 (some .int) : Cond) ∈ gw := g_t 229 rfl rfl
theorem w_230 : (.constantLong R_PD 9 (2 : Int64) : Cond) ∈ gw := g_t 230 rfl rfl
theorem w_231 : (.methodLink R_LW 37 y_PD_point : Cond) ∈ gw := g_t 231 rfl rfl
theorem w_232 : (.instanceMethod y_PD_point : Cond) ∈ gw := g_t 232 rfl rfl
theorem w_233 : (.selects R_PD y_PD_point y_PD_point : Cond) ∈ gw := g_t 233 rfl rfl
theorem w_234 : (.code y_PD_point prog_1_method_12_code 7 (some .int) : Cond) ∈ gw := g_t 234 rfl rfl
theorem w_235 : (.methodLink R_PD 81 y_PD_sign : Cond) ∈ gw := g_t 235 rfl rfl
theorem w_236 : (.static y_PD_sign : Cond) ∈ gw := g_t 236 rfl rfl
theorem w_237 : (.code y_PD_sign prog_1_method_3_code 1 (some .int) : Cond) ∈ gw := g_t 237 rfl rfl
theorem w_238 : (.methodLink R_PD 85 y_PD_mixed : Cond) ∈ gw := g_t 238 rfl rfl
theorem w_239 : (.methodLink R_PD 89 y_PD_rest : Cond) ∈ gw := g_t 239 rfl rfl
theorem w_240 : (.methodLink R_LW 42 y_PD_verdict : Cond) ∈ gw := g_t 240 rfl rfl
theorem w_241 : (.instanceMethod y_PD_verdict : Cond) ∈ gw := g_t 241 rfl rfl
theorem w_242 : (.selects R_PD y_PD_verdict y_PD_verdict : Cond) ∈ gw := g_t 242 rfl rfl
theorem w_243 : (.code y_PD_verdict prog_1_method_14_code 4 (some .int) : Cond) ∈ gw := g_t 243 rfl rfl
theorem w_244 : (.methodLink R_PD 98 y_PD_told : Cond) ∈ gw := g_t 244 rfl rfl
theorem w_246 : (.instanceMethod y_PD_told : Cond) ∈ gw := g_t 246 rfl rfl
theorem w_247 : (.code y_PD_told prog_1_method_13_code 3 (some (.object "PostDrawer$Verdict")) : Cond) ∈ gw := g_t 247 rfl rfl
theorem w_248 : (.classLink R_PD 93 R_VD : Cond) ∈ gw := g_t 248 rfl rfl
theorem w_249 : (.instantiable R_VD 2 : Cond) ∈ gw := g_t 249 rfl rfl
theorem w_250 : (.methodLink R_PD 102 y_VD_init : Cond) ∈ gw := g_t 250 rfl rfl
theorem w_251 : (.instanceMethod y_VD_init : Cond) ∈ gw := g_t 251 rfl rfl
theorem w_252 : (.code y_VD_init prog_4_method_1_code 2 none : Cond) ∈ gw := g_t 252 rfl rfl
theorem w_253 : (.methodLink R_VD 1 y_OJ_init : Cond) ∈ gw := g_t 253 rfl rfl
theorem w_254 : (.fieldLink R_VD 7 R_VD "bits" "I" : Cond) ∈ gw := g_t 254 rfl rfl
theorem w_255 : (.fieldLinkNest R_PD 95 R_VD "bits" "I" R_PD : Cond) ∈ lw_tbl := g_n 255 rfl
theorem w_256 : (.fieldLinkNest R_PD 109 R_VD "stays" "Z" R_PD : Cond) ∈ lw_tbl := g_n 256 rfl
theorem w_257 : (.laysFinal R_VD R_VD "bits" "I" : Cond) ∈ gw := g_t 257 rfl rfl
theorem w_259 : (.lays R_VD R_VD "stays" "Z" : Cond) ∈ gw := g_t 259 rfl rfl
theorem w_262 : (.methodLink R_PD 105 y_AL_add : Cond) ∈ gw := g_t 262 rfl rfl
theorem w_263 : (.methodLink R_LW 47 y_PD_shorter : Cond) ∈ gw := g_t 263 rfl rfl
theorem w_264 : (.instanceMethod y_PD_shorter : Cond) ∈ gw := g_t 264 rfl rfl
theorem w_265 : (.selects R_PD y_PD_shorter y_PD_shorter : Cond) ∈ gw := g_t 265 rfl rfl
theorem w_266 : (.code y_PD_shorter prog_1_method_17_code 3 (some .int) : Cond) ∈ gw := g_t 266 rfl rfl
theorem w_267 : (.methodLink R_PD 113 y_PD_stays : Cond) ∈ gw := g_t 267 rfl rfl
theorem w_269 : (.instanceMethod y_PD_stays : Cond) ∈ gw := g_t 269 rfl rfl
theorem w_270 : (.code y_PD_stays prog_1_method_15_code 3 (some .boolean) : Cond) ∈ gw := g_t 270 rfl rfl
theorem w_271 : (.methodLink R_PD 115 y_PD_lessened : Cond) ∈ gw := g_t 271 rfl rfl
theorem w_273 : (.instanceMethod y_PD_lessened : Cond) ∈ gw := g_t 273 rfl rfl
theorem w_274 : (.code y_PD_lessened prog_1_method_16_code 5 (some .int) : Cond) ∈ gw := g_t 274 rfl rfl
theorem w_275 : (.methodLink R_LW 52 y_PD_left : Cond) ∈ gw := g_t 275 rfl rfl
theorem w_276 : (.instanceMethod y_PD_left : Cond) ∈ gw := g_t 276 rfl rfl
theorem w_277 : (.selects R_PD y_PD_left y_PD_left : Cond) ∈ gw := g_t 277 rfl rfl
theorem w_278 : (.code y_PD_left prog_1_method_18_code 5 (some .int) : Cond) ∈ gw := g_t 278 rfl rfl
theorem w_279 : (.methodLink R_LW 57 y_PD_minimal : Cond) ∈ gw := g_t 279 rfl rfl
theorem w_280 : (.instanceMethod y_PD_minimal : Cond) ∈ gw := g_t 280 rfl rfl
theorem w_281 : (.selects R_PD y_PD_minimal y_PD_minimal : Cond) ∈ gw := g_t 281 rfl rfl
theorem w_282 : (.code y_PD_minimal prog_1_method_19_code 1 (some .boolean) : Cond) ∈ gw := g_t 282 rfl rfl
theorem w_283 : (.methodLink R_LW 62 y_PD_faultless : Cond) ∈ gw := g_t 283 rfl rfl
theorem w_284 : (.instanceMethod y_PD_faultless : Cond) ∈ gw := g_t 284 rfl rfl
theorem w_285 : (.selects R_PD y_PD_faultless y_PD_faultless : Cond) ∈ gw := g_t 285 rfl rfl
theorem w_286 : (.code y_PD_faultless prog_1_method_20_code 2 (some .boolean) : Cond) ∈ gw := g_t 286 rfl rfl
theorem w_287 : (.methodLink R_LW 67 y_PD_same : Cond) ∈ gw := g_t 287 rfl rfl
theorem w_288 : (.instanceMethod y_PD_same : Cond) ∈ gw := g_t 288 rfl rfl
theorem w_289 : (.selects R_PD y_PD_same y_PD_same : Cond) ∈ gw := g_t 289 rfl rfl
theorem w_290 : (.code y_PD_same prog_1_method_21_code 5 (some .boolean) : Cond) ∈ gw := g_t 290 rfl rfl
theorem w_291 : (.methodLink R_PD 121 y_DR_isLike : Cond) ∈ gw := g_t 291 rfl rfl
theorem w_292 : (.instanceMethod y_DR_isLike : Cond) ∈ gw := g_t 292 rfl rfl
theorem w_293 : (.selects R_DR y_DR_isLike y_DR_isLike : Cond) ∈ gw := g_t 293 rfl rfl
theorem w_294 : (.code y_DR_isLike prog_2_method_4_code 5 (some .boolean) : Cond) ∈ gw := g_t 294 rfl rfl
theorem w_295 : (.methodLink R_DR 65 y_PT_fact : Cond) ∈ gw := g_t 295 rfl rfl
theorem w_296 : (.methodLink R_LW 9 y_LW_cell : Cond) ∈ gw := g_t 296 rfl rfl
theorem w_297 : (.static y_LW_cell : Cond) ∈ gw := g_t 297 rfl rfl
theorem w_298 : (.code y_LW_cell method_2_code 2 (some .int) : Cond) ∈ gw := g_t 298 rfl rfl
theorem w_299 : (.classLink R_LW 18 R_MO : Cond) ∈ gw := g_t 299 rfl rfl
theorem w_300 : (.instantiable R_MO 10 : Cond) ∈ gw := g_t 300 rfl rfl
theorem w_301 : (.methodLink R_LW 20 y_MO_init : Cond) ∈ gw := g_t 301 rfl rfl
theorem w_302 : (.instanceMethod y_MO_init : Cond) ∈ gw := g_t 302 rfl rfl
theorem w_303 : (.code y_MO_init prog_6_method_1_code 2 none : Cond) ∈ gw := g_t 303 rfl rfl
theorem w_304 : (.methodLink R_MO 1 y_OJ_init : Cond) ∈ gw := g_t 304 rfl rfl
theorem w_305 : (.fieldLink R_MO 24 R_MO "thrown" "I" : Cond) ∈ gw := g_t 305 rfl rfl
theorem w_306 : (.fieldLink R_MO 20 R_MO "seed" "J" : Cond) ∈ gw := g_t 306 rfl rfl
theorem w_307 : (.fieldLink R_MO 56 R_MO "drawnBy" "J" : Cond) ∈ gw := g_t 307 rfl rfl
theorem w_308 : (.fieldLink R_MO 62 R_MO "parts" "I" : Cond) ∈ gw := g_t 308 rfl rfl
theorem w_309 : (.fieldLink R_MO 59 R_MO "kind" "I" : Cond) ∈ gw := g_t 309 rfl rfl
theorem w_310 : (.fieldLink R_MO 65 R_MO "leftBits" "I" : Cond) ∈ gw := g_t 310 rfl rfl
theorem w_311 : (.fieldLink R_MO 68 R_MO "sets" "I" : Cond) ∈ gw := g_t 311 rfl rfl
theorem w_312 : (.fieldLink R_MO 7 R_MO "set" "[I" : Cond) ∈ gw := g_t 312 rfl rfl
theorem w_313 : (.fieldLink R_MO 13 R_MO "staying" "[Z" : Cond) ∈ gw := g_t 313 rfl rfl
theorem w_314 : (.fieldLink R_MO 17 R_MO "inks" "[I" : Cond) ∈ gw := g_t 314 rfl rfl
theorem w_315 : (.lays R_MO R_MO "thrown" "I" : Cond) ∈ gw := g_t 315 rfl rfl
theorem w_317 : (.lays R_MO R_MO "seed" "J" : Cond) ∈ gw := g_t 317 rfl rfl
theorem w_319 : (.lays R_MO R_MO "drawnBy" "J" : Cond) ∈ gw := g_t 319 rfl rfl
theorem w_321 : (.lays R_MO R_MO "parts" "I" : Cond) ∈ gw := g_t 321 rfl rfl
theorem w_323 : (.lays R_MO R_MO "kind" "I" : Cond) ∈ gw := g_t 323 rfl rfl
theorem w_325 : (.lays R_MO R_MO "leftBits" "I" : Cond) ∈ gw := g_t 325 rfl rfl
theorem w_327 : (.lays R_MO R_MO "sets" "I" : Cond) ∈ gw := g_t 327 rfl rfl
theorem w_329 : (.laysFinal R_MO R_MO "set" "[I" : Cond) ∈ gw := g_t 329 rfl rfl
theorem w_331 : (.laysFinal R_MO R_MO "staying" "[Z" : Cond) ∈ gw := g_t 331 rfl rfl
theorem w_333 : (.laysFinal R_MO R_MO "inks" "[I" : Cond) ∈ gw := g_t 333 rfl rfl
theorem w_336 : (.arrayClass .int : Cond) ∈ gw := g_t 336 rfl rfl
theorem w_337 : (.arrayClass .boolean : Cond) ∈ gw := g_t 337 rfl rfl
theorem w_338 : (.methodLink R_LW 27 y_MO_seed : Cond) ∈ gw := g_t 338 rfl rfl
theorem w_339 : (.instanceMethod y_MO_seed : Cond) ∈ gw := g_t 339 rfl rfl
theorem w_340 : (.selects R_MO y_MO_seed y_MO_seed : Cond) ∈ gw := g_t 340 rfl rfl
theorem w_341 : (.code y_MO_seed prog_6_method_9_code 5 (some .long) : Cond) ∈ gw := g_t 341 rfl rfl
theorem w_342 : (.methodLink R_LW 32 y_MO_draw : Cond) ∈ gw := g_t 342 rfl rfl
theorem w_343 : (.instanceMethod y_MO_draw : Cond) ∈ gw := g_t 343 rfl rfl
theorem w_344 : (.selects R_MO y_MO_draw y_MO_draw : Cond) ∈ gw := g_t 344 rfl rfl
theorem w_345 : (.code y_MO_draw prog_6_method_10_code 3 (some .int) : Cond) ∈ gw := g_t 345 rfl rfl
theorem w_346 : (.methodLink R_MO 52 y_MO_in : Cond) ∈ gw := g_t 346 rfl rfl
theorem w_347 : (.static y_MO_in : Cond) ∈ gw := g_t 347 rfl rfl
theorem w_348 : (.code y_MO_in prog_6_method_3_code 3 (some .boolean) : Cond) ∈ gw := g_t 348 rfl rfl
theorem w_349 : (.methodLink R_LW 36 y_MO_part : Cond) ∈ gw := g_t 349 rfl rfl
theorem w_350 : (.instanceMethod y_MO_part : Cond) ∈ gw := g_t 350 rfl rfl
theorem w_351 : (.selects R_MO y_MO_part y_MO_part : Cond) ∈ gw := g_t 351 rfl rfl
theorem w_352 : (.code y_MO_part prog_6_method_11_code 3 (some .int) : Cond) ∈ gw := g_t 352 rfl rfl
theorem w_353 : (.methodLink R_MO 71 y_MO_hasFaults : Cond) ∈ gw := g_t 353 rfl rfl
theorem w_354 : (.static y_MO_hasFaults : Cond) ∈ gw := g_t 354 rfl rfl
theorem w_355 : (.code y_MO_hasFaults prog_6_method_8_code 11 (some .boolean) : Cond) ∈ gw := g_t 355 rfl rfl
theorem w_356 : (.methodLink R_MO 44 y_MO_number : Cond) ∈ gw := g_t 356 rfl rfl
theorem w_357 : (.static y_MO_number : Cond) ∈ gw := g_t 357 rfl rfl
theorem w_358 : (.code y_MO_number prog_6_method_4_code 6 (some .long) : Cond) ∈ gw := g_t 358 rfl rfl
theorem w_359 : (.constantLong R_MO 28 (64 : Int64) : Cond) ∈ gw := g_t 359 rfl rfl
theorem w_360 : (.constantLong R_MO 30 (-7046029254386353131 : Int64) : Cond) ∈ gw := g_t 360 rfl rfl
theorem w_361 : (.constantLong R_MO 32 (-4658895280553007687 : Int64) : Cond) ∈ gw := g_t 361 rfl rfl
theorem w_362 : (.constantLong R_MO 34 (-7723592293110705685 : Int64) : Cond) ∈ gw := g_t 362 rfl rfl
theorem w_363 : (.methodLink R_MO 48 y_MO_isLess : Cond) ∈ gw := g_t 363 rfl rfl
theorem w_364 : (.static y_MO_isLess : Cond) ∈ gw := g_t 364 rfl rfl
theorem w_365 : (.code y_MO_isLess prog_6_method_6_code 4 (some .boolean) : Cond) ∈ gw := g_t 365 rfl rfl
theorem w_366 : (.constantLong R_MO 38 (-9223372036854775808 : Int64) : Cond) ∈ gw := g_t 366 rfl rfl
theorem w_367 : (.methodLink R_MO 75 y_MO_fact : Cond) ∈ gw := g_t 367 rfl rfl
theorem w_368 : (.static y_MO_fact : Cond) ∈ gw := g_t 368 rfl rfl
theorem w_369 : (.code y_MO_fact prog_6_method_7_code 3 (some .int) : Cond) ∈ gw := g_t 369 rfl rfl
theorem w_370 : (.methodLink R_MO 40 y_MO_rest : Cond) ∈ gw := g_t 370 rfl rfl
theorem w_371 : (.static y_MO_rest : Cond) ∈ gw := g_t 371 rfl rfl
theorem w_372 : (.code y_MO_rest prog_6_method_5_code 5 (some .int) : Cond) ∈ gw := g_t 372 rfl rfl
theorem w_373 : (.constantLong R_MO 36 (2 : Int64) : Cond) ∈ gw := g_t 373 rfl rfl
theorem w_374 : (.methodLink R_LW 41 y_MO_point : Cond) ∈ gw := g_t 374 rfl rfl
theorem w_375 : (.instanceMethod y_MO_point : Cond) ∈ gw := g_t 375 rfl rfl
theorem w_376 : (.selects R_MO y_MO_point y_MO_point : Cond) ∈ gw := g_t 376 rfl rfl
theorem w_377 : (.code y_MO_point prog_6_method_12_code 6 (some .int) : Cond) ∈ gw := g_t 377 rfl rfl
theorem w_378 : (.methodLink R_LW 46 y_MO_verdict : Cond) ∈ gw := g_t 378 rfl rfl
theorem w_379 : (.instanceMethod y_MO_verdict : Cond) ∈ gw := g_t 379 rfl rfl
theorem w_380 : (.selects R_MO y_MO_verdict y_MO_verdict : Cond) ∈ gw := g_t 380 rfl rfl
theorem w_381 : (.code y_MO_verdict prog_6_method_15_code 4 (some .int) : Cond) ∈ gw := g_t 381 rfl rfl
theorem w_382 : (.methodLink R_MO 78 y_MO_placeOf : Cond) ∈ gw := g_t 382 rfl rfl
theorem w_384 : (.instanceMethod y_MO_placeOf : Cond) ∈ gw := g_t 384 rfl rfl
theorem w_385 : (.code y_MO_placeOf prog_6_method_13_code 4 (some .int) : Cond) ∈ gw := g_t 385 rfl rfl
theorem w_386 : (.methodLink R_LW 51 y_MO_shorter : Cond) ∈ gw := g_t 386 rfl rfl
theorem w_387 : (.instanceMethod y_MO_shorter : Cond) ∈ gw := g_t 387 rfl rfl
theorem w_388 : (.selects R_MO y_MO_shorter y_MO_shorter : Cond) ∈ gw := g_t 388 rfl rfl
theorem w_389 : (.code y_MO_shorter prog_6_method_18_code 4 (some .int) : Cond) ∈ gw := g_t 389 rfl rfl
theorem w_390 : (.methodLink R_MO 82 y_MO_stays : Cond) ∈ gw := g_t 390 rfl rfl
theorem w_392 : (.instanceMethod y_MO_stays : Cond) ∈ gw := g_t 392 rfl rfl
theorem w_393 : (.code y_MO_stays prog_6_method_14_code 3 (some .boolean) : Cond) ∈ gw := g_t 393 rfl rfl
theorem w_394 : (.methodLink R_MO 86 y_MO_without : Cond) ∈ gw := g_t 394 rfl rfl
theorem w_396 : (.instanceMethod y_MO_without : Cond) ∈ gw := g_t 396 rfl rfl
theorem w_397 : (.code y_MO_without prog_6_method_17_code 5 (some .int) : Cond) ∈ gw := g_t 397 rfl rfl
theorem w_398 : (.methodLink R_MO 90 y_MO_countOf : Cond) ∈ gw := g_t 398 rfl rfl
theorem w_399 : (.static y_MO_countOf : Cond) ∈ gw := g_t 399 rfl rfl
theorem w_400 : (.code y_MO_countOf prog_6_method_16_code 3 (some .int) : Cond) ∈ gw := g_t 400 rfl rfl
theorem w_401 : (.methodLink R_LW 56 y_MO_left : Cond) ∈ gw := g_t 401 rfl rfl
theorem w_402 : (.instanceMethod y_MO_left : Cond) ∈ gw := g_t 402 rfl rfl
theorem w_403 : (.selects R_MO y_MO_left y_MO_left : Cond) ∈ gw := g_t 403 rfl rfl
theorem w_404 : (.code y_MO_left prog_6_method_19_code 4 (some .int) : Cond) ∈ gw := g_t 404 rfl rfl
theorem w_405 : (.methodLink R_LW 61 y_MO_minimal : Cond) ∈ gw := g_t 405 rfl rfl
theorem w_406 : (.instanceMethod y_MO_minimal : Cond) ∈ gw := g_t 406 rfl rfl
theorem w_407 : (.selects R_MO y_MO_minimal y_MO_minimal : Cond) ∈ gw := g_t 407 rfl rfl
theorem w_408 : (.code y_MO_minimal prog_6_method_20_code 1 (some .boolean) : Cond) ∈ gw := g_t 408 rfl rfl
theorem w_409 : (.methodLink R_LW 66 y_MO_faultless : Cond) ∈ gw := g_t 409 rfl rfl
theorem w_410 : (.instanceMethod y_MO_faultless : Cond) ∈ gw := g_t 410 rfl rfl
theorem w_411 : (.selects R_MO y_MO_faultless y_MO_faultless : Cond) ∈ gw := g_t 411 rfl rfl
theorem w_412 : (.code y_MO_faultless prog_6_method_21_code 2 (some .boolean) : Cond) ∈ gw := g_t 412 rfl rfl
theorem w_413 : (.methodLink R_LW 71 y_MO_same : Cond) ∈ gw := g_t 413 rfl rfl
theorem w_414 : (.instanceMethod y_MO_same : Cond) ∈ gw := g_t 414 rfl rfl
theorem w_415 : (.selects R_MO y_MO_same y_MO_same : Cond) ∈ gw := g_t 415 rfl rfl
theorem w_416 : (.code y_MO_same prog_6_method_22_code 8 (some .boolean) : Cond) ∈ gw := g_t 416 rfl rfl
theorem w_417 : (.constantLong R_LW 21 (4294967295 : Int64) : Cond) ∈ gw := g_t 417 rfl rfl
theorem w_418 : (.castable R_PT R_PT : Cond) ∈ lw_tbl := g_n 418 rfl
theorem w_419 : (.castable R_VD R_VD : Cond) ∈ lw_tbl := g_n 419 rfl
theorem w_420 : (.sameMethod "[Ljava/lang/Object;" R_OJ "getClass" "()Ljava/lang/Class;" : Cond) ∈ gw := g_t 420 rfl rfl
theorem w_421 : (.selects "[Ljava/lang/Object;" y_OJ_getClass y_OJ_getClass : Cond) ∈ gw := g_t 421 rfl rfl
theorem w_422 : (.declares y_OJ_getClass : Cond) ∈ lw_tbl := g_n 422 rfl
theorem w_423 : (.castable R_PD R_OJ : Cond) ∈ lw_tbl := g_n 423 rfl
theorem w_424 : (.castable R_MO R_OJ : Cond) ∈ lw_tbl := g_n 424 rfl
theorem w_425 : (.castable R_DR R_OJ : Cond) ∈ lw_tbl := g_n 425 rfl
theorem w_426 : (.castable R_PT R_OJ : Cond) ∈ lw_tbl := g_n 426 rfl
theorem w_427 : (.castable R_VD R_OJ : Cond) ∈ lw_tbl := g_n 427 rfl
theorem s_AL_add2 : (.selects R_AL y_AL_add2 y_AL_add2 : Cond) ∈ gw := g_p 0 rfl rfl
theorem s_AL_grow : (.selects R_AL y_AL_grow y_AL_grow : Cond) ∈ gw := g_p 1 rfl rfl
theorem s_AL_grow2 : (.selects R_AL y_AL_grow2 y_AL_grow2 : Cond) ∈ gw := g_p 2 rfl rfl
theorem s_DR_spoil : (.selects R_DR y_DR_spoil y_DR_spoil : Cond) ∈ gw := g_p 3 rfl rfl
theorem s_DR_behind : (.selects R_DR y_DR_behind y_DR_behind : Cond) ∈ gw := g_p 4 rfl rfl
theorem s_PD_all : (.selects R_PD y_PD_all y_PD_all : Cond) ∈ gw := g_p 5 rfl rfl
theorem s_PD_isPart : (.selects R_PD y_PD_isPart y_PD_isPart : Cond) ∈ gw := g_p 6 rfl rfl
theorem s_PD_told : (.selects R_PD y_PD_told y_PD_told : Cond) ∈ gw := g_p 7 rfl rfl
theorem s_PD_stays : (.selects R_PD y_PD_stays y_PD_stays : Cond) ∈ gw := g_p 8 rfl rfl
theorem s_PD_lessened : (.selects R_PD y_PD_lessened y_PD_lessened : Cond) ∈ gw := g_p 9 rfl rfl
theorem s_MO_placeOf : (.selects R_MO y_MO_placeOf y_MO_placeOf : Cond) ∈ gw := g_p 10 rfl rfl
theorem s_MO_stays : (.selects R_MO y_MO_stays y_MO_stays : Cond) ∈ gw := g_p 11 rfl rfl
theorem s_MO_without : (.selects R_MO y_MO_without y_MO_without : Cond) ∈ gw := g_p 12 rfl rfl
theorem i_PD : ∀ w ∈ u_ws R_PD F_PD 4, w ∈ gw := List.forall_mem_cons.mpr ⟨w_53, List.forall_mem_cons.mpr ⟨w_55, List.forall_mem_cons.mpr ⟨w_57, List.forall_mem_cons.mpr ⟨w_59, fun _ h => absurd h List.not_mem_nil⟩⟩⟩⟩
theorem i_DR : ∀ w ∈ u_ws R_DR F_DR 3, w ∈ gw := List.forall_mem_cons.mpr ⟨w_197, List.forall_mem_cons.mpr ⟨w_199, List.forall_mem_cons.mpr ⟨w_201, fun _ h => absurd h List.not_mem_nil⟩⟩⟩
theorem i_PT : ∀ w ∈ u_ws R_PT F_PT 2, w ∈ gw := List.forall_mem_cons.mpr ⟨w_102, List.forall_mem_cons.mpr ⟨w_104, fun _ h => absurd h List.not_mem_nil⟩⟩
theorem i_VD : ∀ w ∈ u_ws R_VD F_VD 2, w ∈ gw := List.forall_mem_cons.mpr ⟨w_257, List.forall_mem_cons.mpr ⟨w_259, fun _ h => absurd h List.not_mem_nil⟩⟩
theorem i_AL : ∀ w ∈ u_ws R_AL F_AL 3, w ∈ gw := List.forall_mem_cons.mpr ⟨w_42, List.forall_mem_cons.mpr ⟨w_44, List.forall_mem_cons.mpr ⟨w_46, fun _ h => absurd h List.not_mem_nil⟩⟩⟩
theorem i_MO : ∀ w ∈ u_ws R_MO F_MO 10, w ∈ gw := List.forall_mem_cons.mpr ⟨w_315, List.forall_mem_cons.mpr ⟨w_317, List.forall_mem_cons.mpr ⟨w_319, List.forall_mem_cons.mpr ⟨w_321, List.forall_mem_cons.mpr ⟨w_323, List.forall_mem_cons.mpr ⟨w_325, List.forall_mem_cons.mpr ⟨w_327, List.forall_mem_cons.mpr ⟨w_329, List.forall_mem_cons.mpr ⟨w_331, List.forall_mem_cons.mpr ⟨w_333, fun _ h => absurd h List.not_mem_nil⟩⟩⟩⟩⟩⟩⟩⟩⟩⟩
/-- what a call needs of its callee: code, class, descriptor -/
def kC (y : MethodName) (b : ByteArray) (n : Nat) (ret : Option FieldType) (k : Nat) : Prop := Cond.code y b n ret ∈ gw ∧ Cond.initialized y.cls ∈ gw ∧ y.cls ≠ "java/lang/invoke/MethodHandle" ∧ y.cls ≠ "java/lang/invoke/VarHandle" ∧ (parseMethodDescriptor y.desc).map (fun d => d.parameters.length) = some k
theorem z_PD_init : kC y_PD_init b_PD_init 2 none 1 := ⟨w_19, w_1, by decide +kernel, by decide +kernel, by decide +kernel⟩
theorem z_AL_init : kC y_AL_init b_AL_init 1 none 0 := ⟨w_27, w_4, by decide +kernel, by decide +kernel, by decide +kernel⟩
theorem z_AB_init : kC y_AB_init b_AB_init 1 none 0 := ⟨w_30, w_3, by decide +kernel, by decide +kernel, by decide +kernel⟩
theorem z_AC_init : kC y_AC_init b_AC_init 1 none 0 := ⟨w_33, w_2, by decide +kernel, by decide +kernel, by decide +kernel⟩
theorem z_PD_seed : kC y_PD_seed b_PD_seed 5 (some .long) 1 := ⟨w_65, w_1, by decide +kernel, by decide +kernel, by decide +kernel⟩
theorem z_PD_draw : kC y_PD_draw b_PD_draw 3 (some .int) 2 := ⟨w_69, w_1, by decide +kernel, by decide +kernel, by decide +kernel⟩
theorem z_PD_isDrawing : kC y_PD_isDrawing b_PD_isDrawing 2 (some .boolean) 2 := ⟨w_72, w_1, by decide +kernel, by decide +kernel, by decide +kernel⟩
theorem z_PD_within : kC y_PD_within b_PD_within 3 (some .boolean) 3 := ⟨w_75, w_1, by decide +kernel, by decide +kernel, by decide +kernel⟩
theorem z_DR_init : kC y_DR_init b_DR_init 6 none 3 := ⟨w_80, w_6, by decide +kernel, by decide +kernel, by decide +kernel⟩
theorem z_PD_mixed : kC y_PD_mixed b_PD_mixed 6 (some .long) 3 := ⟨w_88, w_1, by decide +kernel, by decide +kernel, by decide +kernel⟩
theorem z_PT_init : kC y_PT_init b_PT_init 3 none 1 := ⟨w_95, w_7, by decide +kernel, by decide +kernel, by decide +kernel⟩
theorem z_AL_add : kC y_AL_add b_AL_add 2 (some .boolean) 1 := ⟨w_110, w_4, by decide +kernel, by decide +kernel, by decide +kernel⟩
theorem z_AL_add2 : kC y_AL_add2 b_AL_add2 4 none 3 := ⟨w_114, w_4, by decide +kernel, by decide +kernel, by decide +kernel⟩
theorem z_AL_grow : kC y_AL_grow b_AL_grow 1 (some (.array (.object "java/lang/Object"))) 0 := ⟨w_118, w_4, by decide +kernel, by decide +kernel, by decide +kernel⟩
theorem z_AL_grow2 : kC y_AL_grow2 b_AL_grow2 4 (some (.array (.object "java/lang/Object"))) 1 := ⟨w_122, w_4, by decide +kernel, by decide +kernel, by decide +kernel⟩
theorem z_AS_newLength : kC y_AS_newLength b_AS_newLength 4 (some .int) 3 := ⟨w_125, w_8, by decide +kernel, by decide +kernel, by decide +kernel⟩
theorem z_AR_copyOf : kC y_AR_copyOf b_AR_copyOf 2 (some (.array (.object "java/lang/Object"))) 2 := ⟨w_135, w_10, by decide +kernel, by decide +kernel, by decide +kernel⟩
theorem z_AR_copyOf2 : kC y_AR_copyOf2 b_AR_copyOf2 4 (some (.array (.object "java/lang/Object"))) 3 := ⟨w_148, w_10, by decide +kernel, by decide +kernel, by decide +kernel⟩
theorem z_DR_spoil : kC y_DR_spoil b_DR_spoil 2 none 0 := ⟨w_163, w_6, by decide +kernel, by decide +kernel, by decide +kernel⟩
theorem z_AL_size : kC y_AL_size b_AL_size 1 (some .int) 0 := ⟨w_167, w_4, by decide +kernel, by decide +kernel, by decide +kernel⟩
theorem z_AL_get : kC y_AL_get b_AL_get 2 (some (.object "java/lang/Object")) 1 := ⟨w_171, w_4, by decide +kernel, by decide +kernel, by decide +kernel⟩
theorem z_OB_checkIndex : kC y_OB_checkIndex b_OB_checkIndex 2 (some .int) 2 := ⟨w_174, w_12, by decide +kernel, by decide +kernel, by decide +kernel⟩
theorem z_PC_checkIndex : kC y_PC_checkIndex b_PC_checkIndex 3 (some .int) 3 := ⟨w_177, w_13, by decide +kernel, by decide +kernel, by decide +kernel⟩
theorem z_AL_elementData : kC y_AL_elementData b_AL_elementData 2 (some (.object "java/lang/Object")) 1 := ⟨w_181, w_4, by decide +kernel, by decide +kernel, by decide +kernel⟩
theorem z_DR_behind : kC y_DR_behind b_DR_behind 6 (some .int) 1 := ⟨w_185, w_6, by decide +kernel, by decide +kernel, by decide +kernel⟩
theorem z_PT_isGreater : kC y_PT_isGreater b_PT_isGreater 2 (some .boolean) 1 := ⟨w_189, w_7, by decide +kernel, by decide +kernel, by decide +kernel⟩
theorem z_AL_clear : kC y_AL_clear b_AL_clear 4 none 0 := ⟨w_207, w_4, by decide +kernel, by decide +kernel, by decide +kernel⟩
theorem z_PD_all : kC y_PD_all b_PD_all 1 (some .int) 0 := ⟨w_211, w_1, by decide +kernel, by decide +kernel, by decide +kernel⟩
theorem z_PD_part : kC y_PD_part b_PD_part 3 (some .int) 2 := ⟨w_216, w_1, by decide +kernel, by decide +kernel, by decide +kernel⟩
theorem z_PD_isPart : kC y_PD_isPart b_PD_isPart 2 (some .boolean) 1 := ⟨w_220, w_1, by decide +kernel, by decide +kernel, by decide +kernel⟩
theorem z_PT_fact : kC y_PT_fact b_PT_fact 2 (some .int) 1 := ⟨w_226, w_7, by decide +kernel, by decide +kernel, by decide +kernel⟩
theorem z_PD_rest : kC y_PD_rest b_PD_rest 5 (some .int) 2 := ⟨w_229, w_1, by decide +kernel, by decide +kernel, by decide +kernel⟩
theorem z_PD_point : kC y_PD_point b_PD_point 7 (some .int) 3 := ⟨w_234, w_1, by decide +kernel, by decide +kernel, by decide +kernel⟩
theorem z_PD_sign : kC y_PD_sign b_PD_sign 1 (some .int) 1 := ⟨w_237, w_1, by decide +kernel, by decide +kernel, by decide +kernel⟩
theorem z_PD_verdict : kC y_PD_verdict b_PD_verdict 4 (some .int) 2 := ⟨w_243, w_1, by decide +kernel, by decide +kernel, by decide +kernel⟩
theorem z_PD_told : kC y_PD_told b_PD_told 3 (some (.object "PostDrawer$Verdict")) 1 := ⟨w_247, w_1, by decide +kernel, by decide +kernel, by decide +kernel⟩
theorem z_VD_init : kC y_VD_init b_VD_init 2 none 1 := ⟨w_252, w_14, by decide +kernel, by decide +kernel, by decide +kernel⟩
theorem z_PD_shorter : kC y_PD_shorter b_PD_shorter 3 (some .int) 0 := ⟨w_266, w_1, by decide +kernel, by decide +kernel, by decide +kernel⟩
theorem z_PD_stays : kC y_PD_stays b_PD_stays 3 (some .boolean) 1 := ⟨w_270, w_1, by decide +kernel, by decide +kernel, by decide +kernel⟩
theorem z_PD_lessened : kC y_PD_lessened b_PD_lessened 5 (some .int) 1 := ⟨w_274, w_1, by decide +kernel, by decide +kernel, by decide +kernel⟩
theorem z_PD_left : kC y_PD_left b_PD_left 5 (some .int) 1 := ⟨w_278, w_1, by decide +kernel, by decide +kernel, by decide +kernel⟩
theorem z_PD_minimal : kC y_PD_minimal b_PD_minimal 1 (some .boolean) 0 := ⟨w_282, w_1, by decide +kernel, by decide +kernel, by decide +kernel⟩
theorem z_PD_faultless : kC y_PD_faultless b_PD_faultless 2 (some .boolean) 1 := ⟨w_286, w_1, by decide +kernel, by decide +kernel, by decide +kernel⟩
theorem z_PD_same : kC y_PD_same b_PD_same 5 (some .boolean) 3 := ⟨w_290, w_1, by decide +kernel, by decide +kernel, by decide +kernel⟩
theorem z_DR_isLike : kC y_DR_isLike b_DR_isLike 5 (some .boolean) 1 := ⟨w_294, w_6, by decide +kernel, by decide +kernel, by decide +kernel⟩
theorem z_LW_cell : kC y_LW_cell b_LW_cell 2 (some .int) 2 := ⟨w_298, w_0, by decide +kernel, by decide +kernel, by decide +kernel⟩
theorem z_MO_init : kC y_MO_init b_MO_init 2 none 1 := ⟨w_303, w_5, by decide +kernel, by decide +kernel, by decide +kernel⟩
theorem z_MO_seed : kC y_MO_seed b_MO_seed 5 (some .long) 1 := ⟨w_341, w_5, by decide +kernel, by decide +kernel, by decide +kernel⟩
theorem z_MO_draw : kC y_MO_draw b_MO_draw 3 (some .int) 2 := ⟨w_345, w_5, by decide +kernel, by decide +kernel, by decide +kernel⟩
theorem z_MO_in : kC y_MO_in b_MO_in 3 (some .boolean) 3 := ⟨w_348, w_5, by decide +kernel, by decide +kernel, by decide +kernel⟩
theorem z_MO_part : kC y_MO_part b_MO_part 3 (some .int) 2 := ⟨w_352, w_5, by decide +kernel, by decide +kernel, by decide +kernel⟩
theorem z_MO_hasFaults : kC y_MO_hasFaults b_MO_hasFaults 11 (some .boolean) 4 := ⟨w_355, w_5, by decide +kernel, by decide +kernel, by decide +kernel⟩
theorem z_MO_number : kC y_MO_number b_MO_number 6 (some .long) 3 := ⟨w_358, w_5, by decide +kernel, by decide +kernel, by decide +kernel⟩
theorem z_MO_isLess : kC y_MO_isLess b_MO_isLess 4 (some .boolean) 2 := ⟨w_365, w_5, by decide +kernel, by decide +kernel, by decide +kernel⟩
theorem z_MO_fact : kC y_MO_fact b_MO_fact 3 (some .int) 2 := ⟨w_369, w_5, by decide +kernel, by decide +kernel, by decide +kernel⟩
theorem z_MO_rest : kC y_MO_rest b_MO_rest 5 (some .int) 2 := ⟨w_372, w_5, by decide +kernel, by decide +kernel, by decide +kernel⟩
theorem z_MO_point : kC y_MO_point b_MO_point 6 (some .int) 3 := ⟨w_377, w_5, by decide +kernel, by decide +kernel, by decide +kernel⟩
theorem z_MO_verdict : kC y_MO_verdict b_MO_verdict 4 (some .int) 2 := ⟨w_381, w_5, by decide +kernel, by decide +kernel, by decide +kernel⟩
theorem z_MO_placeOf : kC y_MO_placeOf b_MO_placeOf 4 (some .int) 1 := ⟨w_385, w_5, by decide +kernel, by decide +kernel, by decide +kernel⟩
theorem z_MO_shorter : kC y_MO_shorter b_MO_shorter 4 (some .int) 0 := ⟨w_389, w_5, by decide +kernel, by decide +kernel, by decide +kernel⟩
theorem z_MO_stays : kC y_MO_stays b_MO_stays 3 (some .boolean) 1 := ⟨w_393, w_5, by decide +kernel, by decide +kernel, by decide +kernel⟩
theorem z_MO_without : kC y_MO_without b_MO_without 5 (some .int) 2 := ⟨w_397, w_5, by decide +kernel, by decide +kernel, by decide +kernel⟩
theorem z_MO_countOf : kC y_MO_countOf b_MO_countOf 3 (some .int) 1 := ⟨w_400, w_5, by decide +kernel, by decide +kernel, by decide +kernel⟩
theorem z_MO_left : kC y_MO_left b_MO_left 4 (some .int) 1 := ⟨w_404, w_5, by decide +kernel, by decide +kernel, by decide +kernel⟩
theorem z_MO_minimal : kC y_MO_minimal b_MO_minimal 1 (some .boolean) 0 := ⟨w_408, w_5, by decide +kernel, by decide +kernel, by decide +kernel⟩
theorem z_MO_faultless : kC y_MO_faultless b_MO_faultless 2 (some .boolean) 1 := ⟨w_412, w_5, by decide +kernel, by decide +kernel, by decide +kernel⟩
theorem z_MO_same : kC y_MO_same b_MO_same 8 (some .boolean) 3 := ⟨w_416, w_5, by decide +kernel, by decide +kernel, by decide +kernel⟩
end
section
/-! BASE: what rides beside the words (kn), the shells of contracts, rows for fields, calls and ends -/
theorem g_tbl : ∀ w ∈ gw, w ∈ lw_tbl := fun _ h => (List.mem_filter.mp h).1
theorem g_good {args a' : Array Value} {s U : State} (hW : s.WarmedH U.vm) (hg : ∀ w ∈ gw, w.before args s = true) : ∀ w ∈ gw, w.before a' U = true := fun w h => word_at hW (good_of_word (List.mem_filter.mp h).2) (hg w h)
abbrev tysD (D : va_G) : List (ClassId × FieldType) := [(D.1 6, .object "java/lang/Object"), (D.1 7, .int), (D.1 8, .boolean)]
/-- words that only stay true by laws of their own -/
def nw : List Cond := [.methodLinkNest R_DR 28 y_PD_mixed R_PD, .fieldLinkNest R_DR 54 R_PT "z" "J" R_PD, .fieldLinkNest R_DR 61 R_PT "faulty" "Z" R_PD, .fieldLinkNest R_PD 118 R_PT "faulty" "Z" R_PD, .fieldLinkNest R_PD 84 R_DR "seed" "J" R_PD, .fieldLinkNest R_PD 78 R_DR "kind" "I" R_PD, .fieldLinkNest R_PD 38 R_DR "parts" "Ljava/util/ArrayList;" R_PD, .methodLinkNest R_PT 17 y_PD_rest R_PD, .fieldLinkNest R_PD 95 R_VD "bits" "I" R_PD, .fieldLinkNest R_PD 109 R_VD "stays" "Z" R_PD, .castable R_PT R_PT, .castable R_VD R_VD, .castable R_PT R_OJ, .castable R_VD R_OJ, .declares y_OJ_getClass]
def nwOk : Cond → Bool
  | .methodLinkNest .. => true
  | .fieldLinkNest .. => true
  | .castable .. => true
  | .declares _ => true
  | _ => false
theorem nw_w {w : Cond} (h : nwOk w = true) {s U : State} (hW : s.WarmedH U.vm) (hZ : va_Nw w s) : va_Nw w U := by
  cases w <;> first | exact va_Nw.warmM hW hZ | exact va_Nw.warmF hW hZ | exact va_Nw.warmC hW hZ | exact va_Nw.warmD hW hZ | (exact absurd h (by simp [nwOk]))
theorem nw_ok : ∀ w ∈ nw, nwOk w = true := List.all_eq_true.mp rfl
theorem nw_tb : ∀ w ∈ nw, w.onTables = true := List.all_eq_true.mp rfl
def kn (D : va_G) (U : State) : Prop := va_K D classes (tysD D) U ∧ (∀ i j : Nat, i < 9 → j < 9 → D.1 i = D.1 j → i = j) ∧ (∀ w ∈ nw, va_Nw w U) ∧ va_AO "java/lang/Object" U ∧ ∃ mi : Nat, va_Mi "[Ljava/lang/Object;" mi U
theorem kn.warm {D : va_G} {s U : State} (hW : s.WarmedH U.vm) (h : kn D s) : kn D U := by
  obtain ⟨h1, h2, h3, h4, mi, h5⟩ := h
  exact ⟨va_K.moved hW.alike h1, h2, fun w hw => nw_w (nw_ok w hw) hW (h3 w hw), va_AO.moved hW.alike h4, mi, va_Mi.moved hW.alike h5⟩
theorem kn.n {D : va_G} {s : State} (h : kn D s) (i : Nat) {w : Cond} (hw : nw[i]? = some w) (args : Array Value) : w.before args s = true := va_Nw.use (nw_tb w (List.mem_of_getElem? hw)) (h.2.2.1 w (List.mem_of_getElem? hw))
theorem kn.m {D : va_G} {s : State} (h : kn D s) (i : Nat) {w : Cond} (hw : nw[i]? = some w) : va_Nw w s := h.2.2.1 w (List.mem_of_getElem? hw)
/-! pictures of single cells -/
abbrev ob (D : va_G) (ci a : Nat) (fs : List Value) (H : Heap) : Prop := va_at D classes (a, .inr (ci, fs)) H
abbrev aq (D : va_G) (a n : Nat) (f : Nat → Option Nat) (H : Heap) : Prop := va_at D classes (a, .inl (D.1 6, n, .inr (.inr (.inr (.inr f))))) H
abbrev ai (D : va_G) (a n : Nat) (f : Nat → Int32) (H : Heap) : Prop := va_at D classes (a, .inl (D.1 7, n, .inl f)) H
abbrev az (D : va_G) (a n : Nat) (f : Nat → Int32) (H : Heap) : Prop := va_at D classes (a, .inl (D.1 8, n, .inl f)) H
theorem p_0 {D : va_G} {cl : List vw_C} {H : Heap} : va_P D cl [] H := fun k q h => by simp at h
theorem p_c {D : va_G} {cl : List vw_C} {H : Heap} {q : Nat × va_E} {ws : va_W} (h : va_at D cl q H) (h2 : va_P D cl ws H) : va_P D cl (q :: ws) H := by
  intro k x hx
  cases k with
  | zero => cases hx; exact h
  | succ k => exact h2 k x hx
theorem p_1 {D : va_G} {cl : List vw_C} {H : Heap} {q : Nat × va_E} (h : va_at D cl q H) : va_P D cl [q] H := p_c h p_0
/-- the class of the cell at an address, by its number -/
def kd (D : va_G) (H : Heap) (a i : Nat) : Prop := ∃ c : Cell, H[a]? = some c ∧ c.cls = D.1 i
theorem kd_ob {D : va_G} {ci a : Nat} {fs : List Value} {H : Heap} (h : ob D ci a fs H) : kd D H a ci := by
  obtain ⟨r, -, cell, h1, h2, -⟩ := h
  exact ⟨cell, h1, h2⟩
theorem kd_aq {D : va_G} {a n : Nat} {f : Nat → Option Nat} {H : Heap} (h : aq D a n f H) : kd D H a 6 := ⟨_, h, rfl⟩
theorem kd_ai {D : va_G} {a n : Nat} {f : Nat → Int32} {H : Heap} (h : ai D a n f H) : kd D H a 7 := ⟨_, h, rfl⟩
theorem kd_az {D : va_G} {a n : Nat} {f : Nat → Int32} {H : Heap} (h : az D a n f H) : kd D H a 8 := ⟨_, h, rfl⟩
theorem kd_ne {D : va_G} {s : State} (hk : kn D s) {H : Heap} {a b i j : Nat} (h1 : kd D H a i) (h2 : kd D H b j) (hi : i < 9) (hj : j < 9) (hij : i ≠ j) : a ≠ b := by
  intro e
  subst e
  obtain ⟨c1, g1, g2⟩ := h1
  obtain ⟨c2, g3, g4⟩ := h2
  cases g1.symm.trans g3
  exact hij (hk.2.1 i j hi hj (g2.symm.trans g4))
theorem kd_lt {D : va_G} {H : Heap} {a i : Nat} (h : kd D H a i) : a < H.size := by
  obtain ⟨c, h1, -⟩ := h
  exact (Array.getElem?_eq_some_iff.mp h1).1
/-! shells -/
def cP (D : va_G) (av : List Value) (Pic : Heap → Prop) : Array Value → State → Prop := va_Pc av (fun U => kn D U ∧ Pic U.heap)
def zz (t0 : Nat) (A : Nat → Prop) (U : State) (H : Heap) : Prop := va_Z "java/util/ArrayList" "DEFAULTCAPACITY_EMPTY_ELEMENTDATA" "[Ljava/lang/Object;" (.ref t0) A U H ∧ va_T (.object "java/lang/Object") t0 0 (fun _ => .null) A U H
theorem zz.moved {t0 : Nat} {A : Nat → Prop} {u U : State} {H : Heap} (hvm : u.vm.Alike U.vm) (h : zz t0 A u H) : zz t0 A U H := ⟨va_Z.moved hvm h.1, va_T.moved hvm h.2⟩
theorem zz.at {t0 : Nat} {A B : Nat → Prop} {s : State} {H : Heap} {locs : List Loc} (h : zz t0 A s s.heap) (hS : va_S A s.heap H locs) (hB : ∀ q, B q → A q) : zz t0 B s H :=
  ⟨(va_Z.kept h.1 (fun a h1 h2 => hS.2.1 a h1 h2)).narrow hB, (va_T.kept h.2 (fun a h1 h2 => hS.2.1 a h1 h2)).narrow hB⟩
def cZ (D : va_G) (t0 : Nat) (A : Nat → Prop) (av : List Value) (Pic : Heap → Prop) : Array Value → State → Prop := va_Pc av (fun U => kn D U ∧ zz t0 A U U.heap ∧ Pic U.heap)
/-- a read: exactly this answer, the heap as it was -/
def rV (v : Value) : Array Value → State → Outcome → State → Prop := fun _ st o t => o = .returned (some v) ∧ t.heap = st.heap
/-- a change: answer and heap behind it, and outside A nothing -/
def mV (A : Nat → Prop) (post : Option Value → Heap → Prop) : Array Value → State → Outcome → State → Prop := fun _ st o t => (∃ v : Option Value, o = .returned v ∧ post v t.heap) ∧ va_F A st t
theorem pre_P {D : va_G} {s : State} {H : Heap} {Pic : Heap → Prop} {av : List Value} (hk : kn D s) (hp : Pic H) : PreS s H (cP D av Pic) av :=
  ⟨fun a U g mk q => ⟨q.1, kn.warm (s := U) (U := U.calling g mk a) (State.WarmedH.refl U) q.2.1, q.2.2⟩, fun U hU hW => ⟨rfl, hk.warm hW, by rw [hU]; exact hp⟩⟩
theorem pre_Z {D : va_G} {s : State} {t0 : Nat} {A : Nat → Prop} {H : Heap} {Pic : Heap → Prop} {av : List Value} (hk : kn D s) (hz : zz t0 A s H) (hp : Pic H) : PreS s H (cZ D t0 A av Pic) av :=
  ⟨fun a U g mk q => ⟨q.1, kn.warm (s := U) (U := U.calling g mk a) (State.WarmedH.refl U) q.2.1, zz.moved (u := U) (U := U.calling g mk a) (Vm.Alike.refl U.vm) q.2.2.1, q.2.2.2⟩, fun U hU hW => ⟨rfl, hk.warm hW, by rw [hU]; exact zz.moved hW.alike hz, by rw [hU]; exact hp⟩⟩
/-! a method's start -/
def FX (p : Program) (m : MethodId) (meth : Method) (c : Code) (b : ByteArray) (ret : Option FieldType) (n : Nat) (s : State) (av : List Value) (y : MethodName) : Prop :=
  p.tables.exec = Jvm.exec ∧ c.code = b ∧ meth.sig.returnType = ret ∧ meth.locks = false ∧ meth.name = y.name ∧ c.maxLocals = n ∧ s.vm.findClass y.cls = some m.cls ∧ ∀ w ∈ gw, w.before av.toArray s = true
theorem mt_B {l : Launch} {y : MethodName} {b : ByteArray} {n : Nat} {ret : Option FieldType} {rm : Room} {av : List Value} {B : State → Prop} {Qc : Array Value → State → Outcome → State → Prop} {mc ms : Nat} {free : Addr → Prop} (hy : plainName y.cls = true) (hn : (lg_sl av).length ≤ n)
    (body : ∀ (p : Program) (e : Env) (s : State) (m : MethodId) (below : List Frame) (meth : Method) (c : Code) (ls : Array Slot), FX p m meth c b ret n s av y → B s → lv_has ls n (lv_args 0 av) → W p l e rm s m av.toArray below meth c s.heap [] 0 0 (MQ below Qc av.toArray s mc ms free) (F0 m 0 ls [])) :
    Met l y (Cond.code y b n ret :: gw) rm (va_Pc av B) Qc mc ms free := by
  refine Met.ofW (cc := b) (maxL := n) (ret := ret) hy rfl ?_
  intro p e s m args below meth c s₁ Bd hml hv
  obtain ⟨rfl, hv⟩ := hv
  have hts := atoms_spec (ws := Cond.code y b n ret :: gw) Bd.pre
  have hl := lv_entry av (n := n) hn
  rw [lg_entry_eq]
  exact body p e s m below meth c _ ⟨Bd.exec, Bd.bytes, Bd.returns, Bd.notSynchronized, (name_of_methodNamed Bd.named Bd.method).1, hml, findClass_of_methodNamed Bd.named, fun w h => hts w (List.mem_cons_of_mem _ h)⟩ hv hl
section BRow
variable {p : Program} {l : Launch} {e : Env} {R : Room} {s : State} {m : MethodId} {args : Array Value} {below : List Frame} {meth : Method} {c : Code} {H : Heap} {locs : List Loc} {cells slots : Nat} {Q : State → Prop}
variable {cc : ByteArray} {pc : Nat} {ls : Array Slot} {rest : List Value} {D : va_G} {A : Nat → Prop} {a : Nat} {H0 : Heap}
/-! ends -/
theorem e_i (hx : p.tables.exec = Jvm.exec) (hb : c.code = cc) (hr : meth.sig.returnType = some .int) (hlocks : meth.locks = false) {v v' : Int32} (hv : v' = v) (hdg : decode cc pc = .ok (.ireturn, 1)) : W p l e R s m args below meth c s.heap [] 0 0 (MQ below (rV (.int v)) args s 0 0 (fun _ => False)) (F0 m pc ls [.int v']) := by
  subst hv
  exact W.iret hx hb hr (fun t ht _ => ⟨rfl, ht⟩) (fun q h => by cases h) hdg hlocks
theorem e_z (hx : p.tables.exec = Jvm.exec) (hb : c.code = cc) (hr : meth.sig.returnType = some .boolean) (hlocks : meth.locks = false) {v v' : Int32} (hv : v' = v) (h01 : v' = 0 ∨ v' = 1) (hdg : decode cc pc = .ok (.ireturn, 1)) : W p l e R s m args below meth c s.heap [] 0 0 (MQ below (rV (.int v)) args s 0 0 (fun _ => False)) (F0 m pc ls [.int v']) := by
  subst hv
  exact W.zret (ty := .boolean) hx hb hr (by rcases h01 with h | h <;> rw [h] <;> rfl) (fun t ht _ => ⟨rfl, ht⟩) (fun q h => by cases h) hdg hlocks
theorem e_l (hx : p.tables.exec = Jvm.exec) (hb : c.code = cc) (hr : meth.sig.returnType = some .long) (hlocks : meth.locks = false) {v v' : Int64} (hv : v' = v) (hdg : decode cc pc = .ok (.lreturn, 1)) : W p l e R s m args below meth c s.heap [] 0 0 (MQ below (rV (.long v)) args s 0 0 (fun _ => False)) (F0 m pc ls [.long v']) := by
  subst hv
  exact W.lret hx hb hr (fun t ht _ => ⟨rfl, ht⟩) (fun q h => by cases h) hdg hlocks
theorem e_r (hx : p.tables.exec = Jvm.exec) (hb : c.code = cc) {rt : FieldType} (hr : meth.sig.returnType = some rt) (hrt : (∃ n, rt = .object n) ∨ ∃ t, rt = .array t) (hlocks : meth.locks = false) {r : Option Nat} {v : Value} (hv : v = va_rf r) (hdg : decode cc pc = .ok (.areturn, 1)) : W p l e R s m args below meth c s.heap [] 0 0 (MQ below (rV (va_rf r)) args s 0 0 (fun _ => False)) (F0 m pc ls [v]) := by
  subst hv
  exact W.aret hx hb hr hrt (va_rf_or r) (fun t ht _ => ⟨rfl, ht⟩) (fun q h => by cases h) hdg hlocks
theorem f_i {post : Option Value → Heap → Prop} (hx : p.tables.exec = Jvm.exec) (hb : c.code = cc) (hr : meth.sig.returnType = some .int) (hlocks : meth.locks = false) {v : Int32} (hS : va_S A s.heap H locs) (hp : post (some (.int v)) H) (hdg : decode cc pc = .ok (.ireturn, 1)) : W p l e R s m args below meth c H locs cells slots (MQ below (mV A post) args s cells slots A) (F0 m pc ls [.int v]) :=
  W.iret hx hb hr (fun t ht _ => ⟨⟨_, rfl, by rw [ht]; exact hp⟩, hS.F ht⟩) hS.2.2 hdg hlocks
theorem f_z {post : Option Value → Heap → Prop} (hx : p.tables.exec = Jvm.exec) (hb : c.code = cc) (hr : meth.sig.returnType = some .boolean) (hlocks : meth.locks = false) {v : Int32} (h01 : v = 0 ∨ v = 1) (hS : va_S A s.heap H locs) (hp : post (some (.int v)) H) (hdg : decode cc pc = .ok (.ireturn, 1)) : W p l e R s m args below meth c H locs cells slots (MQ below (mV A post) args s cells slots A) (F0 m pc ls [.int v]) :=
  W.zret (ty := .boolean) hx hb hr (by rcases h01 with h | h <;> rw [h] <;> rfl) (fun t ht _ => ⟨⟨_, rfl, by rw [ht]; exact hp⟩, hS.F ht⟩) hS.2.2 hdg hlocks
theorem f_l {post : Option Value → Heap → Prop} (hx : p.tables.exec = Jvm.exec) (hb : c.code = cc) (hr : meth.sig.returnType = some .long) (hlocks : meth.locks = false) {v : Int64} (hS : va_S A s.heap H locs) (hp : post (some (.long v)) H) (hdg : decode cc pc = .ok (.lreturn, 1)) : W p l e R s m args below meth c H locs cells slots (MQ below (mV A post) args s cells slots A) (F0 m pc ls [.long v]) :=
  W.lret hx hb hr (fun t ht _ => ⟨⟨_, rfl, by rw [ht]; exact hp⟩, hS.F ht⟩) hS.2.2 hdg hlocks
theorem f_v {post : Option Value → Heap → Prop} (hx : p.tables.exec = Jvm.exec) (hb : c.code = cc) (hr : meth.sig.returnType = none) (hlocks : meth.locks = false) (hS : va_S A s.heap H locs) (hp : post none H) (hdg : decode cc pc = .ok (.return_, 1)) : W p l e R s m args below meth c H locs cells slots (MQ below (mV A post) args s cells slots A) (F0 m pc ls []) :=
  W.vret hx hb hr (fun t ht _ => ⟨⟨_, rfl, by rw [ht]; exact hp⟩, hS.F ht⟩) hS.2.2 hdg hlocks
theorem f_r {post : Option Value → Heap → Prop} (hx : p.tables.exec = Jvm.exec) (hb : c.code = cc) {rt : FieldType} (hr : meth.sig.returnType = some rt) (hrt : (∃ n, rt = .object n) ∨ ∃ t, rt = .array t) (hlocks : meth.locks = false) (hS : va_S A s.heap H locs) (hp : post (some (.ref a)) H) (hdg : decode cc pc = .ok (.areturn, 1)) : W p l e R s m args below meth c H locs cells slots (MQ below (mV A post) args s cells slots A) (F0 m pc ls [.ref a]) :=
  W.aret hx hb hr hrt (Or.inr ⟨a, rfl⟩) (fun t ht _ => ⟨⟨_, rfl, by rw [ht]; exact hp⟩, hS.F ht⟩) hS.2.2 hdg hlocks
/-! fields -/
theorem x_get (hx : p.tables.exec = Jvm.exec) (hb : c.code = cc) (hg : ∀ w ∈ gw, w.before args s = true) {own : String} (hown : s.vm.findClass own = some m.cls) (hk : kn D s) {ci : Nat} {fs : List Value} (ho : ob D ci a fs H) {C : String} {T : u_T} {N : Nat} (hc : classes[ci]? = some (C, T, N)) (hin : ∀ w ∈ u_ws C T N, w ∈ gw) (k : Nat) (hkN : k < N) {idx : Nat} (hl : Cond.fieldLink own idx (T k).1 (T k).2.1 (T k).2.2.1 ∈ gw) {v : Value} (hv : fs[k]? = some v) (hdg : decode cc pc = .ok (.getfield idx, 3))
    (kk : W p l e R s m args below meth c H locs cells slots Q (F0 m (pc + 3) ls (v :: rest))) : W p l e R s m args below meth c H locs cells slots Q (F0 m pc ls (.ref a :: rest)) :=
  va_get hx hb hg hin hown hk.1 (p_1 ho) 0 rfl hc k hkN (hg _ hl) (fun _ h => h) hv hdg kk
/-- modCount, spelt through ArrayList -/
theorem x_getM (hx : p.tables.exec = Jvm.exec) (hb : c.code = cc) (hg : ∀ w ∈ gw, w.before args s = true) (hown : s.vm.findClass R_AL = some m.cls) (hk : kn D s) {fs : List Value} (ho : ob D 4 a fs H) {v : Value} (hv : fs[2]? = some v) (hdg : decode cc pc = .ok (.getfield 63, 3))
    (kk : W p l e R s m args below meth c H locs cells slots Q (F0 m (pc + 3) ls (v :: rest))) : W p l e R s m args below meth c H locs cells slots Q (F0 m pc ls (.ref a :: rest)) :=
  va_get (C := R_AL) (T := F_AL) (N := 3) hx hb hg i_AL hown hk.1 (p_1 ho) 0 rfl rfl 2 (by decide) (hg _ w_40) (fun x9 h9 => u_same (hg _ w_41) x9 h9) hv hdg kk
theorem x_getN (hx : p.tables.exec = Jvm.exec) (hb : c.code = cc) (hg : ∀ w ∈ gw, w.before args s = true) {own : String} (hown : s.vm.findClass own = some m.cls) (hk : kn D s) {ci : Nat} {fs : List Value} (ho : ob D ci a fs H) {C : String} {T : u_T} {N : Nat} (hc : classes[ci]? = some (C, T, N)) (hin : ∀ w ∈ u_ws C T N, w ∈ gw) (k : Nat) (hkN : k < N) {idx : Nat} {host : String} (i : Nat) (hl : nw[i]? = some (Cond.fieldLinkNest own idx (T k).1 (T k).2.1 (T k).2.2.1 host)) {v : Value} (hv : fs[k]? = some v) (hdg : decode cc pc = .ok (.getfield idx, 3))
    (kk : W p l e R s m args below meth c H locs cells slots Q (F0 m (pc + 3) ls (v :: rest))) : W p l e R s m args below meth c H locs cells slots Q (F0 m pc ls (.ref a :: rest)) :=
  va_getN hx hb hg hin hown hk.1 (p_1 ho) 0 rfl hc k hkN (hk.n i hl args) (fun _ h => h) hv hdg kk
theorem x_put (hx : p.tables.exec = Jvm.exec) (hb : c.code = cc) (hg : ∀ w ∈ gw, w.before args s = true) {own : String} (hown : s.vm.findClass own = some m.cls) (hk : kn D s) {ci : Nat} {fs : List Value} (ho : ob D ci a fs H) (hS : va_S A H0 H locs) (hA : A a) {C : String} {T : u_T} {N : Nat} (hc : classes[ci]? = some (C, T, N)) (hin : ∀ w ∈ u_ws C T N, w ∈ gw) (ty0 : Nat → FieldType) (hty : ∀ k, k < N → parseFieldDescriptor (T k).2.2.1 = some (ty0 k)) (hnm : ∀ a, a < N → ∀ b, b < N → a ≠ b → (T a).2.1 ≠ (T b).2.1) (k : Nat) (hkN : k < N) {idx : Nat} {ref : String} (hl : Cond.fieldLink own idx ref (T k).2.1 (T k).2.2.1 ∈ gw) (hsame : ∀ x, s.fieldFound? (T k).1 (T k).2.1 (T k).2.2.1 = some x → s.fieldFound? ref (T k).2.1 (T k).2.2.1 = some x) (hfin : (T k).2.2.2 = false) {ty : FieldType} {v : Value} (hd : parseFieldDescriptor (T k).2.2.1 = some ty) (hn : narrow ty v = v) (hfit : fits ty v = true) (hlen : k < fs.length) (hdg : decode cc pc = .ok (.putfield idx, 3))
    (kk : ∀ (H1 : Heap) (locs1 : List Loc), ob D ci a (fs.set k v) H1 → H1.size = H.size → (∀ q : Nat, q ≠ a → H1[q]? = H[q]?) → va_S A H0 H1 locs1 → W p l e R s m args below meth c H1 locs1 cells slots Q (F0 m (pc + 3) ls rest)) : W p l e R s m args below meth c H locs cells slots Q (F0 m pc ls (v :: .ref a :: rest)) := by
  have hap := va_apart (own := own) hg hin ty0 hty hnm hk.1 hc
  obtain ⟨r, h1, cell, q1, q2, q3, q4⟩ := ho
  have hr : r = (C, T, N) := Option.some.inj (h1.symm.trans hc)
  subst hr
  obtain ⟨hSl, hfc, kC, hkC, hkind⟩ := hk.1.1 ci _ hc
  obtain ⟨cf, kf, fi, f, hi, hsl⟩ := hSl k hkN
  have hlay := hg _ (hin _ (u_in_lay hkN))
  unfold u_lay at hlay
  rw [if_neg (by rw [hfin]; decide)] at hlay
  have hst := (u_facts hfc hkC (u_lays hg hin hkN) hi).1
  have h6 := u_store hfc hkC hkind hlay hi hd hn hfit
  refine W.putK hx hb (f := f) ⟨hown, hg _ hl, ⟨_, _, _, hsame _ hi⟩, hst⟩ (by rw [q2]; exact h6) q1 q3 (by rw [hsl]; exact k2_hasslot (q4 k hkN)) rfl rfl hdg fun H' e1 e2 e3 => ?_
  rw [hsl] at e1 ⊢
  exact kk H' _ ⟨_, hc, t_OB.to (V := updV (vp_V fs) k v) ⟨_, e1, q2, q3, t_set q4 hap hkN v⟩ (fun j _ => vp_updV_set hlen v j)⟩ e2 e3 (hS.put e2 e3 hA)
theorem x_putN (hx : p.tables.exec = Jvm.exec) (hb : c.code = cc) (hg : ∀ w ∈ gw, w.before args s = true) {own : String} (hown : s.vm.findClass own = some m.cls) (hk : kn D s) {ci : Nat} {fs : List Value} (ho : ob D ci a fs H) (hS : va_S A H0 H locs) (hA : A a) {C : String} {T : u_T} {N : Nat} (hc : classes[ci]? = some (C, T, N)) (hin : ∀ w ∈ u_ws C T N, w ∈ gw) (ty0 : Nat → FieldType) (hty : ∀ k, k < N → parseFieldDescriptor (T k).2.2.1 = some (ty0 k)) (hnm : ∀ a, a < N → ∀ b, b < N → a ≠ b → (T a).2.1 ≠ (T b).2.1) (k : Nat) (hkN : k < N) {idx : Nat} {host : String} (i : Nat) (hl : nw[i]? = some (Cond.fieldLinkNest own idx (T k).1 (T k).2.1 (T k).2.2.1 host)) (hfin : (T k).2.2.2 = false) {ty : FieldType} {v : Value} (hd : parseFieldDescriptor (T k).2.2.1 = some ty) (hn : narrow ty v = v) (hfit : fits ty v = true) (hlen : k < fs.length) (hdg : decode cc pc = .ok (.putfield idx, 3))
    (kk : ∀ (H1 : Heap) (locs1 : List Loc), ob D ci a (fs.set k v) H1 → H1.size = H.size → (∀ q : Nat, q ≠ a → H1[q]? = H[q]?) → va_S A H0 H1 locs1 → W p l e R s m args below meth c H1 locs1 cells slots Q (F0 m (pc + 3) ls rest)) : W p l e R s m args below meth c H locs cells slots Q (F0 m pc ls (v :: .ref a :: rest)) := by
  have hap := va_apart (own := own) hg hin ty0 hty hnm hk.1 hc
  obtain ⟨r, h1, cell, q1, q2, q3, q4⟩ := ho
  have hr : r = (C, T, N) := Option.some.inj (h1.symm.trans hc)
  subst hr
  obtain ⟨hSl, hfc, kC, hkC, hkind⟩ := hk.1.1 ci _ hc
  obtain ⟨cf, kf, fi, f, hi, hsl⟩ := hSl k hkN
  have hlay := hg _ (hin _ (u_in_lay hkN))
  unfold u_lay at hlay
  rw [if_neg (by rw [hfin]; decide)] at hlay
  have hst := (u_facts hfc hkC (u_lays hg hin hkN) hi).1
  have h6 := u_store hfc hkC hkind hlay hi hd hn hfit
  refine va_WputK hx hb (f := f) hown (hk.n i hl args) hi hst (by rw [q2]; exact h6) q1 q3 (by rw [hsl]; exact k2_hasslot (q4 k hkN)) rfl rfl hdg fun H' e1 e2 e3 => ?_
  rw [hsl] at e1 ⊢
  exact kk H' _ ⟨_, hc, t_OB.to (V := updV (vp_V fs) k v) ⟨_, e1, q2, q3, t_set q4 hap hkN v⟩ (fun j _ => vp_updV_set hlen v j)⟩ e2 e3 (hS.put e2 e3 hA)
theorem x_putF (hx : p.tables.exec = Jvm.exec) (hb : c.code = cc) (hg : ∀ w ∈ gw, w.before args s = true) {own : String} (hown : s.vm.findClass own = some m.cls) (hin2 : meth.name = "<init>") (hk : kn D s) {ci : Nat} {fs : List Value} (ho : ob D ci a fs H) (hS : va_S A H0 H locs) (hA : A a) {C : String} {T : u_T} {N : Nat} (hc : classes[ci]? = some (C, T, N)) (hin : ∀ w ∈ u_ws C T N, w ∈ gw) (ty0 : Nat → FieldType) (hty : ∀ k, k < N → parseFieldDescriptor (T k).2.2.1 = some (ty0 k)) (hnm : ∀ a, a < N → ∀ b, b < N → a ≠ b → (T a).2.1 ≠ (T b).2.1) (k : Nat) (hkN : k < N) {idx : Nat} (hl : Cond.fieldLink own idx (T k).1 (T k).2.1 (T k).2.2.1 ∈ gw) (hdecl : (T k).1 = own) (hfin : (T k).2.2.2 = true) {ty : FieldType} {v : Value} (hd : parseFieldDescriptor (T k).2.2.1 = some ty) (hn : narrow ty v = v) (hfit : fits ty v = true) (hlen : k < fs.length) (hdg : decode cc pc = .ok (.putfield idx, 3))
    (kk : ∀ (H1 : Heap) (locs1 : List Loc), ob D ci a (fs.set k v) H1 → H1.size = H.size → (∀ q : Nat, q ≠ a → H1[q]? = H[q]?) → va_S A H0 H1 locs1 → W p l e R s m args below meth c H1 locs1 cells slots Q (F0 m (pc + 3) ls rest)) : W p l e R s m args below meth c H locs cells slots Q (F0 m pc ls (v :: .ref a :: rest)) := by
  have hap := va_apart (own := own) hg hin ty0 hty hnm hk.1 hc
  obtain ⟨r, h1, cell, q1, q2, q3, q4⟩ := ho
  have hr : r = (C, T, N) := Option.some.inj (h1.symm.trans hc)
  subst hr
  obtain ⟨hSl, hfc, kC, hkC, hkind⟩ := hk.1.1 ci _ hc
  obtain ⟨cf, kf, fi, f, hi, hsl⟩ := hSl k hkN
  have hlay := hg _ (hin _ (u_in_lay hkN))
  unfold u_lay at hlay
  rw [if_pos hfin] at hlay
  have hst := (u_facts hfc hkC (u_lays hg hin hkN) hi).1
  have hcf : m.cls = cf := by
    obtain ⟨_, _, c', _, _, _, -, -, hf', -, -, -, hown2, -⟩ := Cond.laysFinal_spec hlay
    have e1 : c' = cf := by have := hi.symm.trans hf'; simp at this; exact this.1.symm
    rw [hdecl] at hown2
    rw [← e1]; exact Option.some.inj (hown.symm.trans hown2)
  have h6 := u_fits hfc hkC hkind (Or.inr hlay) hi hd hn hfit
  refine W.putFinK hx hb hown (hg _ hl) hi hst hcf hin2 (by rw [q2]; exact h6) q1 q3 (by rw [hsl]; exact k2_hasslot (q4 k hkN)) rfl rfl hdg fun H' e1 e2 e3 => ?_
  rw [hsl] at e1 ⊢
  exact kk H' _ ⟨_, hc, t_OB.to (V := updV (vp_V fs) k v) ⟨_, e1, q2, q3, t_set q4 hap hkN v⟩ (fun j _ => vp_updV_set hlen v j)⟩ e2 e3 (hS.put e2 e3 hA)
/-! new objects -/
theorem x_new (hx : p.tables.exec = Jvm.exec) (hb : c.code = cc) (hg : ∀ w ∈ gw, w.before args s = true) {own : String} (hown : s.vm.findClass own = some m.cls) (hk : kn D s) (hS : va_S A H0 H locs) (ci : Nat) {C : String} {T : u_T} {N : Nat} (hc : classes[ci]? = some (C, T, N)) (hin : ∀ w ∈ u_ws C T N, w ∈ gw) (ty0 : Nat → FieldType) (hty : ∀ k, k < N → parseFieldDescriptor (T k).2.2.1 = some (ty0 k)) {idx : Nat} (hcl : Cond.classLink own idx C ∈ gw) (hinst : Cond.instantiable C N ∈ gw) (hini : Cond.initialized C ∈ gw) {fs : List Value} (hfs : ∀ j, j < N → defaultValue (ty0 j) = vp_V fs j) (hcells : cells + 1 ≤ R.cells) (hslots : slots + N ≤ R.slots) (hdg : decode cc pc = .ok (.new idx, 3))
    (kk : ∀ (H1 : Heap), ob D ci H.size fs H1 → H1.size = H.size + 1 → (∀ q : Nat, q < H.size → H1[q]? = H[q]?) → va_S A H0 H1 locs → W p l e R s m args below meth c H1 locs (cells + 1) (slots + N) Q (F0 m (pc + 3) ls (.ref H.size :: rest))) : W p l e R s m args below meth c H locs cells slots Q (F0 m pc ls rest) := by
  have hKn := hk.1.1 ci _ hc
  refine W.newcK hx hb hown (hg _ hcl) (hg _ hinst) (hg _ hini) rfl hdg hcells hslots hKn.2.1 rfl fun H1 kC hkC e1 z1 o1 => ?_
  exact kk H1 ⟨_, hc, (u_born ty0 hg hin hKn hkC e1 hty).to hfs⟩ z1 o1 ⟨Nat.le_trans hS.1 (by omega), fun x h1 h2 => (o1 x (Nat.lt_of_lt_of_le h1 hS.1)).trans (hS.2.1 x h1 h2), hS.2.2⟩
/-! calls -/
theorem rc_ob (hk : kn D s) {ci : Nat} {fs : List Value} (ho : ob D ci a fs H) {q : vw_C} (hc : classes[ci]? = some q) : ∃ cell : Cell, H[a]? = some cell ∧ cell.vm.isStatics = false ∧ s.vm.findClass q.1 = some cell.cls := va_recv (q0 := 0) hk.1 (p_1 ho) hc rfl
theorem k_B {y : MethodName} {b : ByteArray} {n k idx : Nat} {ret : Option FieldType} {own : String} {rm : Room} {mc ms : Nat} (hC : kC y b n ret k) (hg : ∀ w ∈ gw, w.before args s = true) (hl : Cond.methodLink own idx y ∈ gw) (hrc : rm.cells = mc) (hrs : rm.slots = ms) (hR : rm.frames + 1 ≤ R.frames ∧ 8 + (n + 11) + rm.locals ≤ R.locals) : CallB R s args own idx y b n ret (Cond.code y b n ret :: gw) rm mc ms k := by
  obtain ⟨h1, h2, h3, h4, h5⟩ := hC
  refine ⟨hrc, hrs, hR.1, hR.2, fun w hw a' U hW => ?_, List.mem_cons_self, hg _ h1, hg _ h2, ⟨h3, h4⟩, fun sig h => ?_, hg _ hl⟩
  · rcases List.mem_cons.mp hw with rfl | hw
    · exact g_good hW hg _ h1
    · exact g_good hW hg _ hw
  · rw [h] at h5
    exact (Option.some.inj h5).symm
theorem k_N {y : MethodName} {b : ByteArray} {n k idx : Nat} {ret : Option FieldType} {own host : String} {rm : Room} {mc ms : Nat} (hC : kC y b n ret k) (hg : ∀ w ∈ gw, w.before args s = true) (hl : (Cond.methodLinkNest own idx y host).before args s = true) (hrc : rm.cells = mc) (hrs : rm.slots = ms) (hR : rm.frames + 1 ≤ R.frames ∧ 8 + (n + 11) + rm.locals ≤ R.locals) : va_CN R s args own idx y host b n ret (Cond.code y b n ret :: gw) rm mc ms k := by
  obtain ⟨h1, h2, h3, h4, h5⟩ := hC
  refine ⟨⟨hrc, hrs, hR.1, hR.2, fun w hw a' U hW => ?_, List.mem_cons_self⟩, hg _ h1, hg _ h2, ⟨h3, h4⟩, fun sig h => ?_, hl⟩
  · rcases List.mem_cons.mp hw with rfl | hw
    · exact g_good hW hg _ h1
    · exact g_good hW hg _ hw
  · rw [h] at h5
    exact (Option.some.inj h5).symm
variable {y : MethodName} {b : ByteArray} {n k idx nL : Nat} {ret : Option FieldType} {own : String} {rm : Room} {As st : List Value} {v : Value} {Pic : Heap → Prop}
/-- a static method that only reads -/
theorem k_S (hx : p.tables.exec = Jvm.exec) (hb : c.code = cc) (hml : c.maxLocals = nL) (hown : s.vm.findClass own = some m.cls) (hg : ∀ w ∈ gw, w.before args s = true) (hk : kn D s) (As rest : List Value) (hM : Met l y (Cond.code y b n ret :: gw) rm (cP D As Pic) (rV v) 0 0 (fun _ => False)) (hC : kC y b n ret k) (hl : Cond.methodLink own idx y ∈ gw) (hst : Cond.static y ∈ gw) (hp : Pic H) (hdg : decode cc pc = .ok (.invokestatic idx, 3))
    (hrc : rm.cells = 0) (hrs : rm.slots = 0) (hR : rm.frames + 1 ≤ R.frames ∧ 8 + (n + 11) + rm.locals ≤ R.locals) (hn : As.length = k) (hsz : ls.size = nL) (hstk : st = As.reverse ++ rest) (hW : (rest.map fun v => v.category).sum ≤ 8) (hc : cells ≤ R.cells ∧ slots ≤ R.slots)
    (kk : W p l e R s m args below meth c H locs cells slots Q (F0 m (pc + 3) ls (v :: rest))) : W p l e R s m args below meth c H locs cells slots Q (F0 m pc ls st) := by
  have hr := W.runS (e := e) (R := R) (below := below) (meth := meth) (locs := locs) (cells := cells) (slots := slots) (As := As) (rest := rest) (g := F0 m pc ls st) ⟨hx, hb, hml, hown, hg⟩ hM ⟨k_B hC hg hl hrc hrs hR, hg _ hst⟩ (pre_P hk hp) rfl hn hsz hstk (lv_room hW) hdg hc
  intro T hT X
  obtain ⟨v', st₀, t, T', L, h0, X', hL, e1, ⟨hv, hh⟩, stp⟩ := hr T hT X
  cases hv
  obtain ⟨t2, a1, b1⟩ := kk T' (by rw [e1, hh, h0]) (Stand.forget X' (fun q h => (hL q h).elim))
  exact ⟨t2, stp t2 a1, b1⟩
/-- the same across a nest -/
theorem k_SN {host : String} (hx : p.tables.exec = Jvm.exec) (hb : c.code = cc) (hml : c.maxLocals = nL) (hown : s.vm.findClass own = some m.cls) (hg : ∀ w ∈ gw, w.before args s = true) (hk : kn D s) (As rest : List Value) (hM : Met l y (Cond.code y b n ret :: gw) rm (cP D As Pic) (rV v) 0 0 (fun _ => False)) (hC : kC y b n ret k) (i : Nat) (hl : nw[i]? = some (Cond.methodLinkNest own idx y host)) (hst : Cond.static y ∈ gw) (hp : Pic H) (hdg : decode cc pc = .ok (.invokestatic idx, 3))
    (hrc : rm.cells = 0) (hrs : rm.slots = 0) (hR : rm.frames + 1 ≤ R.frames ∧ 8 + (n + 11) + rm.locals ≤ R.locals) (hn : As.length = k) (hsz : ls.size = nL) (hstk : st = As.reverse ++ rest) (hW : (rest.map fun v => v.category).sum ≤ 8) (hc : cells ≤ R.cells ∧ slots ≤ R.slots)
    (kk : W p l e R s m args below meth c H locs cells slots Q (F0 m (pc + 3) ls (v :: rest))) : W p l e R s m args below meth c H locs cells slots Q (F0 m pc ls st) := by
  have hr := va_runSN (e := e) (R := R) (below := below) (meth := meth) (locs := locs) (cells := cells) (slots := slots) (As := As) (rest := rest) (g := F0 m pc ls st) ⟨hx, hb, hml, hown, hg⟩ hM ⟨k_N hC hg (hk.n i hl args) hrc hrs hR, hg _ hst, trivial⟩ (pre_P hk hp) rfl hn hsz hstk (lv_room hW) hdg hc
  intro T hT X
  obtain ⟨v', st₀, t, T', L, h0, X', hL, e1, e2, ⟨hv, hh⟩, stp⟩ := hr T hT X
  cases hv
  obtain ⟨t2, a1, b1⟩ := kk T' (by rw [e1, hh, h0]) (Stand.forget X' (fun q h => (hL q h).elim))
  exact ⟨t2, stp t2 a1, b1⟩
/-- an instance method that only reads -/
theorem k_V {C : String} (hx : p.tables.exec = Jvm.exec) (hb : c.code = cc) (hml : c.maxLocals = nL) (hown : s.vm.findClass own = some m.cls) (hg : ∀ w ∈ gw, w.before args s = true) (hk : kn D s) (b0 : Nat) (As rest : List Value) (hM : Met l y (Cond.code y b n ret :: gw) rm (cP D (.ref b0 :: As) Pic) (rV v) 0 0 (fun _ => False)) (hC : kC y b n ret k) (hl : Cond.methodLink own idx y ∈ gw) (hin : Cond.instanceMethod y ∈ gw) (hsel : Cond.selects C y y ∈ gw) (hrcv : ∃ cell : Cell, H[b0]? = some cell ∧ cell.vm.isStatics = false ∧ s.vm.findClass C = some cell.cls) (hp : Pic H) (hdg : decode cc pc = .ok (.invokevirtual idx, 3))
    (hrc : rm.cells = 0) (hrs : rm.slots = 0) (hR : rm.frames + 1 ≤ R.frames ∧ 8 + (n + 11) + rm.locals ≤ R.locals) (hn : As.length = k) (hsz : ls.size = nL) (hstk : st = As.reverse ++ .ref b0 :: rest) (hW : (rest.map fun v => v.category).sum ≤ 8) (hc : cells ≤ R.cells ∧ slots ≤ R.slots)
    (kk : W p l e R s m args below meth c H locs cells slots Q (F0 m (pc + 3) ls (v :: rest))) : W p l e R s m args below meth c H locs cells slots Q (F0 m pc ls st) := by
  have hr := va_runV (e := e) (R := R) (below := below) (meth := meth) (locs := locs) (cells := cells) (slots := slots) (As := As) (rest := rest) (g := F0 m pc ls st) ⟨hx, hb, hml, hown, hg⟩ hM ⟨k_B hC hg hl hrc hrs hR, hg _ hin, hg _ hsel⟩ ⟨(pre_P (D := D) hk hp).1, hrcv, (pre_P hk hp).2⟩ rfl hn hsz hstk (lv_room hW) hdg hc
  intro T hT X
  obtain ⟨v', st₀, t, T', L, h0, X', hL, e1, e2, ⟨hv, hh⟩, stp⟩ := hr T hT X
  cases hv
  obtain ⟨t2, a1, b1⟩ := kk T' (by rw [e1, hh, h0]) (Stand.forget X' (fun q h => (hL q h).elim))
  exact ⟨t2, stp t2 a1, b1⟩
variable {mc ms : Nat} {Pc : Array Value → State → Prop} {A1 : Nat → Prop} {post : Option Value → Heap → Prop}
/-- behind a call that changes -/
theorem m_R (hr : va_Run p l e R s m args below meth c H locs cells slots mc ms (F0 m pc ls st) rest (mV A1 post As.toArray) A1) (hS : va_S A H0 H locs) (hA : ∀ q, A1 q → A q)
    (kk : ∀ (v : Option Value) (H1 : Heap) (locs1 : List Loc), post v H1 → H.size ≤ H1.size → (∀ q : Nat, q < H.size → ¬ A1 q → H1[q]? = H[q]?) → va_S A H0 H1 locs1 → W p l e R s m args below meth c H1 locs1 (cells + mc) (slots + ms) Q (F0 m (pc + 3) ls (v.toList ++ rest))) : W p l e R s m args below meth c H locs cells slots Q (F0 m pc ls st) := by
  intro T hT X
  obtain ⟨v, st₀, t, T', L, h0, X', hL, e1, e2, ⟨⟨r, hv, hp⟩, hz, hk⟩, stp⟩ := hr T hT X
  cases hv
  rw [h0] at hz hk
  obtain ⟨t2, a1, b1⟩ := kk v T'.heap (locs ++ L) (by rw [e1]; exact hp) (by rw [e1]; exact hz) (fun q h1 h2 => by rw [e1]; exact hk q h1 h2)
    ⟨Nat.le_trans hS.1 (by rw [e1]; exact hz), fun q h1 h2 => by rw [e1, hk q (Nat.lt_of_lt_of_le h1 hS.1) (fun z => h2 (hA q z))]; exact hS.2.1 q h1 h2, fun q hq => by
      rcases List.mem_append.mp hq with h | h
      · exact hS.2.2 q h
      · exact hA _ (hL q h)⟩ T' rfl X'
  exact ⟨t2, stp t2 a1, b1⟩
/-- an instance method that changes -/
theorem m_V {C : String} (hx : p.tables.exec = Jvm.exec) (hb : c.code = cc) (hml : c.maxLocals = nL) (hown : s.vm.findClass own = some m.cls) (hg : ∀ w ∈ gw, w.before args s = true) (b0 : Nat) (As rest : List Value) (hM : Met l y (Cond.code y b n ret :: gw) rm Pc (mV A1 post) mc ms A1) (hC : kC y b n ret k) (hl : Cond.methodLink own idx y ∈ gw) (hin : Cond.instanceMethod y ∈ gw) (hsel : Cond.selects C y y ∈ gw) (hrcv : ∃ cell : Cell, H[b0]? = some cell ∧ cell.vm.isStatics = false ∧ s.vm.findClass C = some cell.cls) (hp : PreS s H Pc (.ref b0 :: As)) (hdg : decode cc pc = .ok (.invokevirtual idx, 3))
    (hrc : rm.cells = mc) (hrs : rm.slots = ms) (hR : rm.frames + 1 ≤ R.frames ∧ 8 + (n + 11) + rm.locals ≤ R.locals) (hn : As.length = k) (hsz : ls.size = nL) (hstk : st = As.reverse ++ .ref b0 :: rest) (hW : (rest.map fun v => v.category).sum ≤ 8) (hc : cells + mc ≤ R.cells ∧ slots + ms ≤ R.slots) (hS : va_S A H0 H locs) (hA : ∀ q, A1 q → A q)
    (kk : ∀ (v : Option Value) (H1 : Heap) (locs1 : List Loc), post v H1 → H.size ≤ H1.size → (∀ q : Nat, q < H.size → ¬ A1 q → H1[q]? = H[q]?) → va_S A H0 H1 locs1 → W p l e R s m args below meth c H1 locs1 (cells + mc) (slots + ms) Q (F0 m (pc + 3) ls (v.toList ++ rest))) : W p l e R s m args below meth c H locs cells slots Q (F0 m pc ls st) :=
  m_R (As := .ref b0 :: As) (va_runV (As := As) (rest := rest) (g := F0 m pc ls st) ⟨hx, hb, hml, hown, hg⟩ hM ⟨k_B hC hg hl hrc hrs hR, hg _ hin, hg _ hsel⟩ ⟨hp.1, hrcv, hp.2⟩ rfl hn hsz hstk (lv_room hW) hdg hc) hS hA kk
/-- a constructor -/
theorem m_I (hx : p.tables.exec = Jvm.exec) (hb : c.code = cc) (hml : c.maxLocals = nL) (hown : s.vm.findClass own = some m.cls) (hg : ∀ w ∈ gw, w.before args s = true) (b0 : Nat) (As rest : List Value) (hM : Met l y (Cond.code y b n none :: gw) rm Pc (mV A1 post) mc ms A1) (hC : kC y b n none k) (hl : Cond.methodLink own idx y ∈ gw) (hin : Cond.instanceMethod y ∈ gw) (hy : y.name = "<init>") (hp : PreS s H Pc (.ref b0 :: As)) (hdg : decode cc pc = .ok (.invokespecial idx, 3))
    (hrc : rm.cells = mc) (hrs : rm.slots = ms) (hR : rm.frames + 1 ≤ R.frames ∧ 8 + (n + 11) + rm.locals ≤ R.locals) (hn : As.length = k) (hsz : ls.size = nL) (hstk : st = As.reverse ++ .ref b0 :: rest) (hW : (rest.map fun v => v.category).sum ≤ 8) (hc : cells + mc ≤ R.cells ∧ slots + ms ≤ R.slots) (hS : va_S A H0 H locs) (hA : ∀ q, A1 q → A q)
    (kk : ∀ (v : Option Value) (H1 : Heap) (locs1 : List Loc), post v H1 → H.size ≤ H1.size → (∀ q : Nat, q < H.size → ¬ A1 q → H1[q]? = H[q]?) → va_S A H0 H1 locs1 → W p l e R s m args below meth c H1 locs1 (cells + mc) (slots + ms) Q (F0 m (pc + 3) ls (v.toList ++ rest))) : W p l e R s m args below meth c H locs cells slots Q (F0 m pc ls st) :=
  m_R (As := .ref b0 :: As) (va_runI (As := As) (rest := rest) (g := F0 m pc ls st) ⟨hx, hb, hml, hown, hg⟩ hM ⟨k_B hC hg hl hrc hrs hR, hy, hg _ hin⟩ hp rfl hn hsz hstk (lv_room hW) hdg hc) hS hA kk
/-- a static method that changes -/
theorem m_S (hx : p.tables.exec = Jvm.exec) (hb : c.code = cc) (hml : c.maxLocals = nL) (hown : s.vm.findClass own = some m.cls) (hg : ∀ w ∈ gw, w.before args s = true) (As rest : List Value) (hM : Met l y (Cond.code y b n ret :: gw) rm Pc (mV A1 post) mc ms A1) (hC : kC y b n ret k) (hl : Cond.methodLink own idx y ∈ gw) (hst : Cond.static y ∈ gw) (hp : PreS s H Pc As) (hdg : decode cc pc = .ok (.invokestatic idx, 3))
    (hrc : rm.cells = mc) (hrs : rm.slots = ms) (hR : rm.frames + 1 ≤ R.frames ∧ 8 + (n + 11) + rm.locals ≤ R.locals) (hn : As.length = k) (hsz : ls.size = nL) (hstk : st = As.reverse ++ rest) (hW : (rest.map fun v => v.category).sum ≤ 8) (hc : cells + mc ≤ R.cells ∧ slots + ms ≤ R.slots) (hS : va_S A H0 H locs) (hA : ∀ q, A1 q → A q)
    (kk : ∀ (v : Option Value) (H1 : Heap) (locs1 : List Loc), post v H1 → H.size ≤ H1.size → (∀ q : Nat, q < H.size → ¬ A1 q → H1[q]? = H[q]?) → va_S A H0 H1 locs1 → W p l e R s m args below meth c H1 locs1 (cells + mc) (slots + ms) Q (F0 m (pc + 3) ls (v.toList ++ rest))) : W p l e R s m args below meth c H locs cells slots Q (F0 m pc ls st) :=
  m_R (As := As) (va_runS (As := As) (rest := rest) (g := F0 m pc ls st) ⟨hx, hb, hml, hown, hg⟩ hM ⟨k_B hC hg hl hrc hrs hR, hg _ hst⟩ hp rfl hn hsz hstk (lv_room hW) hdg hc) hS hA kk
/-- Object's constructor -/
theorem o_I (hx : p.tables.exec = Jvm.exec) (hb : c.code = cc) (hml : c.maxLocals = nL) (hown : s.vm.findClass own = some m.cls) (hg : ∀ w ∈ gw, w.before args s = true) (hl : Cond.methodLink own idx objectInit ∈ gw) (hsz : ls.size = nL) (hdg : decode cc pc = .ok (.invokespecial idx, 3)) (hfr : 1 ≤ R.frames) (hlo : (rest.map fun v => v.category).sum + 12 ≤ R.locals)
    (kk : W p l e R s m args below meth c H locs cells slots Q (F0 m (pc + 3) ls rest)) : W p l e R s m args below meth c H locs cells slots Q (F0 m pc ls (.ref a :: rest)) :=
  W.objInit hx hb hown (hg _ hl) (hg _ w_21) (hg _ w_22) rfl (by rw [hml]; exact hsz) rfl hdg hfr (by show 2 * 0 + _ + 12 ≤ _; omega) kk
end BRow
end
section
/-! PURE: what both sides compute, as functions -/
def ush (x : Int64) (y : Int32) : Int64 := (x.toUInt64 >>> (y.toInt64.toUInt64 &&& Int64.toUInt64 63)).toInt64
def lsh (x : Int64) (y : Int32) : Int64 := x <<< (y.toInt64 &&& 63)
def lrm (x y : Int64) : Int64 := x - x / y * y
def irm (x y : Int32) : Int32 := x - x / y * y
/-- the number of a part -/
def p_mix (sd : Int64) (k i : Int32) : Int64 :=
  let z1 : Int64 := sd + ((1 + i.toInt64) + 64 * k.toInt64) * (-7046029254386353131)
  let z2 : Int64 := (z1 ^^^ ush z1 30) * (-4658895280553007687)
  let z3 : Int64 := (z2 ^^^ ush z2 27) * (-7723592293110705685)
  z3 ^^^ ush z3 31
def p_rest (z : Int64) (b : Int32) : Int32 := (lrm (2 * lrm (ush z 1) b.toInt64 + (z &&& 1)) b.toInt64).toInt32
def p_in (v lo hi : Int32) : Int32 := if lo ≤ v ∧ v ≤ hi then 1 else 0
theorem p_in_t {v lo hi : Int32} (h1 : ¬ v < lo) (h2 : ¬ hi < v) : 1 = p_in v lo hi := (if_pos ⟨Int32.not_lt.mp h1, Int32.not_lt.mp h2⟩).symm
theorem p_in_f1 {v lo hi : Int32} (h1 : v < lo) : 0 = p_in v lo hi := (if_neg (fun h => absurd h.1 (Int32.not_le.mpr h1))).symm
theorem p_in_f2 {v lo hi : Int32} (h2 : hi < v) : 0 = p_in v lo hi := (if_neg (fun h => absurd h.2 (Int32.not_le.mpr h2))).symm
theorem p_in_01 (v lo hi : Int32) : p_in v lo hi = 0 ∨ p_in v lo hi = 1 := by
  unfold p_in
  split
  · exact Or.inr rfl
  · exact Or.inl rfl
theorem p_in_1 {v lo hi : Int32} (h : ¬ p_in v lo hi = 0) : lo ≤ v ∧ v ≤ hi := by
  unfold p_in at h
  split at h
  · assumption
  · exact absurd rfl h
theorem p_in_0 {v lo hi : Int32} (h : p_in v lo hi = 0) : ¬ (lo ≤ v ∧ v ≤ hi) := by
  unfold p_in at h
  split at h
  · exact absurd h (by decide)
  · assumption
def p_sign (j : Nat) : Int32 := match j with
  | 0 => 31599
  | 1 => 11415
  | 2 => 29671
  | 3 => 29647
  | 4 => 23497
  | 5 => 31183
  | 6 => 31215
  | 7 => 29257
  | 8 => 31727
  | _ => 31695
def p_fact (z : Int64) (w : Int32) : Int32 := if w = 1 then p_rest z 100 else if w = 2 then p_rest (ush z 8) 1000 else if w = 3 then p_rest (ush z 24) 24 else p_rest (ush z 40) 2
/-- what a part says: its faults (0) or a fact -/
def p_pf (z : Int64) (f : Int32) (w : Nat) : Int32 := if w = 0 then f else p_fact z (nI w)
def p_gtb (a b : Int64) : Int32 := if (b ^^^ (-9223372036854775808)) < (a ^^^ (-9223372036854775808)) then 1 else 0
theorem p_gtb_01 (a b : Int64) : p_gtb a b = 0 ∨ p_gtb a b = 1 := by
  unfold p_gtb
  split
  · exact Or.inr rfl
  · exact Or.inl rfl
theorem p_max {g h : Nat} (hg : g < 2 ^ 31) (hh : h < 2 ^ 31) : (if nI g < nI h then nI h else nI g) = nI (max g h) := by
  by_cases q : g < h
  · rw [if_pos ((nI_ltI hg hh).mpr q), Nat.max_eq_right (Nat.le_of_lt q)]
  · rw [if_neg (fun z => q ((nI_ltI hg hh).mp z)), Nat.max_eq_left (Nat.le_of_not_lt q)]
end
section
/-! PURE 2: counting, bits, places of verdicts -/
theorem q_le {x y : Int32} {a b : Nat} (ex : x = nI a) (ey : y = nI b) (ha : a < 2 ^ 31) (hb : b < 2 ^ 31) : x ≤ y ↔ a ≤ b := by rw [ex, ey]; exact nI_leI ha hb
theorem q_lt {x y : Int32} {a b : Nat} (ex : x = nI a) (ey : y = nI b) (ha : a < 2 ^ 31) (hb : b < 2 ^ 31) : x < y ↔ a < b := by rw [ex, ey]; exact nI_ltI ha hb
theorem q_eq {x y : Int32} {a b : Nat} (ex : x = nI a) (ey : y = nI b) (ha : a < 2 ^ 31) (hb : b < 2 ^ 31) : x = y ↔ a = b := by rw [ex, ey]; exact nI_eq ha hb
theorem q_half {n : Nat} (h : n < 2 ^ 31) : nI n / 2 = nI (n / 2) := pk_div h (by decide) (by decide)
theorem q_sl : ∀ n, n < 32 → ((nI n &&& 31).toBitVec.smod 32).toNat = n := by decide +kernel
theorem q_bit {b k : Nat} (hb : b < 2 ^ 31) (hk : k < 31) : (nI b >>> (nI k &&& 31)) &&& 1 = nI (b / 2 ^ k % 2) := by
  rw [pk_shrN hb _ k (q_sl k (by omega)), pk_andN (Nat.lt_of_le_of_lt (Nat.div_le_self _ _) (by omega)) 1 (by decide)]
theorem q_one {k : Nat} (hk : k < 31) : (1 : Int32) <<< (nI k &&& 31) = nI (2 ^ k) := by
  have h : 2 ^ k < 2 ^ 31 := Nat.pow_lt_pow_right (by decide) hk
  have := pk_shlN (n := 1) (nI k &&& 31) k (q_sl k (by omega)) (by omega)
  rw [Nat.one_mul] at this
  exact this
/-- does part k come ahead of part i by its number -/
def p_befb (zf : Nat → Int64) (i k : Nat) : Bool := decide ((zf i ^^^ (-9223372036854775808)) < (zf k ^^^ (-9223372036854775808))) || (decide (zf k = zf i) && decide (i < k))
def p_cnt (zf : Nat → Int64) (i : Nat) : Nat → Nat
  | 0 => 0
  | k + 1 => p_cnt zf i k + (if p_befb zf i k then 1 else 0)
theorem p_cnt_le (zf : Nat → Int64) (i : Nat) : ∀ n, p_cnt zf i n ≤ n
  | 0 => Nat.le_refl _
  | n + 1 => by
    have := p_cnt_le zf i n
    simp only [p_cnt]
    split <;> omega
theorem p_cnt_y {zf : Nat → Int64} {i k : Nat} (h : p_befb zf i k = true) : p_cnt zf i (k + 1) = p_cnt zf i k + 1 := by simp [p_cnt, h]
theorem p_cnt_n {zf : Nat → Int64} {i k : Nat} (h : p_befb zf i k = false) : p_cnt zf i (k + 1) = p_cnt zf i k := by simp [p_cnt, h]
theorem p_bef_g {zf : Nat → Int64} {i k : Nat} (h : ¬ p_gtb (zf k) (zf i) = 0) : p_befb zf i k = true := by
  unfold p_gtb at h
  split at h
  · rename_i h1; simp [p_befb, h1]
  · exact absurd rfl h
theorem p_bef_e {zf : Nat → Int64} {i k : Nat} (h : zf k = zf i) (h2 : i < k) : p_befb zf i k = true := by simp [p_befb, h, h2]
theorem p_bef_n {zf : Nat → Int64} {i k : Nat} (h : p_gtb (zf k) (zf i) = 0) (h2 : ¬ zf k = zf i) : p_befb zf i k = false := by
  unfold p_gtb at h
  split at h
  · exact absurd h (by decide)
  · rename_i h1; simp [p_befb, h1, h2]
theorem p_bef_m {zf : Nat → Int64} {i k : Nat} (h : p_gtb (zf k) (zf i) = 0) (h2 : ¬ i < k) : p_befb zf i k = false := by
  unfold p_gtb at h
  split at h
  · exact absurd h (by decide)
  · rename_i h1; simp [p_befb, h1, h2]
def p_flt (sd : Int64) (kd : Int32) (n i : Nat) : Int32 := if kd = 3 ∧ p_cnt (fun k => p_mix sd kd (nI k)) i n < n / 2 then 1 else 0
theorem p_flt_01 (sd : Int64) (kd : Int32) (n i : Nat) : p_flt sd kd n i = 0 ∨ p_flt sd kd n i = 1 := by
  unfold p_flt
  split
  · exact Or.inr rfl
  · exact Or.inl rfl
/-- how many bits among the first k -/
def p_pop (b : Nat) : Nat → Nat
  | 0 => 0
  | k + 1 => p_pop b k + b / 2 ^ k % 2
theorem p_pop_le (b : Nat) : ∀ n, p_pop b n ≤ n
  | 0 => Nat.le_refl _
  | n + 1 => by
    have := p_pop_le b n
    have h2 : b / 2 ^ n % 2 < 2 := Nat.mod_lt _ (by decide)
    simp only [p_pop]
    omega
theorem p_pop_top {b n : Nat} (hb : b < 2 ^ n) : ∀ k, n ≤ k → p_pop b k = p_pop b n
  | 0, h => by rw [Nat.le_zero.mp h]
  | k + 1, h => by
    rcases Nat.lt_or_ge k n with q | q
    · rw [show n = k + 1 by omega]
    · have h2 : b / 2 ^ k = 0 := Nat.div_eq_of_lt (Nat.lt_of_lt_of_le hb (Nat.pow_le_pow_right (by decide) q))
      simp only [p_pop, h2, p_pop_top hb k q]
      omega
/-- the place of a set among the first n -/
def p_at (vb : Nat → Int32) (b : Int32) : Nat → Option Nat
  | 0 => none
  | k + 1 => if vb k = b then some k else p_at vb b k
theorem p_at_lt {vb : Nat → Int32} {b : Int32} : ∀ {n k : Nat}, p_at vb b n = some k → k < n ∧ vb k = b
  | 0, k, h => by simp [p_at] at h
  | n + 1, k, h => by
    unfold p_at at h
    split at h
    · rename_i h1
      cases h
      exact ⟨Nat.lt_succ_self _, h1⟩
    · have := p_at_lt h
      exact ⟨Nat.lt_succ_of_lt this.1, this.2⟩
theorem p_at_none {vb : Nat → Int32} {b : Int32} : ∀ {n : Nat}, (∀ j, j < n → ¬ vb j = b) → p_at vb b n = none
  | 0, _ => rfl
  | n + 1, h => by
    unfold p_at
    rw [if_neg (h n (Nat.lt_succ_self _))]
    exact p_at_none (fun j hj => h j (Nat.lt_succ_of_lt hj))
theorem p_at_some {vb : Nat → Int32} {b : Int32} {n k : Nat} (hd : ∀ i j, i < n → j < n → vb i = vb j → i = j) (hk : k < n) (h : vb k = b) : p_at vb b n = some k := by
  cases h1 : p_at vb b n with
  | some j =>
    have := p_at_lt h1
    rw [hd j k this.1 hk (this.2.trans h.symm)]
  | none =>
    exfalso
    revert h1
    clear hd
    induction n with
    | zero => omega
    | succ n ih =>
      unfold p_at
      split
      · simp
      · rename_i h2
        rcases Nat.lt_or_ge k n with q | q
        · exact ih q
        · rw [show k = n by omega] at h
          exact absurd h h2
theorem p_at_no {vb : Nat → Int32} {b : Int32} {n j : Nat} (h : p_at vb b n = none) (hj : j < n) : ¬ vb j = b := by
  induction n with
  | zero => omega
  | succ n ih =>
    unfold p_at at h
    split at h
    · cases h
    · rename_i h1
      rcases Nat.lt_or_ge j n with q | q
      · exact ih h q
      · rw [show j = n by omega]
        exact h1
def p_ix (o : Option Nat) : Int32 := match o with
  | none => -1
  | some k => nI k
theorem p_ix_no {o : Option Nat} (h : ∀ k, o = some k → k < 2 ^ 31) (h2 : p_ix o = -1) : o = none := by
  cases o with
  | none => rfl
  | some k =>
    have h3 : nI k = -1 := h2
    have := nI_pos (h k rfl)
    rw [h3] at this
    exact absurd (by decide) this
/-- whether the verdict stays for a set: 1 or 0 -/
def p_st (vb vt : Nat → Int32) (nv : Nat) (b : Int32) : Int32 := match p_at vb b nv with
  | none => 0
  | some k => vt k
theorem p_st_01 {vb vt : Nat → Int32} {nv : Nat} (h : ∀ i, i < nv → vt i = 0 ∨ vt i = 1) (b : Int32) : p_st vb vt nv b = 0 ∨ p_st vb vt nv b = 1 := by
  unfold p_st
  split
  · exact Or.inl rfl
  · rename_i k hk
    exact h k (p_at_lt hk).1
/-- the least part from k on (m looked at) without which the verdict stays -/
def p_go (st : Nat → Int32) (b : Nat) : Nat → Nat → Int32
  | 0, _ => -1
  | m + 1, k => if b / 2 ^ k % 2 = 1 ∧ ¬ b = 2 ^ k ∧ ¬ st (b - 2 ^ k) = 0 then nI k else p_go st b m (k + 1)
theorem q_bge {b k : Nat} (h : b / 2 ^ k % 2 = 1) : 2 ^ k ≤ b := by
  rcases Nat.lt_or_ge b (2 ^ k) with q | q
  · rw [Nat.div_eq_of_lt q] at h
    omega
  · exact q
end
section
/-! PURE 3: answers of the public methods; worlds of four cells -/
theorem dd_1 {A : Nat → Prop} {a : Nat} {e : va_E} (h : A a) : va_D A [(a, e)] := by
  refine ⟨fun i j p q hi hj _ => ?_, fun k q hk => ?_⟩
  · have h1 := (List.getElem?_eq_some_iff.mp hi).1
    have h2 := (List.getElem?_eq_some_iff.mp hj).1
    simp at h1 h2
    omega
  · have h1 := (List.getElem?_eq_some_iff.mp hk).1
    simp at h1
    subst h1
    cases hk
    exact h
theorem dd_c {A : Nat → Prop} {a : Nat} {e : va_E} {ws : va_W} (h : A a) (h2 : va_D A ws) (h3 : ∀ q ∈ ws.map (·.1), a ≠ q) : va_D A ((a, e) :: ws) := by
  refine va_D.app (w1 := [(a, e)]) (dd_1 h) h2 (fun i j p q hi hj => ?_)
  have h1 := (List.getElem?_eq_some_iff.mp hi).1
  simp at h1
  subst h1
  cases hi
  exact h3 q.1 (List.mem_map.mpr ⟨q, List.mem_of_getElem? hj, rfl⟩)
/-- the model's cells: what it may change, and that they are apart -/
def mA (g0 a1 a2 a3 : Nat) : Nat → Prop := fun q => q = g0 ∨ q = a1 ∨ q = a2 ∨ q = a3
def mj (g0 a1 a2 a3 : Nat) : Prop := g0 ≠ a1 ∧ g0 ≠ a2 ∧ g0 ≠ a3 ∧ a1 ≠ a2 ∧ a1 ≠ a3 ∧ a2 ≠ a3
theorem mo_D {g0 a1 a2 a3 : Nat} (h : mj g0 a1 a2 a3) (x y z w : va_E) : va_D (mA g0 a1 a2 a3) [(g0, x), (a1, y), (a2, z), (a3, w)] := by
  obtain ⟨h1, h2, h3, h4, h5, h6⟩ := h
  refine dd_c (Or.inl rfl) (dd_c (Or.inr (Or.inl rfl)) (dd_c (Or.inr (Or.inr (Or.inl rfl))) (dd_1 (Or.inr (Or.inr (Or.inr rfl)))) ?_) ?_) ?_
  · intro q hq; simp at hq; subst hq; exact h6
  · intro q hq; simp at hq; rcases hq with rfl | rfl
    · exact h4
    · exact h5
  · intro q hq; simp at hq; rcases hq with rfl | rfl | rfl
    · exact h1
    · exact h2
    · exact h3
def p_part (db : Int64) (kd : Int32) (n : Nat) (i w : Int32) : Int32 := if p_in i 0 (nI n - 1) = 0 then -1 else if p_in w 0 4 = 0 then -12 else p_pf (p_mix db kd i) (p_flt db kd n i.toNatClampNeg) w.toNatClampNeg
/-- is the point inked -/
def p_ink (db : Int64) (sh x y : Int32) : Int32 := (p_sign (irm (p_fact (p_mix db 1 sh) 1) 10).toNatClampNeg >>> (((14 - 3 * (y / 4)) - x / 4) &&& 31)) &&& 1
def p_point (db : Int64) (kd : Int32) (n : Nat) (sh x y : Int32) : Int32 := if ¬ kd = 1 then -1 else if p_in sh 0 (nI n - 1) = 0 then -1 else if p_in x 0 11 = 0 then -1 else if p_in y 0 19 = 0 then -1 else ((if p_ink db sh x y = 1 then 40 else 200) + p_rest (p_mix db (5 + sh) (12 * y + x)) 33) - 16
/-- the i-th that is left, looked for from k on (m places) -/
def p_ls (b : Nat) (i : Int32) : Nat → Nat → Int32
  | 0, _ => -1
  | m + 1, k => if b / 2 ^ k % 2 = 1 ∧ nI (p_pop b k) = i then nI k else p_ls b i m (k + 1)
def p_faultless (db : Int64) (kd : Int32) (n : Nat) (i : Int32) : Int32 := if ¬ kd = 3 then 0 else if p_in i 0 (nI n - 1) = 0 then 0 else if p_flt db kd n i.toNatClampNeg = 0 then 1 else 0
/-- do two seeds draw alike: part i, facts -/
def p_alike (s1 s2 : Int64) (kd : Int32) (n i : Nat) : Prop := p_flt s1 kd n i = p_flt s2 kd n i ∧ ∀ w, 1 ≤ w → w < 5 → p_fact (p_mix s1 kd (nI i)) (nI w) = p_fact (p_mix s2 kd (nI i)) (nI w)
/-! numbers without sign -/
theorem u_tb (x : Int64) (y : Int32) : (ush x y).toBitVec.toNat = x.toBitVec.toNat / 2 ^ ((y.toInt64.toUInt64 &&& Int64.toUInt64 63).toNat % 64) := by
  unfold ush
  rw [show ((x.toUInt64 >>> (y.toInt64.toUInt64 &&& Int64.toUInt64 63)).toInt64).toBitVec.toNat = (x.toUInt64 >>> (y.toInt64.toUInt64 &&& Int64.toUInt64 63)).toNat from rfl, UInt64.toNat_shiftRight, Nat.shiftRight_eq_div_pow]
  rfl
theorem u_half (x : Int64) : ∃ h : Nat, h < 2 ^ 63 ∧ ush x 1 = lN h := by
  refine ⟨x.toBitVec.toNat / 2, ?_, ?_⟩
  · have := x.toBitVec.isLt
    omega
  · apply Int64.toBitVec_inj.mp
    apply BitVec.eq_of_toNat_eq
    rw [u_tb, show ((1 : Int32).toInt64.toUInt64 &&& Int64.toUInt64 63).toNat % 64 = 1 by decide]
    show _ = (BitVec.ofNat 64 _).toNat
    rw [BitVec.toNat_ofNat, Nat.mod_eq_of_lt]
    have := x.toBitVec.isLt
    omega
theorem u_odd (x : Int64) : ∃ b : Nat, b < 2 ∧ x &&& 1 = lN b := by
  refine ⟨x.toBitVec.toNat % 2, Nat.mod_lt _ (by decide), ?_⟩
  apply Int64.toBitVec_inj.mp
  apply BitVec.eq_of_toNat_eq
  show (x.toBitVec &&& 1#64).toNat = (BitVec.ofNat 64 _).toNat
  rw [BitVec.toNat_and, show (1#64 : BitVec 64).toNat = 2 ^ 1 - 1 by decide, Nat.and_two_pow_sub_one_eq_mod, BitVec.toNat_ofNat]
  omega
theorem p_rest_lt (z : Int64) {b : Nat} (h0 : 0 < b) (hb : b < 2 ^ 20) : ∃ j : Nat, j < b ∧ p_rest z (nI b) = nI j := by
  obtain ⟨h, hh, e1⟩ := u_half z
  obtain ⟨o, ho, e2⟩ := u_odd z
  have eb : (nI b).toInt64 = lN b := nI_l (by omega)
  have hm := Nat.mod_lt h h0
  refine ⟨(2 * (h % b) + o) % b, Nat.mod_lt _ h0, ?_⟩
  unfold p_rest lrm
  rw [e1, e2, eb, pk_lRem hh h0 (by omega)]
  rw [show (2 : Int64) = lN 2 from rfl, lN_mul, lN_add, pk_lRem (by omega) h0 (by omega), lN_i]
theorem p_rng {n : Nat} (hn : n < 2 ^ 20) {i : Int32} (h0 : 0 ≤ i) (h1 : i ≤ nI n - 1) : ∃ j : Nat, j < n ∧ i = nI j := by
  obtain ⟨j, hj, rfl⟩ := nI_of (Int32.not_lt.mpr h0)
  refine ⟨j, ?_, rfl⟩
  cases n with
  | zero =>
    have h2 : (nI j).toInt ≤ (nI 0 - 1).toInt := Int32.le_iff_toInt_le.mp h1
    rw [nI_toInt hj, show (nI 0 - 1).toInt = -1 by decide] at h2
    omega
  | succ n =>
    rw [nI_pred] at h1
    have := (nI_leI hj (by omega)).mp h1
    omega
theorem p_rng4 {w : Int32} (h : 0 ≤ w ∧ w ≤ 4) : ∃ q : Nat, q < 5 ∧ w = nI q := by
  obtain ⟨q, hq, rfl⟩ := nI_of (Int32.not_lt.mpr h.1)
  have := (nI_leI hq (show 4 < 2 ^ 31 by decide)).mp h.2
  exact ⟨q, by omega, rfl⟩
end
section
/-! PURE 4: truth as 1 and 0; the shortening -/
noncomputable def p_tf (P : Prop) : Int32 := @ite _ P (Classical.propDecidable P) 1 0
theorem p_tf_t {P : Prop} (h : P) : p_tf P = 1 := by unfold p_tf; rw [if_pos h]
theorem p_tf_f {P : Prop} (h : ¬ P) : p_tf P = 0 := by unfold p_tf; rw [if_neg h]
theorem p_tf_01 (P : Prop) : p_tf P = 0 ∨ p_tf P = 1 := by
  by_cases h : P
  · exact Or.inr (p_tf_t h)
  · exact Or.inl (p_tf_f h)
theorem p_tf_y {P : Prop} (h : ¬ p_tf P = 0) : P := Classical.byContradiction fun q => h (p_tf_f q)
theorem p_tf_n {P : Prop} (h : p_tf P = 0) : ¬ P := fun q => by rw [p_tf_t q] at h; exact absurd h (by decide)
theorem p_tf_c {P Q : Prop} (h : P ↔ Q) : p_tf P = p_tf Q := by rw [propext h]
/-- one look at part i -/
def p_step (st : Nat → Int32) (b i : Nat) : Nat := if b / 2 ^ i % 2 = 1 ∧ ¬ b = 2 ^ i ∧ ¬ st (b - 2 ^ i) = 0 then b - 2 ^ i else b
/-- the first k parts looked at once -/
def p_pas (st : Nat → Int32) (b : Nat) : Nat → Nat
  | 0 => b
  | k + 1 => p_step st (p_pas st b k) k
def p_it (st : Nat → Int32) (n b : Nat) : Nat → Nat
  | 0 => b
  | k + 1 => p_pas st (p_it st n b k) n
def p_re (st : Nat → Int32) (n b r : Nat) : Prop := (∃ k, r = p_it st n b k) ∧ p_pas st r n = r
noncomputable def p_fix (st : Nat → Int32) (n b : Nat) : Nat := @dite _ (∃ r, p_re st n b r) (Classical.propDecidable _) (fun h => Classical.choose h) (fun _ => b)
theorem p_it_stay {st : Nat → Int32} {n b k : Nat} (h : p_pas st (p_it st n b k) n = p_it st n b k) : ∀ m, p_it st n b (k + m) = p_it st n b k
  | 0 => rfl
  | m + 1 => by
    show p_pas st (p_it st n b (k + m)) n = _
    rw [p_it_stay h m]
    exact h
theorem p_re_one {st : Nat → Int32} {n b r1 r2 : Nat} (h1 : p_re st n b r1) (h2 : p_re st n b r2) : r1 = r2 := by
  obtain ⟨⟨k1, e1⟩, f1⟩ := h1
  obtain ⟨⟨k2, e2⟩, f2⟩ := h2
  rw [e1] at f1
  rw [e2] at f2
  rcases Nat.le_total k1 k2 with q | q
  · rw [e1, e2, ← p_it_stay f1 (k2 - k1), show k1 + (k2 - k1) = k2 by omega]
  · rw [e1, e2, ← p_it_stay f2 (k1 - k2), show k2 + (k1 - k2) = k1 by omega]
theorem p_fix_eq {st : Nat → Int32} {n b r : Nat} (h : p_re st n b r) : p_fix st n b = r := by
  have h0 : ∃ r, p_re st n b r := ⟨r, h⟩
  unfold p_fix
  rw [dif_pos h0]
  exact p_re_one (Classical.choose_spec h0) h
theorem p_step_le (st : Nat → Int32) (b i : Nat) : p_step st b i ≤ b := by
  unfold p_step
  split
  · exact Nat.sub_le _ _
  · exact Nat.le_refl _
theorem p_pas_le (st : Nat → Int32) (b : Nat) : ∀ k, p_pas st b k ≤ b
  | 0 => Nat.le_refl _
  | k + 1 => Nat.le_trans (p_step_le _ _ _) (p_pas_le st b k)
theorem p_it_le (st : Nat → Int32) (n b : Nat) : ∀ k, p_it st n b k ≤ b
  | 0 => Nat.le_refl _
  | k + 1 => Nat.le_trans (p_pas_le _ _ _) (p_it_le st n b k)
theorem p_pas_same {st : Nat → Int32} {b0 fr : Nat} : ∀ t, (∀ i, fr ≤ i → i < fr + t → p_step st (p_pas st b0 fr) i = p_pas st b0 fr) → p_pas st b0 (fr + t) = p_pas st b0 fr
  | 0, _ => rfl
  | t + 1, h => by
    show p_step st (p_pas st b0 (fr + t)) (fr + t) = _
    rw [p_pas_same t (fun i h1 h2 => h i h1 (by omega))]
    exact h (fr + t) (by omega) (by omega)
/-- what looking from k on finds -/
theorem p_go_is (st : Nat → Int32) (b : Nat) : ∀ m k, (p_go st b m k = -1 ∧ ∀ i, k ≤ i → i < k + m → p_step st b i = b) ∨ ∃ j, k ≤ j ∧ j < k + m ∧ p_go st b m k = nI j ∧ (∀ i, k ≤ i → i < j → p_step st b i = b) ∧ b / 2 ^ j % 2 = 1 ∧ ¬ b = 2 ^ j ∧ ¬ st (b - 2 ^ j) = 0
  | 0, k => Or.inl ⟨rfl, fun i h1 h2 => by omega⟩
  | m + 1, k => by
    by_cases h : b / 2 ^ k % 2 = 1 ∧ ¬ b = 2 ^ k ∧ ¬ st (b - 2 ^ k) = 0
    · exact Or.inr ⟨k, Nat.le_refl _, by omega, by rw [p_go, if_pos h], fun i h1 h2 => by omega, h⟩
    · have hk : p_step st b k = b := by rw [p_step, if_neg h]
      have hc : ∀ j, (∀ i, k + 1 ≤ i → i < j → p_step st b i = b) → ∀ i, k ≤ i → i < j → p_step st b i = b := fun j h1 i h2 h3 => by
        rcases Nat.lt_or_ge k i with q | q
        · exact h1 i q h3
        · rw [show i = k by omega]; exact hk
      rcases p_go_is st b m (k + 1) with ⟨h1, h2⟩ | ⟨j, h1, h2, h3, h4, h5⟩
      · exact Or.inl ⟨by rw [p_go, if_neg h]; exact h1, fun i q1 q2 => hc (k + 1 + m) (fun i q1 q2 => h2 i q1 q2) i q1 (by omega)⟩
      · exact Or.inr ⟨j, by omega, by omega, by rw [p_go, if_neg h]; exact h3, hc j h4, h5⟩
theorem p_pas_one {st : Nat → Int32} {b : Nat} : ∀ {n : Nat}, p_pas st b n = b → ∀ i, i < n → p_step st b i = b
  | 0, _, i, hi => by omega
  | n + 1, h, i, hi => by
    have h1 : p_pas st b n = b := by
      have q1 := p_pas_le st b n
      have q2 : p_step st (p_pas st b n) n = b := h
      have q3 := p_step_le st (p_pas st b n) n
      omega
    rcases Nat.lt_or_ge i n with q | q
    · exact p_pas_one h1 i q
    · rw [show i = n by omega]
      have q2 : p_step st (p_pas st b n) n = b := h
      rw [h1] at q2
      exact q2
theorem p_pas_all {st : Nat → Int32} {b : Nat} : ∀ {n : Nat}, (∀ i, i < n → p_step st b i = b) → p_pas st b n = b
  | 0, _ => rfl
  | n + 1, h => by
    show p_step st (p_pas st b n) n = b
    rw [p_pas_all (fun i hi => h i (by omega))]
    exact h n (by omega)
/-- what is left: of all of n parts -/
noncomputable def p_sh (st : Nat → Int32) (n : Nat) : Nat := if st (2 ^ n - 1) = 0 then 2 ^ n - 1 else p_fix st n (2 ^ n - 1)
def p_min (st : Nat → Int32) (n b : Nat) : Int32 := if n = 0 then 0 else if st b = 0 then 0 else if p_pas st b n = b then 1 else 0
theorem p_min_go {st : Nat → Int32} {n b : Nat} (hn : n < 2 ^ 20) : p_go st b n 0 = -1 ↔ p_pas st b n = b := by
  rcases p_go_is st b n 0 with ⟨h1, h2⟩ | ⟨j, h1, h2, h3, h4, h5, h6, h7⟩
  · exact ⟨fun _ => p_pas_all (fun i hi => h2 i (Nat.zero_le _) (by omega)), fun _ => h1⟩
  · constructor
    · intro h
      rw [h3] at h
      have := nI_pos (show j < 2 ^ 31 by omega)
      rw [h] at this
      exact absurd (by decide) this
    · intro h
      have h8 := p_pas_one h j (by omega)
      rw [p_step, if_pos ⟨h5, h6, h7⟩] at h8
      have := q_bge h5
      have := Nat.two_pow_pos j
      omega
theorem p_ne1 {j : Nat} (h : j < 2 ^ 31) : ¬ nI j = -1 := fun e => by
  have := nI_pos h
  rw [e] at this
  exact absurd (by decide) this
theorem p_nar {x : Int32} (h : x = 0 ∨ x = 1) : vp_nar .boolean x = x := by rcases h with rfl | rfl <;> rfl
end
section
/-! PICTURES: lists, drawings, the drawer -/
/-- an object that a list may hold -/
def el_ok (D : va_G) (H : Heap) (y : Nat) : Prop := ∃ (ci : Nat) (fs : List Value), (ci = 2 ∨ ci = 3) ∧ ob D ci y fs H
theorem el_any {D : va_G} {s : State} {H : Heap} {y : Nat} (hk : kn D s) (h : el_ok D H y) : va_Any "java/lang/Object" s H y := by
  obtain ⟨ci, fs, hci, ho⟩ := h
  rcases hci with rfl | rfl
  · refine va_rAny (q0 := 0) hk.1 (p_1 ho) rfl rfl (fun comp c0 h1 h2 => ?_)
    obtain ⟨c1, t1, f1, f2, f3⟩ := Cond.castable_spec (hk.n 12 rfl #[])
    cases h2.symm.trans f1
    cases (show s.vm.findClass R_OJ = some comp from h1).symm.trans f2
    exact f3
  · refine va_rAny (q0 := 0) hk.1 (p_1 ho) rfl rfl (fun comp c0 h1 h2 => ?_)
    obtain ⟨c1, t1, f1, f2, f3⟩ := Cond.castable_spec (hk.n 13 rfl #[])
    cases h2.symm.trans f1
    cases (show s.vm.findClass R_OJ = some comp from h1).symm.trans f2
    exact f3
theorem el_kd {D : va_G} {H : Heap} {y : Nat} (h : el_ok D H y) : kd D H y 2 ∨ kd D H y 3 := by
  obtain ⟨ci, fs, hci, ho⟩ := h
  rcases hci with rfl | rfl
  · exact Or.inl (kd_ob ho)
  · exact Or.inr (kd_ob ho)
theorem el_ne {D : va_G} {s : State} {H : Heap} {y b j : Nat} (hk : kn D s) (h : el_ok D H y) (h2 : kd D H b j) (hj : j < 9) (h3 : j ≠ 2) (h4 : j ≠ 3) : y ≠ b := by
  rcases el_kd h with h1 | h1
  · exact kd_ne hk h1 h2 (by decide) hj (Ne.symm h3)
  · exact kd_ne hk h1 h2 (by decide) hj (Ne.symm h4)
theorem el_lt {D : va_G} {H : Heap} {y : Nat} (h : el_ok D H y) : y < H.size := by
  rcases el_kd h with h1 | h1 <;> exact kd_lt h1
theorem el_kept {D : va_G} {H H1 : Heap} {y : Nat} (h : el_ok D H y) (e : H1[y]? = H[y]?) : el_ok D H1 y := by
  obtain ⟨ci, fs, hci, ho⟩ := h
  exact ⟨ci, fs, hci, ho.kept e⟩
/-- a list at a, its array at arr, n objects el -/
def al (D : va_G) (t0 a arr n : Nat) (el : Nat → Nat) (H : Heap) : Prop := ∃ mc : Int32, ob D 4 a [.ref arr, .int (nI n), .int mc] H ∧ ((arr = t0 ∧ n = 0) ∨ (¬ arr = t0 ∧ ∃ (cap : Nat) (f : Nat → Option Nat), aq D arr cap f H ∧ n ≤ cap ∧ 1 ≤ cap ∧ cap ≤ 150 ∧ ∀ i, i < n → f i = some (el i)))
/-- what adding may change -/
def alA (a arr t0 sz : Nat) : Nat → Prop := fun q => q = a ∨ (q = arr ∧ ¬ arr = t0) ∨ sz ≤ q
def clA (a arr t0 : Nat) : Nat → Prop := fun q => q = a ∨ (q = arr ∧ ¬ arr = t0)
theorem al_kept {D : va_G} {t0 a arr n : Nat} {el : Nat → Nat} {H H1 : Heap} (h : al D t0 a arr n el H) (e1 : H1[a]? = H[a]?) (e2 : ¬ arr = t0 → H1[arr]? = H[arr]?) : al D t0 a arr n el H1 := by
  obtain ⟨mc, h1, h2⟩ := h
  refine ⟨mc, h1.kept e1, ?_⟩
  rcases h2 with h2 | ⟨h3, cap, f, h4, h5⟩
  · exact Or.inl h2
  · exact Or.inr ⟨h3, cap, f, va_at.kept h4 (e2 h3), h5⟩
theorem zz_lt {t0 : Nat} {A : Nat → Prop} {U : State} {H : Heap} (h : zz t0 A U H) : t0 < H.size := by
  obtain ⟨-, cell, h1, -⟩ := h
  exact (Array.getElem?_eq_some_iff.mp h1).1
theorem ob_lt {D : va_G} {ci a : Nat} {fs : List Value} {H : Heap} (h : ob D ci a fs H) : a < H.size := kd_lt (kd_ob h)
/-- a new array of objects has the class that is known -/
theorem aq_cls {D : va_G} {s : State} {cA : ClassId} {tys : List (ClassId × FieldType)} {k : Nat} (hk : kn D s) (h : va_K D classes tys s) (hj : tys[k]? = some (cA, .object "java/lang/Object")) : D.1 6 = cA := by
  obtain ⟨_, _, _, _, _, h1⟩ := (h.2 k _ hj).2
  obtain ⟨_, _, _, _, _, h2⟩ := (hk.1.2 0 _ rfl).2
  exact Option.some.inj (h2.symm.trans h1)
theorem aq_recv {D : va_G} {s : State} {H : Heap} {a n : Nat} {f : Nat → Option Nat} (hk : kn D s) (h : aq D a n f H) : ∃ cell : Cell, H[a]? = some cell ∧ cell.vm.isStatics = false ∧ s.vm.findClass "[Ljava/lang/Object;" = some cell.cls := ⟨_, h, rfl, va_nmO (hk.1.2 0 _ rfl).2 rfl⟩
def cM (D : va_G) (mi : Nat) (av : List Value) (Pic : Heap → Prop) : Array Value → State → Prop := va_Pc av (fun U => kn D U ∧ va_Mi "[Ljava/lang/Object;" mi U ∧ Pic U.heap)
theorem pre_M {D : va_G} {s : State} {mi : Nat} {H : Heap} {Pic : Heap → Prop} {av : List Value} (hk : kn D s) (hz : va_Mi "[Ljava/lang/Object;" mi s) (hp : Pic H) : PreS s H (cM D mi av Pic) av :=
  ⟨fun a U g mk q => ⟨q.1, kn.warm (s := U) (U := U.calling g mk a) (State.WarmedH.refl U) q.2.1, va_Mi.moved (u := U) (U := U.calling g mk a) (Vm.Alike.refl U.vm) q.2.2.1, q.2.2.2⟩, fun U hU hW => ⟨rfl, hk.warm hW, va_Mi.moved hW.alike hz, by rw [hU]; exact hp⟩⟩
end
section
/-! PICTURES 2: drawings, verdicts, the drawer -/
/-- a drawing at d: its list L (array arr) of n parts el, with their numbers zf and faults ff -/
def dw (D : va_G) (t0 d L arr n : Nat) (el : Nat → Nat) (zf : Nat → Int64) (ff : Nat → Int32) (sd : Int64) (kd : Int32) (H : Heap) : Prop := ob D 1 d [.long sd, .int kd, .ref L] H ∧ al D t0 L arr n el H ∧ ∀ i, i < n → ob D 2 (el i) [.long (zf i), .int (ff i)] H
/-- a finished drawing, its cells in R -/
def drw (D : va_G) (t0 : Nat) (R : Nat → Prop) (d : Nat) (sd : Int64) (kd : Int32) (n : Nat) (H : Heap) : Prop := ∃ (L arr : Nat) (el : Nat → Nat), dw D t0 d L arr n el (fun i => p_mix sd kd (nI i)) (fun i => p_flt sd kd n i) sd kd H ∧ R L ∧ ¬ arr = t0 ∧ R arr ∧ ∀ i, i < n → R (el i)
theorem drw_kept {D : va_G} {t0 : Nat} {R : Nat → Prop} {d : Nat} {sd : Int64} {kd : Int32} {n : Nat} {H H1 : Heap} (h : drw D t0 R d sd kd n H) (e0 : H1[d]? = H[d]?) (e : ∀ q, q < H.size → R q → H1[q]? = H[q]?) : drw D t0 R d sd kd n H1 := by
  obtain ⟨L, arr, el, ⟨h1, h2, h3⟩, h4, h5, h6, h7⟩ := h
  refine ⟨L, arr, el, ⟨va_at.kept h1 e0, ?_, fun i hi => va_at.kept (h3 i hi) (e _ (ob_lt (h3 i hi)) (h7 i hi))⟩, h4, h5, h6, h7⟩
  obtain ⟨mc, g1, g2⟩ := h2
  refine al_kept ⟨mc, g1, g2⟩ (e _ (ob_lt g1) h4) (fun _ => ?_)
  rcases g2 with g2 | ⟨-, cap, f, g3, -⟩
  · exact absurd g2.1 h5
  · exact e _ (kd_lt (kd_aq g3)) h6
theorem drw_mono {D : va_G} {t0 : Nat} {R R2 : Nat → Prop} {d : Nat} {sd : Int64} {kd : Int32} {n : Nat} {H : Heap} (h : drw D t0 R d sd kd n H) (hR : ∀ q, q < H.size → R q → R2 q) : drw D t0 R2 d sd kd n H := by
  obtain ⟨L, arr, el, ⟨h1, h2, h3⟩, h4, h5, h6, h7⟩ := h
  obtain ⟨mc, g1, g2⟩ := h2
  have ha : arr < H.size := by
    rcases g2 with g2 | ⟨-, cap, f, g3, -⟩
    · exact absurd g2.1 h5
    · exact kd_lt (kd_aq g3)
  exact ⟨L, arr, el, ⟨h1, ⟨mc, g1, g2⟩, h3⟩, hR _ (ob_lt g1) h4, h5, hR _ ha h6, fun i hi => hR _ (ob_lt (h3 i hi)) (h7 i hi)⟩
theorem p_and1 (P : Prop) : p_tf P &&& 1 = p_tf P := by rcases p_tf_01 P with h | h <;> rw [h] <;> rfl
theorem p_and0 (P : Prop) : p_tf P &&& 0 = 0 := by rcases p_tf_01 P with h | h <;> rw [h] <;> rfl
/-- while a drawing is being made: q parts stand -/
def di (D : va_G) (t0 sz d : Nat) (sd : Int64) (kd : Int32) (L arr q : Nat) (el : Nat → Nat) (H : Heap) : Prop := ob D 1 d [.long sd, .int kd, .ref L] H ∧ sz ≤ L ∧ al D t0 L arr q el H ∧ (¬ arr = t0 → sz ≤ arr) ∧ (∀ i, i < q → ob D 2 (el i) [.long (p_mix sd kd (nI i)), .int 0] H ∧ sz ≤ el i) ∧ ∀ i j, i < q → j < q → el i = el j → i = j
theorem di_kept {D : va_G} {t0 sz d : Nat} {sd : Int64} {kd : Int32} {L arr q : Nat} {el : Nat → Nat} {H H1 : Heap} (h : di D t0 sz d sd kd L arr q el H) (e : ∀ x, x < H.size → H1[x]? = H[x]?) : di D t0 sz d sd kd L arr q el H1 := by
  obtain ⟨h1, h2, h3, h4, h5, h6⟩ := h
  obtain ⟨mc, g1, g2⟩ := h3
  refine ⟨va_at.kept h1 (e _ (ob_lt h1)), h2, al_kept ⟨mc, g1, g2⟩ (e _ (ob_lt g1)) (fun hne => ?_), h4, fun i hi => ⟨va_at.kept (h5 i hi).1 (e _ (ob_lt (h5 i hi).1)), (h5 i hi).2⟩, h6⟩
  rcases g2 with g2 | ⟨-, cap, f, g3, -⟩
  · exact absurd g2.1 hne
  · exact e _ (kd_lt (kd_aq g3))
theorem al_kd {D : va_G} {t0 a arr n : Nat} {el : Nat → Nat} {H : Heap} (h : al D t0 a arr n el H) : kd D H a 4 ∧ (¬ arr = t0 → kd D H arr 6) := by
  obtain ⟨mc, g1, g2⟩ := h
  refine ⟨kd_ob g1, fun hne => ?_⟩
  rcases g2 with g2 | ⟨-, cap, f, g3, -⟩
  · exact absurd g2.1 hne
  · exact kd_aq g3
/-- a cell of another class is none of a list's cells -/
theorem al_out {D : va_G} {s : State} {t0 a arr n : Nat} {el : Nat → Nat} {H : Heap} {y i sz : Nat} (hk : kn D s) (h : al D t0 a arr n el H) (hy : kd D H y i) (hi : i < 9) (h4 : i ≠ 4) (h6 : i ≠ 6) (hsz : H.size ≤ sz) : ¬ alA a arr t0 sz y := by
  intro h1
  rcases h1 with h1 | h1 | h1
  · exact kd_ne hk hy (al_kd h).1 hi (by decide) h4 h1
  · exact kd_ne hk hy ((al_kd h).2 h1.2) hi (by decide) h6 h1.1
  · have := kd_lt hy
    omega
end
section
/-! PURE 5: a bit taken away; small laws of the answers -/
theorem q_sh : ∀ l, l < 32 → ((1 : Int32) <<< (nI l &&& 31)).toBitVec = BitVec.twoPow 32 l := by decide +kernel
theorem q_tb {c k : Nat} (h : c / 2 ^ k % 2 = 0) : BitVec.ofNat 32 c &&& BitVec.twoPow 32 k = 0#32 := by
  rw [BitVec.and_twoPow, if_neg]
  rw [BitVec.getLsbD_ofNat, Nat.testBit_eq_decide_div_mod_eq, h]
  simp
theorem q_nc (C M : BitVec 32) (h : C &&& M = 0#32) : C &&& ~~~M = C := by
  apply BitVec.eq_of_getLsbD_eq
  intro i hi
  have h1 : (C &&& M).getLsbD i = false := by rw [h]; simp
  rw [BitVec.getLsbD_and] at h1
  rw [BitVec.getLsbD_and, BitVec.getLsbD_not]
  cases hC : C.getLsbD i <;> cases hM : M.getLsbD i <;> simp_all
theorem q_nc2 (C M : BitVec 32) (h : C &&& M = 0#32) : (C ||| M) &&& ~~~M = C := by
  apply BitVec.eq_of_getLsbD_eq
  intro i hi
  have h1 : (C &&& M).getLsbD i = false := by rw [h]; simp
  rw [BitVec.getLsbD_and] at h1
  rw [BitVec.getLsbD_and, BitVec.getLsbD_not, BitVec.getLsbD_or]
  cases hC : C.getLsbD i <;> cases hM : M.getLsbD i <;> simp_all
theorem q_clr {b k : Nat} (hb : b < 2 ^ 31) (hk : k < 31) : nI b &&& (((1 : Int32) <<< (nI k &&& 31)) ^^^ (-1)) = nI (if b / 2 ^ k % 2 = 1 then b - 2 ^ k else b) := by
  apply Int32.toBitVec_inj.mp
  have hm : (((1 : Int32) <<< (nI k &&& 31)) ^^^ (-1)).toBitVec = ~~~(BitVec.twoPow 32 k) := by
    rw [Int32.toBitVec_xor, q_sh k (by omega), show (-1 : Int32).toBitVec = BitVec.allOnes 32 by decide, BitVec.xor_allOnes]
  rw [Int32.toBitVec_and, hm]
  show BitVec.ofNat 32 b &&& _ = BitVec.ofNat 32 _
  split
  · rename_i h
    have hge := q_bge h
    have hp := Nat.two_pow_pos k
    have hc : (b - 2 ^ k) / 2 ^ k % 2 = 0 := by
      have := Nat.div_eq_sub_div hp hge
      omega
    have e : BitVec.ofNat 32 b = BitVec.ofNat 32 (b - 2 ^ k) ||| BitVec.twoPow 32 k := by
      rw [← BitVec.add_eq_or_of_and_eq_zero _ _ (q_tb hc)]
      apply BitVec.eq_of_toNat_eq
      rw [BitVec.toNat_add, BitVec.toNat_ofNat, BitVec.toNat_ofNat, BitVec.toNat_twoPow, Nat.mod_eq_of_lt (show b < 2 ^ 32 by omega), Nat.mod_eq_of_lt (show b - 2 ^ k < 2 ^ 32 by omega), Nat.mod_eq_of_lt (show 2 ^ k < 2 ^ 32 by omega), Nat.mod_eq_of_lt (by omega)]
      omega
    rw [e]
    exact q_nc2 _ _ (q_tb hc)
  · rename_i h
    exact q_nc _ _ (q_tb (by omega))
theorem p_point_no {db : Int64} {kd : Int32} {n : Nat} {sh x y : Int32} (h : p_in sh 0 (nI n - 1) = 0 ∨ p_in x 0 11 = 0 ∨ p_in y 0 19 = 0) : p_point db kd n sh x y = -1 := by
  unfold p_point
  by_cases h1 : kd = 1
  · rw [if_neg (fun q => q h1)]
    by_cases h2 : p_in sh 0 (nI n - 1) = 0
    · rw [if_pos h2]
    · rw [if_neg h2]
      by_cases h3 : p_in x 0 11 = 0
      · rw [if_pos h3]
      · rw [if_neg h3, if_pos ((h.resolve_left h2).resolve_left h3)]
  · rw [if_pos h1]
theorem p_in_n0 (i : Int32) : p_in i 0 (nI 0 - 1) = 0 := by
  rcases p_in_01 i 0 (nI 0 - 1) with h | h
  · exact h
  · exfalso
    have := p_in_1 (v := i) (lo := 0) (hi := nI 0 - 1) (by rw [h]; decide)
    obtain ⟨j, hj, -⟩ := p_rng (n := 0) (by decide) this.1 this.2
    omega
theorem p_ls_no {b : Nat} {i : Int32} : ∀ (m k : Nat), (∀ q, k ≤ q → q < k + m → ¬ nI (p_pop b q) = i) → p_ls b i m k = -1
  | 0, _, _ => rfl
  | m + 1, k, h => by
    rw [p_ls, if_neg (fun g => h k (Nat.le_refl _) (by omega) g.2)]
    exact p_ls_no m (k + 1) (fun q h1 h2 => h q (by omega) (by omega))
theorem p_ls_out {b n : Nat} {i : Int32} (hn : n ≤ 16) (h : p_in i 0 (nI n - 1) = 0) : p_ls b i n 0 = -1 := by
  refine p_ls_no n 0 (fun q _ h2 e => p_in_0 h ?_)
  have h3 := p_pop_le b q
  rw [← e]
  refine ⟨nI_pos' (by omega), ?_⟩
  cases n with
  | zero => omega
  | succ n =>
    rw [nI_pred]
    exact nI_le (by omega) (by omega)
theorem q_sub0 {x y : Int32} : x - y = 0 ↔ y = x := by
  rw [Int32.sub_eq_iff_eq_add, show (0 : Int32) + y = y + 0 from Int32.add_comm _ _, Int32.add_zero]
  exact ⟨Eq.symm, Eq.symm⟩
theorem p_fl_no {db : Int64} {kd : Int32} {n : Nat} {i : Int32} (h : p_in i 0 (nI n - 1) = 0) : p_faultless db kd n i = 0 := by
  unfold p_faultless
  by_cases h1 : kd = 3
  · rw [if_neg (fun q => q h1), if_pos h]
  · rw [if_pos h1]
/-- verdicts: the list and its objects -/
def vq (D : va_G) (t0 Lv av nv : Nat) (ev : Nat → Nat) (vb vt : Nat → Int32) (H : Heap) : Prop := al D t0 Lv av nv ev H ∧ ∀ i, i < nv → ob D 3 (ev i) [.int (vb i), .int (vt i)] H
theorem p_step_no {st : Nat → Int32} {b i : Nat} (h : ¬ (b / 2 ^ i % 2 = 1 ∧ ¬ b = 2 ^ i ∧ ¬ st (b - 2 ^ i) = 0)) : p_step st b i = b := if_neg h
theorem p_step_yes {st : Nat → Int32} {b i : Nat} (h : b / 2 ^ i % 2 = 1 ∧ ¬ b = 2 ^ i ∧ ¬ st (b - 2 ^ i) = 0) : p_step st b i = b - 2 ^ i := if_pos h
end
section
/-! LEAVES: methods that call little (printed by gen/leaf.py) -/
theorem d_PD_mixed_0 : decode b_PD_mixed 0 = .ok (.lload_n 0, 1) := by decide +kernel
theorem d_PD_mixed_1 : decode b_PD_mixed 1 = .ok (.lconst 1, 1) := by decide +kernel
theorem d_PD_mixed_2 : decode b_PD_mixed 2 = .ok (.iload_n 3, 1) := by decide +kernel
theorem d_PD_mixed_3 : decode b_PD_mixed 3 = .ok (.i2l, 1) := by decide +kernel
theorem d_PD_mixed_4 : decode b_PD_mixed 4 = .ok (.ladd, 1) := by decide +kernel
theorem d_PD_mixed_5 : decode b_PD_mixed 5 = .ok (.ldc2_w 1, 3) := by decide +kernel
theorem d_PD_mixed_8 : decode b_PD_mixed 8 = .ok (.iload_n 2, 1) := by decide +kernel
theorem d_PD_mixed_9 : decode b_PD_mixed 9 = .ok (.i2l, 1) := by decide +kernel
theorem d_PD_mixed_10 : decode b_PD_mixed 10 = .ok (.lmul, 1) := by decide +kernel
theorem d_PD_mixed_11 : decode b_PD_mixed 11 = .ok (.ladd, 1) := by decide +kernel
theorem d_PD_mixed_12 : decode b_PD_mixed 12 = .ok (.ldc2_w 3, 3) := by decide +kernel
theorem d_PD_mixed_15 : decode b_PD_mixed 15 = .ok (.lmul, 1) := by decide +kernel
theorem d_PD_mixed_16 : decode b_PD_mixed 16 = .ok (.ladd, 1) := by decide +kernel
theorem d_PD_mixed_17 : decode b_PD_mixed 17 = .ok (.lstore 4, 2) := by decide +kernel
theorem d_PD_mixed_19 : decode b_PD_mixed 19 = .ok (.lload 4, 2) := by decide +kernel
theorem d_PD_mixed_21 : decode b_PD_mixed 21 = .ok (.lload 4, 2) := by decide +kernel
theorem d_PD_mixed_23 : decode b_PD_mixed 23 = .ok (.bipush 30, 2) := by decide +kernel
theorem d_PD_mixed_25 : decode b_PD_mixed 25 = .ok (.lushr, 1) := by decide +kernel
theorem d_PD_mixed_26 : decode b_PD_mixed 26 = .ok (.lxor, 1) := by decide +kernel
theorem d_PD_mixed_27 : decode b_PD_mixed 27 = .ok (.ldc2_w 5, 3) := by decide +kernel
theorem d_PD_mixed_30 : decode b_PD_mixed 30 = .ok (.lmul, 1) := by decide +kernel
theorem d_PD_mixed_31 : decode b_PD_mixed 31 = .ok (.lstore 4, 2) := by decide +kernel
theorem d_PD_mixed_33 : decode b_PD_mixed 33 = .ok (.lload 4, 2) := by decide +kernel
theorem d_PD_mixed_35 : decode b_PD_mixed 35 = .ok (.lload 4, 2) := by decide +kernel
theorem d_PD_mixed_37 : decode b_PD_mixed 37 = .ok (.bipush 27, 2) := by decide +kernel
theorem d_PD_mixed_39 : decode b_PD_mixed 39 = .ok (.lushr, 1) := by decide +kernel
theorem d_PD_mixed_40 : decode b_PD_mixed 40 = .ok (.lxor, 1) := by decide +kernel
theorem d_PD_mixed_41 : decode b_PD_mixed 41 = .ok (.ldc2_w 7, 3) := by decide +kernel
theorem d_PD_mixed_44 : decode b_PD_mixed 44 = .ok (.lmul, 1) := by decide +kernel
theorem d_PD_mixed_45 : decode b_PD_mixed 45 = .ok (.lstore 4, 2) := by decide +kernel
theorem d_PD_mixed_47 : decode b_PD_mixed 47 = .ok (.lload 4, 2) := by decide +kernel
theorem d_PD_mixed_49 : decode b_PD_mixed 49 = .ok (.lload 4, 2) := by decide +kernel
theorem d_PD_mixed_51 : decode b_PD_mixed 51 = .ok (.bipush 31, 2) := by decide +kernel
theorem d_PD_mixed_53 : decode b_PD_mixed 53 = .ok (.lushr, 1) := by decide +kernel
theorem d_PD_mixed_54 : decode b_PD_mixed 54 = .ok (.lxor, 1) := by decide +kernel
theorem d_PD_mixed_55 : decode b_PD_mixed 55 = .ok (.lreturn, 1) := by decide +kernel
abbrev rm_PD_mixed : Room := { frames := 0, cells := 0, slots := 0, locals := 0 }
set_option maxHeartbeats 4000000 in
set_option maxRecDepth 100000 in
theorem c_PD_mixed (l : Launch) (D : va_G) (sd : Int64) (k i : Int32) : Met l y_PD_mixed (Cond.code y_PD_mixed b_PD_mixed 6 (some .long) :: gw) rm_PD_mixed (cP D [.long sd, .int k, .int i] (fun _ => True)) (rV (.long (p_mix sd k i))) 0 0 (fun _ => False) := by
  refine mt_B (by decide) (Nat.le_of_ble_eq_true rfl) ?_
  intro p e s m below meth c ls ⟨hx, hb, hr, hlocks, hin, hml, hown, hg⟩ ⟨hk, hp⟩ hl
  have hown : s.vm.findClass R_PD = some m.cls := hown
  have hl : lv_has ls 6 [(0, .long sd), (2, .int k), (3, .int i)] := hl
  refine lv_lload_n hx hb d_PD_mixed_0 rfl (lv_at hl 0 rfl) ?_
  refine lv_lconst (v := 1) hx hb d_PD_mixed_1 (by decide) ?_
  refine lv_iload_n hx hb d_PD_mixed_2 rfl (lv_at hl 2 rfl) ?_
  refine lv_i2l (v := i.toInt64) hx hb d_PD_mixed_3 rfl ?_
  refine lv_ladd hx hb d_PD_mixed_4 ?_
  refine lv_ldc2 hx hb hown (hg _ w_89) d_PD_mixed_5 ?_
  refine lv_iload_n hx hb d_PD_mixed_8 rfl (lv_at hl 1 rfl) ?_
  refine lv_i2l (v := k.toInt64) hx hb d_PD_mixed_9 rfl ?_
  refine lv_lmul hx hb d_PD_mixed_10 ?_
  refine lv_ladd hx hb d_PD_mixed_11 ?_
  refine lv_ldc2 hx hb hown (hg _ w_90) d_PD_mixed_12 ?_
  refine lv_lmul hx hb d_PD_mixed_15 ?_
  refine lv_ladd hx hb d_PD_mixed_16 ?_
  refine lv_topl (fun z1 ez1 => ?_)
  refine lv_lstore (lv' := [(4, .long z1), (0, .long sd), (2, .int k), (3, .int i)]) hx hb d_PD_mixed_17 hl (by decide) rfl (fun ls hl => ?_)
  refine lv_lload hx hb d_PD_mixed_19 (lv_at hl 0 rfl) ?_
  refine lv_lload hx hb d_PD_mixed_21 (lv_at hl 0 rfl) ?_
  refine lv_bipush (v := 30) hx hb d_PD_mixed_23 (by decide) ?_
  refine lv_lushr (v := ush z1 30) hx hb d_PD_mixed_25 rfl ?_
  refine lv_lxor hx hb d_PD_mixed_26 ?_
  refine lv_ldc2 hx hb hown (hg _ w_91) d_PD_mixed_27 ?_
  refine lv_lmul hx hb d_PD_mixed_30 ?_
  refine lv_topl (fun z2 ez2 => ?_)
  refine lv_lstore (lv' := [(4, .long z2), (0, .long sd), (2, .int k), (3, .int i)]) hx hb d_PD_mixed_31 hl (by decide) rfl (fun ls hl => ?_)
  refine lv_lload hx hb d_PD_mixed_33 (lv_at hl 0 rfl) ?_
  refine lv_lload hx hb d_PD_mixed_35 (lv_at hl 0 rfl) ?_
  refine lv_bipush (v := 27) hx hb d_PD_mixed_37 (by decide) ?_
  refine lv_lushr (v := ush z2 27) hx hb d_PD_mixed_39 rfl ?_
  refine lv_lxor hx hb d_PD_mixed_40 ?_
  refine lv_ldc2 hx hb hown (hg _ w_92) d_PD_mixed_41 ?_
  refine lv_lmul hx hb d_PD_mixed_44 ?_
  refine lv_topl (fun z3 ez3 => ?_)
  refine lv_lstore (lv' := [(4, .long z3), (0, .long sd), (2, .int k), (3, .int i)]) hx hb d_PD_mixed_45 hl (by decide) rfl (fun ls hl => ?_)
  refine lv_lload hx hb d_PD_mixed_47 (lv_at hl 0 rfl) ?_
  refine lv_lload hx hb d_PD_mixed_49 (lv_at hl 0 rfl) ?_
  refine lv_bipush (v := 31) hx hb d_PD_mixed_51 (by decide) ?_
  refine lv_lushr (v := ush z3 31) hx hb d_PD_mixed_53 rfl ?_
  refine lv_lxor hx hb d_PD_mixed_54 ?_
  exact e_l hx hb hr hlocks (by subst ez3 ez2 ez1; rfl) d_PD_mixed_55
theorem d_MO_number_0 : decode b_MO_number 0 = .ok (.lload_n 0, 1) := by decide +kernel
theorem d_MO_number_1 : decode b_MO_number 1 = .ok (.lconst 1, 1) := by decide +kernel
theorem d_MO_number_2 : decode b_MO_number 2 = .ok (.iload_n 3, 1) := by decide +kernel
theorem d_MO_number_3 : decode b_MO_number 3 = .ok (.i2l, 1) := by decide +kernel
theorem d_MO_number_4 : decode b_MO_number 4 = .ok (.ladd, 1) := by decide +kernel
theorem d_MO_number_5 : decode b_MO_number 5 = .ok (.ldc2_w 28, 3) := by decide +kernel
theorem d_MO_number_8 : decode b_MO_number 8 = .ok (.iload_n 2, 1) := by decide +kernel
theorem d_MO_number_9 : decode b_MO_number 9 = .ok (.i2l, 1) := by decide +kernel
theorem d_MO_number_10 : decode b_MO_number 10 = .ok (.lmul, 1) := by decide +kernel
theorem d_MO_number_11 : decode b_MO_number 11 = .ok (.ladd, 1) := by decide +kernel
theorem d_MO_number_12 : decode b_MO_number 12 = .ok (.ldc2_w 30, 3) := by decide +kernel
theorem d_MO_number_15 : decode b_MO_number 15 = .ok (.lmul, 1) := by decide +kernel
theorem d_MO_number_16 : decode b_MO_number 16 = .ok (.ladd, 1) := by decide +kernel
theorem d_MO_number_17 : decode b_MO_number 17 = .ok (.lstore 4, 2) := by decide +kernel
theorem d_MO_number_19 : decode b_MO_number 19 = .ok (.lload 4, 2) := by decide +kernel
theorem d_MO_number_21 : decode b_MO_number 21 = .ok (.lload 4, 2) := by decide +kernel
theorem d_MO_number_23 : decode b_MO_number 23 = .ok (.bipush 30, 2) := by decide +kernel
theorem d_MO_number_25 : decode b_MO_number 25 = .ok (.lushr, 1) := by decide +kernel
theorem d_MO_number_26 : decode b_MO_number 26 = .ok (.lxor, 1) := by decide +kernel
theorem d_MO_number_27 : decode b_MO_number 27 = .ok (.ldc2_w 32, 3) := by decide +kernel
theorem d_MO_number_30 : decode b_MO_number 30 = .ok (.lmul, 1) := by decide +kernel
theorem d_MO_number_31 : decode b_MO_number 31 = .ok (.lstore 4, 2) := by decide +kernel
theorem d_MO_number_33 : decode b_MO_number 33 = .ok (.lload 4, 2) := by decide +kernel
theorem d_MO_number_35 : decode b_MO_number 35 = .ok (.lload 4, 2) := by decide +kernel
theorem d_MO_number_37 : decode b_MO_number 37 = .ok (.bipush 27, 2) := by decide +kernel
theorem d_MO_number_39 : decode b_MO_number 39 = .ok (.lushr, 1) := by decide +kernel
theorem d_MO_number_40 : decode b_MO_number 40 = .ok (.lxor, 1) := by decide +kernel
theorem d_MO_number_41 : decode b_MO_number 41 = .ok (.ldc2_w 34, 3) := by decide +kernel
theorem d_MO_number_44 : decode b_MO_number 44 = .ok (.lmul, 1) := by decide +kernel
theorem d_MO_number_45 : decode b_MO_number 45 = .ok (.lstore 4, 2) := by decide +kernel
theorem d_MO_number_47 : decode b_MO_number 47 = .ok (.lload 4, 2) := by decide +kernel
theorem d_MO_number_49 : decode b_MO_number 49 = .ok (.lload 4, 2) := by decide +kernel
theorem d_MO_number_51 : decode b_MO_number 51 = .ok (.bipush 31, 2) := by decide +kernel
theorem d_MO_number_53 : decode b_MO_number 53 = .ok (.lushr, 1) := by decide +kernel
theorem d_MO_number_54 : decode b_MO_number 54 = .ok (.lxor, 1) := by decide +kernel
theorem d_MO_number_55 : decode b_MO_number 55 = .ok (.lreturn, 1) := by decide +kernel
abbrev rm_MO_number : Room := { frames := 0, cells := 0, slots := 0, locals := 0 }
set_option maxHeartbeats 4000000 in
set_option maxRecDepth 100000 in
theorem c_MO_number (l : Launch) (D : va_G) (sd : Int64) (k i : Int32) : Met l y_MO_number (Cond.code y_MO_number b_MO_number 6 (some .long) :: gw) rm_MO_number (cP D [.long sd, .int k, .int i] (fun _ => True)) (rV (.long (p_mix sd k i))) 0 0 (fun _ => False) := by
  refine mt_B (by decide) (Nat.le_of_ble_eq_true rfl) ?_
  intro p e s m below meth c ls ⟨hx, hb, hr, hlocks, hin, hml, hown, hg⟩ ⟨hk, hp⟩ hl
  have hown : s.vm.findClass R_MO = some m.cls := hown
  have hl : lv_has ls 6 [(0, .long sd), (2, .int k), (3, .int i)] := hl
  refine lv_lload_n hx hb d_MO_number_0 rfl (lv_at hl 0 rfl) ?_
  refine lv_lconst (v := 1) hx hb d_MO_number_1 (by decide) ?_
  refine lv_iload_n hx hb d_MO_number_2 rfl (lv_at hl 2 rfl) ?_
  refine lv_i2l (v := i.toInt64) hx hb d_MO_number_3 rfl ?_
  refine lv_ladd hx hb d_MO_number_4 ?_
  refine lv_ldc2 hx hb hown (hg _ w_359) d_MO_number_5 ?_
  refine lv_iload_n hx hb d_MO_number_8 rfl (lv_at hl 1 rfl) ?_
  refine lv_i2l (v := k.toInt64) hx hb d_MO_number_9 rfl ?_
  refine lv_lmul hx hb d_MO_number_10 ?_
  refine lv_ladd hx hb d_MO_number_11 ?_
  refine lv_ldc2 hx hb hown (hg _ w_360) d_MO_number_12 ?_
  refine lv_lmul hx hb d_MO_number_15 ?_
  refine lv_ladd hx hb d_MO_number_16 ?_
  refine lv_topl (fun z1 ez1 => ?_)
  refine lv_lstore (lv' := [(4, .long z1), (0, .long sd), (2, .int k), (3, .int i)]) hx hb d_MO_number_17 hl (by decide) rfl (fun ls hl => ?_)
  refine lv_lload hx hb d_MO_number_19 (lv_at hl 0 rfl) ?_
  refine lv_lload hx hb d_MO_number_21 (lv_at hl 0 rfl) ?_
  refine lv_bipush (v := 30) hx hb d_MO_number_23 (by decide) ?_
  refine lv_lushr (v := ush z1 30) hx hb d_MO_number_25 rfl ?_
  refine lv_lxor hx hb d_MO_number_26 ?_
  refine lv_ldc2 hx hb hown (hg _ w_361) d_MO_number_27 ?_
  refine lv_lmul hx hb d_MO_number_30 ?_
  refine lv_topl (fun z2 ez2 => ?_)
  refine lv_lstore (lv' := [(4, .long z2), (0, .long sd), (2, .int k), (3, .int i)]) hx hb d_MO_number_31 hl (by decide) rfl (fun ls hl => ?_)
  refine lv_lload hx hb d_MO_number_33 (lv_at hl 0 rfl) ?_
  refine lv_lload hx hb d_MO_number_35 (lv_at hl 0 rfl) ?_
  refine lv_bipush (v := 27) hx hb d_MO_number_37 (by decide) ?_
  refine lv_lushr (v := ush z2 27) hx hb d_MO_number_39 rfl ?_
  refine lv_lxor hx hb d_MO_number_40 ?_
  refine lv_ldc2 hx hb hown (hg _ w_362) d_MO_number_41 ?_
  refine lv_lmul hx hb d_MO_number_44 ?_
  refine lv_topl (fun z3 ez3 => ?_)
  refine lv_lstore (lv' := [(4, .long z3), (0, .long sd), (2, .int k), (3, .int i)]) hx hb d_MO_number_45 hl (by decide) rfl (fun ls hl => ?_)
  refine lv_lload hx hb d_MO_number_47 (lv_at hl 0 rfl) ?_
  refine lv_lload hx hb d_MO_number_49 (lv_at hl 0 rfl) ?_
  refine lv_bipush (v := 31) hx hb d_MO_number_51 (by decide) ?_
  refine lv_lushr (v := ush z3 31) hx hb d_MO_number_53 rfl ?_
  refine lv_lxor hx hb d_MO_number_54 ?_
  exact e_l hx hb hr hlocks (by subst ez3 ez2 ez1; rfl) d_MO_number_55
theorem d_PD_rest_0 : decode b_PD_rest 0 = .ok (.lload_n 0, 1) := by decide +kernel
theorem d_PD_rest_1 : decode b_PD_rest 1 = .ok (.iconst 1, 1) := by decide +kernel
theorem d_PD_rest_2 : decode b_PD_rest 2 = .ok (.lushr, 1) := by decide +kernel
theorem d_PD_rest_3 : decode b_PD_rest 3 = .ok (.iload_n 2, 1) := by decide +kernel
theorem d_PD_rest_4 : decode b_PD_rest 4 = .ok (.i2l, 1) := by decide +kernel
theorem d_PD_rest_5 : decode b_PD_rest 5 = .ok (.lrem, 1) := by decide +kernel
theorem d_PD_rest_6 : decode b_PD_rest 6 = .ok (.lstore_n 3, 1) := by decide +kernel
theorem d_PD_rest_7 : decode b_PD_rest 7 = .ok (.ldc2_w 9, 3) := by decide +kernel
theorem d_PD_rest_10 : decode b_PD_rest 10 = .ok (.lload_n 3, 1) := by decide +kernel
theorem d_PD_rest_11 : decode b_PD_rest 11 = .ok (.lmul, 1) := by decide +kernel
theorem d_PD_rest_12 : decode b_PD_rest 12 = .ok (.lload_n 0, 1) := by decide +kernel
theorem d_PD_rest_13 : decode b_PD_rest 13 = .ok (.lconst 1, 1) := by decide +kernel
theorem d_PD_rest_14 : decode b_PD_rest 14 = .ok (.land, 1) := by decide +kernel
theorem d_PD_rest_15 : decode b_PD_rest 15 = .ok (.ladd, 1) := by decide +kernel
theorem d_PD_rest_16 : decode b_PD_rest 16 = .ok (.iload_n 2, 1) := by decide +kernel
theorem d_PD_rest_17 : decode b_PD_rest 17 = .ok (.i2l, 1) := by decide +kernel
theorem d_PD_rest_18 : decode b_PD_rest 18 = .ok (.lrem, 1) := by decide +kernel
theorem d_PD_rest_19 : decode b_PD_rest 19 = .ok (.l2i, 1) := by decide +kernel
theorem d_PD_rest_20 : decode b_PD_rest 20 = .ok (.ireturn, 1) := by decide +kernel
abbrev rm_PD_rest : Room := { frames := 0, cells := 0, slots := 0, locals := 0 }
set_option maxHeartbeats 4000000 in
set_option maxRecDepth 100000 in
theorem c_PD_rest (l : Launch) (D : va_G) (z : Int64) (b : Int32) (h0 : ¬ b.toInt64 = 0) : Met l y_PD_rest (Cond.code y_PD_rest b_PD_rest 5 (some .int) :: gw) rm_PD_rest (cP D [.long z, .int b] (fun _ => True)) (rV (.int (p_rest z b))) 0 0 (fun _ => False) := by
  refine mt_B (by decide) (Nat.le_of_ble_eq_true rfl) ?_
  intro p e s m below meth c ls ⟨hx, hb, hr, hlocks, hin, hml, hown, hg⟩ ⟨hk, hp⟩ hl
  have hown : s.vm.findClass R_PD = some m.cls := hown
  have hl : lv_has ls 5 [(0, .long z), (2, .int b)] := hl
  refine lv_lload_n hx hb d_PD_rest_0 rfl (lv_at hl 0 rfl) ?_
  refine lv_iconst (v := 1) hx hb d_PD_rest_1 (by decide) ?_
  refine lv_lushr (v := ush z 1) hx hb d_PD_rest_2 rfl ?_
  refine lv_iload_n hx hb d_PD_rest_3 rfl (lv_at hl 1 rfl) ?_
  refine lv_i2l (v := b.toInt64) hx hb d_PD_rest_4 rfl ?_
  refine lv_lrem hx hb d_PD_rest_5 h0 ?_
  refine lv_lstore_n (lv' := [(3, .long (lrm (ush z 1) b.toInt64)), (0, .long z), (2, .int b)]) hx hb d_PD_rest_6 rfl hl (by decide) rfl (fun ls hl => ?_)
  refine lv_ldc2 hx hb hown (hg _ w_230) d_PD_rest_7 ?_
  refine lv_lload_n hx hb d_PD_rest_10 rfl (lv_at hl 0 rfl) ?_
  refine lv_lmul hx hb d_PD_rest_11 ?_
  refine lv_lload_n hx hb d_PD_rest_12 rfl (lv_at hl 1 rfl) ?_
  refine lv_lconst (v := 1) hx hb d_PD_rest_13 (by decide) ?_
  refine lv_land hx hb d_PD_rest_14 ?_
  refine lv_ladd hx hb d_PD_rest_15 ?_
  refine lv_iload_n hx hb d_PD_rest_16 rfl (lv_at hl 2 rfl) ?_
  refine lv_i2l (v := b.toInt64) hx hb d_PD_rest_17 rfl ?_
  refine lv_lrem hx hb d_PD_rest_18 h0 ?_
  refine lv_l2i (v := (lrm ((2 * (lrm (ush z 1) b.toInt64)) + (z &&& 1)) b.toInt64).toInt32) hx hb d_PD_rest_19 rfl ?_
  exact e_i hx hb hr hlocks (rfl) d_PD_rest_20
theorem d_MO_rest_0 : decode b_MO_rest 0 = .ok (.lload_n 0, 1) := by decide +kernel
theorem d_MO_rest_1 : decode b_MO_rest 1 = .ok (.iconst 1, 1) := by decide +kernel
theorem d_MO_rest_2 : decode b_MO_rest 2 = .ok (.lushr, 1) := by decide +kernel
theorem d_MO_rest_3 : decode b_MO_rest 3 = .ok (.lstore_n 3, 1) := by decide +kernel
theorem d_MO_rest_4 : decode b_MO_rest 4 = .ok (.lload_n 3, 1) := by decide +kernel
theorem d_MO_rest_5 : decode b_MO_rest 5 = .ok (.iload_n 2, 1) := by decide +kernel
theorem d_MO_rest_6 : decode b_MO_rest 6 = .ok (.i2l, 1) := by decide +kernel
theorem d_MO_rest_7 : decode b_MO_rest 7 = .ok (.lrem, 1) := by decide +kernel
theorem d_MO_rest_8 : decode b_MO_rest 8 = .ok (.ldc2_w 36, 3) := by decide +kernel
theorem d_MO_rest_11 : decode b_MO_rest 11 = .ok (.lmul, 1) := by decide +kernel
theorem d_MO_rest_12 : decode b_MO_rest 12 = .ok (.lload_n 0, 1) := by decide +kernel
theorem d_MO_rest_13 : decode b_MO_rest 13 = .ok (.lconst 1, 1) := by decide +kernel
theorem d_MO_rest_14 : decode b_MO_rest 14 = .ok (.land, 1) := by decide +kernel
theorem d_MO_rest_15 : decode b_MO_rest 15 = .ok (.ladd, 1) := by decide +kernel
theorem d_MO_rest_16 : decode b_MO_rest 16 = .ok (.iload_n 2, 1) := by decide +kernel
theorem d_MO_rest_17 : decode b_MO_rest 17 = .ok (.i2l, 1) := by decide +kernel
theorem d_MO_rest_18 : decode b_MO_rest 18 = .ok (.lrem, 1) := by decide +kernel
theorem d_MO_rest_19 : decode b_MO_rest 19 = .ok (.l2i, 1) := by decide +kernel
theorem d_MO_rest_20 : decode b_MO_rest 20 = .ok (.ireturn, 1) := by decide +kernel
abbrev rm_MO_rest : Room := { frames := 0, cells := 0, slots := 0, locals := 0 }
set_option maxHeartbeats 4000000 in
set_option maxRecDepth 100000 in
theorem c_MO_rest (l : Launch) (D : va_G) (z : Int64) (b : Int32) (h0 : ¬ b.toInt64 = 0) : Met l y_MO_rest (Cond.code y_MO_rest b_MO_rest 5 (some .int) :: gw) rm_MO_rest (cP D [.long z, .int b] (fun _ => True)) (rV (.int (p_rest z b))) 0 0 (fun _ => False) := by
  refine mt_B (by decide) (Nat.le_of_ble_eq_true rfl) ?_
  intro p e s m below meth c ls ⟨hx, hb, hr, hlocks, hin, hml, hown, hg⟩ ⟨hk, hp⟩ hl
  have hown : s.vm.findClass R_MO = some m.cls := hown
  have hl : lv_has ls 5 [(0, .long z), (2, .int b)] := hl
  refine lv_lload_n hx hb d_MO_rest_0 rfl (lv_at hl 0 rfl) ?_
  refine lv_iconst (v := 1) hx hb d_MO_rest_1 (by decide) ?_
  refine lv_lushr (v := ush z 1) hx hb d_MO_rest_2 rfl ?_
  refine lv_lstore_n (lv' := [(3, .long (ush z 1)), (0, .long z), (2, .int b)]) hx hb d_MO_rest_3 rfl hl (by decide) rfl (fun ls hl => ?_)
  refine lv_lload_n hx hb d_MO_rest_4 rfl (lv_at hl 0 rfl) ?_
  refine lv_iload_n hx hb d_MO_rest_5 rfl (lv_at hl 2 rfl) ?_
  refine lv_i2l (v := b.toInt64) hx hb d_MO_rest_6 rfl ?_
  refine lv_lrem hx hb d_MO_rest_7 h0 ?_
  refine lv_ldc2 hx hb hown (hg _ w_373) d_MO_rest_8 ?_
  refine lv_lmul hx hb d_MO_rest_11 ?_
  refine lv_lload_n hx hb d_MO_rest_12 rfl (lv_at hl 1 rfl) ?_
  refine lv_lconst (v := 1) hx hb d_MO_rest_13 (by decide) ?_
  refine lv_land hx hb d_MO_rest_14 ?_
  refine lv_ladd hx hb d_MO_rest_15 ?_
  refine lv_iload_n hx hb d_MO_rest_16 rfl (lv_at hl 2 rfl) ?_
  refine lv_i2l (v := b.toInt64) hx hb d_MO_rest_17 rfl ?_
  refine lv_lrem hx hb d_MO_rest_18 h0 ?_
  refine lv_l2i (v := (lrm (((lrm (ush z 1) b.toInt64) * 2) + (z &&& 1)) b.toInt64).toInt32) hx hb d_MO_rest_19 rfl ?_
  exact e_i hx hb hr hlocks (by show (lrm (lrm (ush z 1) b.toInt64 * 2 + (z &&& 1)) b.toInt64).toInt32 = p_rest z b; unfold p_rest; rw [Int64.mul_comm 2]) d_MO_rest_20
theorem d_PD_within_0 : decode b_PD_within 0 = .ok (.iload_n 0, 1) := by decide +kernel
theorem d_PD_within_1 : decode b_PD_within 1 = .ok (.iload_n 1, 1) := by decide +kernel
theorem d_PD_within_2 : decode b_PD_within 2 = .ok (.if_icmp .lt 12, 3) := by decide +kernel
theorem d_PD_within_5 : decode b_PD_within 5 = .ok (.iload_n 0, 1) := by decide +kernel
theorem d_PD_within_6 : decode b_PD_within 6 = .ok (.iload_n 2, 1) := by decide +kernel
theorem d_PD_within_7 : decode b_PD_within 7 = .ok (.if_icmp .gt 7, 3) := by decide +kernel
theorem d_PD_within_10 : decode b_PD_within 10 = .ok (.iconst 1, 1) := by decide +kernel
theorem d_PD_within_11 : decode b_PD_within 11 = .ok (.goto 4, 3) := by decide +kernel
theorem d_PD_within_14 : decode b_PD_within 14 = .ok (.iconst 0, 1) := by decide +kernel
theorem d_PD_within_15 : decode b_PD_within 15 = .ok (.ireturn, 1) := by decide +kernel
abbrev rm_PD_within : Room := { frames := 0, cells := 0, slots := 0, locals := 0 }
set_option maxHeartbeats 4000000 in
set_option maxRecDepth 100000 in
theorem c_PD_within (l : Launch) (D : va_G) (v lo hi : Int32) : Met l y_PD_within (Cond.code y_PD_within b_PD_within 3 (some .boolean) :: gw) rm_PD_within (cP D [.int v, .int lo, .int hi] (fun _ => True)) (rV (.int (p_in v lo hi))) 0 0 (fun _ => False) := by
  refine mt_B (by decide) (Nat.le_of_ble_eq_true rfl) ?_
  intro p e s m below meth c ls ⟨hx, hb, hr, hlocks, hin, hml, hown, hg⟩ ⟨hk, hp⟩ hl
  have hown : s.vm.findClass R_PD = some m.cls := hown
  have hl : lv_has ls 3 [(0, .int v), (1, .int lo), (2, .int hi)] := hl
  refine lv_iload_n hx hb d_PD_within_0 rfl (lv_at hl 0 rfl) ?_
  refine lv_iload_n hx hb d_PD_within_1 rfl (lv_at hl 1 rfl) ?_
  refine lv_icmp_lt (tgt := 14) hx hb d_PD_within_2 (by decide) (fun c1 => ?_) (fun c1 => ?_)
  · refine lv_iconst (v := 0) hx hb d_PD_within_14 (by decide) ?_
    exact e_z hx hb hr hlocks (p_in_f1 c1) (by decide) d_PD_within_15
  · refine lv_iload_n hx hb d_PD_within_5 rfl (lv_at hl 0 rfl) ?_
    refine lv_iload_n hx hb d_PD_within_6 rfl (lv_at hl 2 rfl) ?_
    refine lv_icmp_gt (tgt := 14) hx hb d_PD_within_7 (by decide) (fun c2 => ?_) (fun c2 => ?_)
    · refine lv_iconst (v := 0) hx hb d_PD_within_14 (by decide) ?_
      exact e_z hx hb hr hlocks (p_in_f2 c2) (by decide) d_PD_within_15
    · refine lv_iconst (v := 1) hx hb d_PD_within_10 (by decide) ?_
      refine lv_goto (tgt := 15) hx hb d_PD_within_11 (by decide) ?_
      exact e_z hx hb hr hlocks (p_in_t c1 c2) (by decide) d_PD_within_15
theorem d_MO_in_0 : decode b_MO_in 0 = .ok (.iload_n 0, 1) := by decide +kernel
theorem d_MO_in_1 : decode b_MO_in 1 = .ok (.iload_n 1, 1) := by decide +kernel
theorem d_MO_in_2 : decode b_MO_in 2 = .ok (.if_icmp .lt 12, 3) := by decide +kernel
theorem d_MO_in_5 : decode b_MO_in 5 = .ok (.iload_n 0, 1) := by decide +kernel
theorem d_MO_in_6 : decode b_MO_in 6 = .ok (.iload_n 2, 1) := by decide +kernel
theorem d_MO_in_7 : decode b_MO_in 7 = .ok (.if_icmp .gt 7, 3) := by decide +kernel
theorem d_MO_in_10 : decode b_MO_in 10 = .ok (.iconst 1, 1) := by decide +kernel
theorem d_MO_in_11 : decode b_MO_in 11 = .ok (.goto 4, 3) := by decide +kernel
theorem d_MO_in_14 : decode b_MO_in 14 = .ok (.iconst 0, 1) := by decide +kernel
theorem d_MO_in_15 : decode b_MO_in 15 = .ok (.ireturn, 1) := by decide +kernel
abbrev rm_MO_in : Room := { frames := 0, cells := 0, slots := 0, locals := 0 }
set_option maxHeartbeats 4000000 in
set_option maxRecDepth 100000 in
theorem c_MO_in (l : Launch) (D : va_G) (v lo hi : Int32) : Met l y_MO_in (Cond.code y_MO_in b_MO_in 3 (some .boolean) :: gw) rm_MO_in (cP D [.int v, .int lo, .int hi] (fun _ => True)) (rV (.int (p_in v lo hi))) 0 0 (fun _ => False) := by
  refine mt_B (by decide) (Nat.le_of_ble_eq_true rfl) ?_
  intro p e s m below meth c ls ⟨hx, hb, hr, hlocks, hin, hml, hown, hg⟩ ⟨hk, hp⟩ hl
  have hown : s.vm.findClass R_MO = some m.cls := hown
  have hl : lv_has ls 3 [(0, .int v), (1, .int lo), (2, .int hi)] := hl
  refine lv_iload_n hx hb d_MO_in_0 rfl (lv_at hl 0 rfl) ?_
  refine lv_iload_n hx hb d_MO_in_1 rfl (lv_at hl 1 rfl) ?_
  refine lv_icmp_lt (tgt := 14) hx hb d_MO_in_2 (by decide) (fun c1 => ?_) (fun c1 => ?_)
  · refine lv_iconst (v := 0) hx hb d_MO_in_14 (by decide) ?_
    exact e_z hx hb hr hlocks (p_in_f1 c1) (by decide) d_MO_in_15
  · refine lv_iload_n hx hb d_MO_in_5 rfl (lv_at hl 0 rfl) ?_
    refine lv_iload_n hx hb d_MO_in_6 rfl (lv_at hl 2 rfl) ?_
    refine lv_icmp_gt (tgt := 14) hx hb d_MO_in_7 (by decide) (fun c2 => ?_) (fun c2 => ?_)
    · refine lv_iconst (v := 0) hx hb d_MO_in_14 (by decide) ?_
      exact e_z hx hb hr hlocks (p_in_f2 c2) (by decide) d_MO_in_15
    · refine lv_iconst (v := 1) hx hb d_MO_in_10 (by decide) ?_
      refine lv_goto (tgt := 15) hx hb d_MO_in_11 (by decide) ?_
      exact e_z hx hb hr hlocks (p_in_t c1 c2) (by decide) d_MO_in_15
theorem d_PD_sign_0 : decode b_PD_sign 0 = .ok (.iload_n 0, 1) := by decide +kernel
theorem d_PD_sign_1 : decode b_PD_sign 1 = .ok (.tableswitch 87 0 8 #[51, 55, 59, 63, 67, 71, 75, 79, 83], 51) := by decide +kernel
theorem d_PD_sign_52 : decode b_PD_sign 52 = .ok (.sipush 31599, 3) := by decide +kernel
theorem d_PD_sign_55 : decode b_PD_sign 55 = .ok (.ireturn, 1) := by decide +kernel
theorem d_PD_sign_56 : decode b_PD_sign 56 = .ok (.sipush 11415, 3) := by decide +kernel
theorem d_PD_sign_59 : decode b_PD_sign 59 = .ok (.ireturn, 1) := by decide +kernel
theorem d_PD_sign_60 : decode b_PD_sign 60 = .ok (.sipush 29671, 3) := by decide +kernel
theorem d_PD_sign_63 : decode b_PD_sign 63 = .ok (.ireturn, 1) := by decide +kernel
theorem d_PD_sign_64 : decode b_PD_sign 64 = .ok (.sipush 29647, 3) := by decide +kernel
theorem d_PD_sign_67 : decode b_PD_sign 67 = .ok (.ireturn, 1) := by decide +kernel
theorem d_PD_sign_68 : decode b_PD_sign 68 = .ok (.sipush 23497, 3) := by decide +kernel
theorem d_PD_sign_71 : decode b_PD_sign 71 = .ok (.ireturn, 1) := by decide +kernel
theorem d_PD_sign_72 : decode b_PD_sign 72 = .ok (.sipush 31183, 3) := by decide +kernel
theorem d_PD_sign_75 : decode b_PD_sign 75 = .ok (.ireturn, 1) := by decide +kernel
theorem d_PD_sign_76 : decode b_PD_sign 76 = .ok (.sipush 31215, 3) := by decide +kernel
theorem d_PD_sign_79 : decode b_PD_sign 79 = .ok (.ireturn, 1) := by decide +kernel
theorem d_PD_sign_80 : decode b_PD_sign 80 = .ok (.sipush 29257, 3) := by decide +kernel
theorem d_PD_sign_83 : decode b_PD_sign 83 = .ok (.ireturn, 1) := by decide +kernel
theorem d_PD_sign_84 : decode b_PD_sign 84 = .ok (.sipush 31727, 3) := by decide +kernel
theorem d_PD_sign_87 : decode b_PD_sign 87 = .ok (.ireturn, 1) := by decide +kernel
theorem d_PD_sign_88 : decode b_PD_sign 88 = .ok (.sipush 31695, 3) := by decide +kernel
theorem d_PD_sign_91 : decode b_PD_sign 91 = .ok (.ireturn, 1) := by decide +kernel
abbrev rm_PD_sign : Room := { frames := 0, cells := 0, slots := 0, locals := 0 }
set_option maxHeartbeats 4000000 in
set_option maxRecDepth 100000 in
theorem c_PD_sign (l : Launch) (D : va_G) (j : Nat) (hj : j < 10) : Met l y_PD_sign (Cond.code y_PD_sign b_PD_sign 1 (some .int) :: gw) rm_PD_sign (cP D [.int (nI j)] (fun _ => True)) (rV (.int (p_sign j))) 0 0 (fun _ => False) := by
  refine mt_B (by decide) (Nat.le_of_ble_eq_true rfl) ?_
  intro p e s m below meth c ls ⟨hx, hb, hr, hlocks, hin, hml, hown, hg⟩ ⟨hk, hp⟩ hl
  have hown : s.vm.findClass R_PD = some m.cls := hown
  have hl : lv_has ls 1 [(0, .int (nI j))] := hl
  refine lv_iload_n hx hb d_PD_sign_0 rfl (lv_at hl 0 rfl) ?_
  rcases (show j = 0 ∨ j = 1 ∨ j = 2 ∨ j = 3 ∨ j = 4 ∨ j = 5 ∨ j = 6 ∨ j = 7 ∨ j = 8 ∨ j = 9 by omega) with rfl | rfl | rfl | rfl | rfl | rfl | rfl | rfl | rfl | rfl
  · refine lv_tableIn (tgt := 52) hx hb d_PD_sign_1 (by decide +kernel) (by decide +kernel) (show _ = some 51 by decide +kernel) (by decide) ?_
    refine lv_sipush (v := 31599) hx hb d_PD_sign_52 (by decide) ?_
    exact e_i hx hb hr hlocks (rfl) d_PD_sign_55
  · refine lv_tableIn (tgt := 56) hx hb d_PD_sign_1 (by decide +kernel) (by decide +kernel) (show _ = some 55 by decide +kernel) (by decide) ?_
    refine lv_sipush (v := 11415) hx hb d_PD_sign_56 (by decide) ?_
    exact e_i hx hb hr hlocks (rfl) d_PD_sign_59
  · refine lv_tableIn (tgt := 60) hx hb d_PD_sign_1 (by decide +kernel) (by decide +kernel) (show _ = some 59 by decide +kernel) (by decide) ?_
    refine lv_sipush (v := 29671) hx hb d_PD_sign_60 (by decide) ?_
    exact e_i hx hb hr hlocks (rfl) d_PD_sign_63
  · refine lv_tableIn (tgt := 64) hx hb d_PD_sign_1 (by decide +kernel) (by decide +kernel) (show _ = some 63 by decide +kernel) (by decide) ?_
    refine lv_sipush (v := 29647) hx hb d_PD_sign_64 (by decide) ?_
    exact e_i hx hb hr hlocks (rfl) d_PD_sign_67
  · refine lv_tableIn (tgt := 68) hx hb d_PD_sign_1 (by decide +kernel) (by decide +kernel) (show _ = some 67 by decide +kernel) (by decide) ?_
    refine lv_sipush (v := 23497) hx hb d_PD_sign_68 (by decide) ?_
    exact e_i hx hb hr hlocks (rfl) d_PD_sign_71
  · refine lv_tableIn (tgt := 72) hx hb d_PD_sign_1 (by decide +kernel) (by decide +kernel) (show _ = some 71 by decide +kernel) (by decide) ?_
    refine lv_sipush (v := 31183) hx hb d_PD_sign_72 (by decide) ?_
    exact e_i hx hb hr hlocks (rfl) d_PD_sign_75
  · refine lv_tableIn (tgt := 76) hx hb d_PD_sign_1 (by decide +kernel) (by decide +kernel) (show _ = some 75 by decide +kernel) (by decide) ?_
    refine lv_sipush (v := 31215) hx hb d_PD_sign_76 (by decide) ?_
    exact e_i hx hb hr hlocks (rfl) d_PD_sign_79
  · refine lv_tableIn (tgt := 80) hx hb d_PD_sign_1 (by decide +kernel) (by decide +kernel) (show _ = some 79 by decide +kernel) (by decide) ?_
    refine lv_sipush (v := 29257) hx hb d_PD_sign_80 (by decide) ?_
    exact e_i hx hb hr hlocks (rfl) d_PD_sign_83
  · refine lv_tableIn (tgt := 84) hx hb d_PD_sign_1 (by decide +kernel) (by decide +kernel) (show _ = some 83 by decide +kernel) (by decide) ?_
    refine lv_sipush (v := 31727) hx hb d_PD_sign_84 (by decide) ?_
    exact e_i hx hb hr hlocks (rfl) d_PD_sign_87
  · refine lv_tableOut (tgt := 88) hx hb d_PD_sign_1 (by decide +kernel) (by decide) ?_
    refine lv_sipush (v := 31695) hx hb d_PD_sign_88 (by decide) ?_
    exact e_i hx hb hr hlocks (rfl) d_PD_sign_91
theorem d_PD_isDrawing_0 : decode b_PD_isDrawing 0 = .ok (.iload_n 0, 1) := by decide +kernel
theorem d_PD_isDrawing_1 : decode b_PD_isDrawing 1 = .ok (.iconst 0, 1) := by decide +kernel
theorem d_PD_isDrawing_2 : decode b_PD_isDrawing 2 = .ok (.iconst 4, 1) := by decide +kernel
theorem d_PD_isDrawing_3 : decode b_PD_isDrawing 3 = .ok (.invokestatic 30, 3) := by decide +kernel
theorem d_PD_isDrawing_6 : decode b_PD_isDrawing 6 = .ok (.ifCond .eq 17, 3) := by decide +kernel
theorem d_PD_isDrawing_9 : decode b_PD_isDrawing 9 = .ok (.iload_n 1, 1) := by decide +kernel
theorem d_PD_isDrawing_10 : decode b_PD_isDrawing 10 = .ok (.iconst 0, 1) := by decide +kernel
theorem d_PD_isDrawing_11 : decode b_PD_isDrawing 11 = .ok (.bipush 15, 2) := by decide +kernel
theorem d_PD_isDrawing_13 : decode b_PD_isDrawing 13 = .ok (.invokestatic 30, 3) := by decide +kernel
theorem d_PD_isDrawing_16 : decode b_PD_isDrawing 16 = .ok (.ifCond .eq 7, 3) := by decide +kernel
theorem d_PD_isDrawing_19 : decode b_PD_isDrawing 19 = .ok (.iconst 1, 1) := by decide +kernel
theorem d_PD_isDrawing_20 : decode b_PD_isDrawing 20 = .ok (.goto 4, 3) := by decide +kernel
theorem d_PD_isDrawing_23 : decode b_PD_isDrawing 23 = .ok (.iconst 0, 1) := by decide +kernel
theorem d_PD_isDrawing_24 : decode b_PD_isDrawing 24 = .ok (.ireturn, 1) := by decide +kernel
abbrev rm_PD_isDrawing : Room := { frames := 1, cells := 0, slots := 0, locals := 22 }
set_option maxHeartbeats 4000000 in
set_option maxRecDepth 100000 in
theorem c_PD_isDrawing (l : Launch) (D : va_G) (kd sz : Int32) : Met l y_PD_isDrawing (Cond.code y_PD_isDrawing b_PD_isDrawing 2 (some .boolean) :: gw) rm_PD_isDrawing (cP D [.int kd, .int sz] (fun _ => True)) (rV (.int (if p_in kd 0 4 = 0 then 0 else p_in sz 0 15))) 0 0 (fun _ => False) := by
  refine mt_B (by decide) (Nat.le_of_ble_eq_true rfl) ?_
  intro p e s m below meth c ls ⟨hx, hb, hr, hlocks, hin, hml, hown, hg⟩ ⟨hk, hp⟩ hl
  have hown : s.vm.findClass R_PD = some m.cls := hown
  have hl : lv_has ls 2 [(0, .int kd), (1, .int sz)] := hl
  refine lv_iload_n hx hb d_PD_isDrawing_0 rfl (lv_at hl 0 rfl) ?_
  refine lv_iconst (v := 0) hx hb d_PD_isDrawing_1 (by decide) ?_
  refine lv_iconst (v := 4) hx hb d_PD_isDrawing_2 (by decide) ?_
  refine k_S hx hb hml hown hg hk [.int kd, .int 0, .int 4] [] (c_PD_within l D kd 0 4) z_PD_within w_73 w_74 (trivial) d_PD_isDrawing_3 rfl rfl ⟨Nat.le_of_ble_eq_true rfl, Nat.le_of_ble_eq_true rfl⟩ rfl hl.1 rfl (Nat.le_of_ble_eq_true rfl) ⟨Nat.zero_le _, Nat.zero_le _⟩ ?_
  refine lv_if_eq (tgt := 23) hx hb d_PD_isDrawing_6 (by decide) (fun c1 => ?_) (fun c1 => ?_)
  · refine lv_iconst (v := 0) hx hb d_PD_isDrawing_23 (by decide) ?_
    exact e_z hx hb hr hlocks ((if_pos c1).symm) (by decide) d_PD_isDrawing_24
  · refine lv_iload_n hx hb d_PD_isDrawing_9 rfl (lv_at hl 1 rfl) ?_
    refine lv_iconst (v := 0) hx hb d_PD_isDrawing_10 (by decide) ?_
    refine lv_bipush (v := 15) hx hb d_PD_isDrawing_11 (by decide) ?_
    refine k_S hx hb hml hown hg hk [.int sz, .int 0, .int 15] [] (c_PD_within l D sz 0 15) z_PD_within w_73 w_74 (trivial) d_PD_isDrawing_13 rfl rfl ⟨Nat.le_of_ble_eq_true rfl, Nat.le_of_ble_eq_true rfl⟩ rfl hl.1 rfl (Nat.le_of_ble_eq_true rfl) ⟨Nat.zero_le _, Nat.zero_le _⟩ ?_
    refine lv_if_eq (tgt := 23) hx hb d_PD_isDrawing_16 (by decide) (fun c2 => ?_) (fun c2 => ?_)
    · refine lv_iconst (v := 0) hx hb d_PD_isDrawing_23 (by decide) ?_
      exact e_z hx hb hr hlocks (by rw [if_neg c1, c2]) (by decide) d_PD_isDrawing_24
    · refine lv_iconst (v := 1) hx hb d_PD_isDrawing_19 (by decide) ?_
      refine lv_goto (tgt := 24) hx hb d_PD_isDrawing_20 (by decide) ?_
      exact e_z hx hb hr hlocks (by rw [if_neg c1]; exact ((p_in_01 sz 0 15).resolve_left c2).symm) (by decide) d_PD_isDrawing_24
theorem d_MO_isLess_0 : decode b_MO_isLess 0 = .ok (.lload_n 0, 1) := by decide +kernel
theorem d_MO_isLess_1 : decode b_MO_isLess 1 = .ok (.ldc2_w 38, 3) := by decide +kernel
theorem d_MO_isLess_4 : decode b_MO_isLess 4 = .ok (.lxor, 1) := by decide +kernel
theorem d_MO_isLess_5 : decode b_MO_isLess 5 = .ok (.lload_n 2, 1) := by decide +kernel
theorem d_MO_isLess_6 : decode b_MO_isLess 6 = .ok (.ldc2_w 38, 3) := by decide +kernel
theorem d_MO_isLess_9 : decode b_MO_isLess 9 = .ok (.lxor, 1) := by decide +kernel
theorem d_MO_isLess_10 : decode b_MO_isLess 10 = .ok (.lcmp, 1) := by decide +kernel
theorem d_MO_isLess_11 : decode b_MO_isLess 11 = .ok (.ifCond .ge 7, 3) := by decide +kernel
theorem d_MO_isLess_14 : decode b_MO_isLess 14 = .ok (.iconst 1, 1) := by decide +kernel
theorem d_MO_isLess_15 : decode b_MO_isLess 15 = .ok (.goto 4, 3) := by decide +kernel
theorem d_MO_isLess_18 : decode b_MO_isLess 18 = .ok (.iconst 0, 1) := by decide +kernel
theorem d_MO_isLess_19 : decode b_MO_isLess 19 = .ok (.ireturn, 1) := by decide +kernel
abbrev rm_MO_isLess : Room := { frames := 0, cells := 0, slots := 0, locals := 0 }
set_option maxHeartbeats 4000000 in
set_option maxRecDepth 100000 in
theorem c_MO_isLess (l : Launch) (D : va_G) (a b : Int64) : Met l y_MO_isLess (Cond.code y_MO_isLess b_MO_isLess 4 (some .boolean) :: gw) rm_MO_isLess (cP D [.long a, .long b] (fun _ => True)) (rV (.int (p_gtb b a))) 0 0 (fun _ => False) := by
  refine mt_B (by decide) (Nat.le_of_ble_eq_true rfl) ?_
  intro p e s m below meth c ls ⟨hx, hb, hr, hlocks, hin, hml, hown, hg⟩ ⟨hk, hp⟩ hl
  have hown : s.vm.findClass R_MO = some m.cls := hown
  have hl : lv_has ls 4 [(0, .long a), (2, .long b)] := hl
  refine lv_lload_n hx hb d_MO_isLess_0 rfl (lv_at hl 0 rfl) ?_
  refine lv_ldc2 hx hb hown (hg _ w_366) d_MO_isLess_1 ?_
  refine lv_lxor hx hb d_MO_isLess_4 ?_
  refine lv_lload_n hx hb d_MO_isLess_5 rfl (lv_at hl 1 rfl) ?_
  refine lv_ldc2 hx hb hown (hg _ w_366) d_MO_isLess_6 ?_
  refine lv_lxor hx hb d_MO_isLess_9 ?_
  refine W.lcmp hx hb d_MO_isLess_10 ?_
  refine lv_if_ge (tgt := 18) hx hb d_MO_isLess_11 (by decide) (fun c1 => ?_) (fun c1 => ?_)
  · refine lv_iconst (v := 0) hx hb d_MO_isLess_18 (by decide) ?_
    exact e_z hx hb hr hlocks ((if_neg (fun h => absurd ((lg_cmp_ge _ _).mp c1) (Int64.not_le.mpr h))).symm) (by decide) d_MO_isLess_19
  · refine lv_iconst (v := 1) hx hb d_MO_isLess_14 (by decide) ?_
    refine lv_goto (tgt := 19) hx hb d_MO_isLess_15 (by decide) ?_
    exact e_z hx hb hr hlocks ((if_pos (Int64.not_le.mp (fun h => c1 ((lg_cmp_ge _ _).mpr h)))).symm) (by decide) d_MO_isLess_19
theorem d_PT_isGreater_0 : decode b_PT_isGreater 0 = .ok (.aload_n 0, 1) := by decide +kernel
theorem d_PT_isGreater_1 : decode b_PT_isGreater 1 = .ok (.getfield 7, 3) := by decide +kernel
theorem d_PT_isGreater_4 : decode b_PT_isGreater 4 = .ok (.ldc2_w 25, 3) := by decide +kernel
theorem d_PT_isGreater_7 : decode b_PT_isGreater 7 = .ok (.lxor, 1) := by decide +kernel
theorem d_PT_isGreater_8 : decode b_PT_isGreater 8 = .ok (.aload_n 1, 1) := by decide +kernel
theorem d_PT_isGreater_9 : decode b_PT_isGreater 9 = .ok (.getfield 7, 3) := by decide +kernel
theorem d_PT_isGreater_12 : decode b_PT_isGreater 12 = .ok (.ldc2_w 25, 3) := by decide +kernel
theorem d_PT_isGreater_15 : decode b_PT_isGreater 15 = .ok (.lxor, 1) := by decide +kernel
theorem d_PT_isGreater_16 : decode b_PT_isGreater 16 = .ok (.lcmp, 1) := by decide +kernel
theorem d_PT_isGreater_17 : decode b_PT_isGreater 17 = .ok (.ifCond .le 7, 3) := by decide +kernel
theorem d_PT_isGreater_20 : decode b_PT_isGreater 20 = .ok (.iconst 1, 1) := by decide +kernel
theorem d_PT_isGreater_21 : decode b_PT_isGreater 21 = .ok (.goto 4, 3) := by decide +kernel
theorem d_PT_isGreater_24 : decode b_PT_isGreater 24 = .ok (.iconst 0, 1) := by decide +kernel
theorem d_PT_isGreater_25 : decode b_PT_isGreater 25 = .ok (.ireturn, 1) := by decide +kernel
abbrev rm_PT_isGreater : Room := { frames := 0, cells := 0, slots := 0, locals := 0 }
set_option maxHeartbeats 4000000 in
set_option maxRecDepth 100000 in
theorem c_PT_isGreater (l : Launch) (D : va_G) (a b : Nat) (z z2 : Int64) (f f2 : Int32) : Met l y_PT_isGreater (Cond.code y_PT_isGreater b_PT_isGreater 2 (some .boolean) :: gw) rm_PT_isGreater (cP D [.ref a, .ref b] (fun H => ob D 2 a [.long z, .int f] H ∧ ob D 2 b [.long z2, .int f2] H)) (rV (.int (p_gtb z z2))) 0 0 (fun _ => False) := by
  refine mt_B (by decide) (Nat.le_of_ble_eq_true rfl) ?_
  intro p e s m below meth c ls ⟨hx, hb, hr, hlocks, hin, hml, hown, hg⟩ ⟨hk, hp⟩ hl
  have hown : s.vm.findClass R_PT = some m.cls := hown
  have hl : lv_has ls 2 [(0, .ref a), (1, .ref b)] := hl
  refine lv_aload_n hx hb d_PT_isGreater_0 rfl (lv_at hl 0 rfl) ?_
  refine x_get hx hb hg hown hk hp.1 rfl i_PT 0 (by decide) w_97 rfl d_PT_isGreater_1 ?_
  refine lv_ldc2 hx hb hown (hg _ w_190) d_PT_isGreater_4 ?_
  refine lv_lxor hx hb d_PT_isGreater_7 ?_
  refine lv_aload_n hx hb d_PT_isGreater_8 rfl (lv_at hl 1 rfl) ?_
  refine x_get hx hb hg hown hk hp.2 rfl i_PT 0 (by decide) w_97 rfl d_PT_isGreater_9 ?_
  refine lv_ldc2 hx hb hown (hg _ w_190) d_PT_isGreater_12 ?_
  refine lv_lxor hx hb d_PT_isGreater_15 ?_
  refine W.lcmp hx hb d_PT_isGreater_16 ?_
  refine lv_if_le (tgt := 24) hx hb d_PT_isGreater_17 (by decide) (fun c1 => ?_) (fun c1 => ?_)
  · refine lv_iconst (v := 0) hx hb d_PT_isGreater_24 (by decide) ?_
    exact e_z hx hb hr hlocks ((if_neg (fun h => absurd ((lg_cmp_le _ _).mp c1) (Int64.not_le.mpr h))).symm) (by decide) d_PT_isGreater_25
  · refine lv_iconst (v := 1) hx hb d_PT_isGreater_20 (by decide) ?_
    refine lv_goto (tgt := 25) hx hb d_PT_isGreater_21 (by decide) ?_
    exact e_z hx hb hr hlocks ((if_pos (Int64.not_le.mp (fun h => c1 ((lg_cmp_le _ _).mpr h)))).symm) (by decide) d_PT_isGreater_25
theorem d_MO_fact_0 : decode b_MO_fact 0 = .ok (.iload_n 2, 1) := by decide +kernel
theorem d_MO_fact_1 : decode b_MO_fact 1 = .ok (.iconst 1, 1) := by decide +kernel
theorem d_MO_fact_2 : decode b_MO_fact 2 = .ok (.if_icmp .ne 12, 3) := by decide +kernel
theorem d_MO_fact_5 : decode b_MO_fact 5 = .ok (.lload_n 0, 1) := by decide +kernel
theorem d_MO_fact_6 : decode b_MO_fact 6 = .ok (.bipush 100, 2) := by decide +kernel
theorem d_MO_fact_8 : decode b_MO_fact 8 = .ok (.invokestatic 40, 3) := by decide +kernel
theorem d_MO_fact_11 : decode b_MO_fact 11 = .ok (.goto 46, 3) := by decide +kernel
theorem d_MO_fact_14 : decode b_MO_fact 14 = .ok (.iload_n 2, 1) := by decide +kernel
theorem d_MO_fact_15 : decode b_MO_fact 15 = .ok (.iconst 2, 1) := by decide +kernel
theorem d_MO_fact_16 : decode b_MO_fact 16 = .ok (.if_icmp .ne 16, 3) := by decide +kernel
theorem d_MO_fact_19 : decode b_MO_fact 19 = .ok (.lload_n 0, 1) := by decide +kernel
theorem d_MO_fact_20 : decode b_MO_fact 20 = .ok (.bipush 8, 2) := by decide +kernel
theorem d_MO_fact_22 : decode b_MO_fact 22 = .ok (.lushr, 1) := by decide +kernel
theorem d_MO_fact_23 : decode b_MO_fact 23 = .ok (.sipush 1000, 3) := by decide +kernel
theorem d_MO_fact_26 : decode b_MO_fact 26 = .ok (.invokestatic 40, 3) := by decide +kernel
theorem d_MO_fact_29 : decode b_MO_fact 29 = .ok (.goto 28, 3) := by decide +kernel
theorem d_MO_fact_32 : decode b_MO_fact 32 = .ok (.iload_n 2, 1) := by decide +kernel
theorem d_MO_fact_33 : decode b_MO_fact 33 = .ok (.iconst 3, 1) := by decide +kernel
theorem d_MO_fact_34 : decode b_MO_fact 34 = .ok (.if_icmp .ne 15, 3) := by decide +kernel
theorem d_MO_fact_37 : decode b_MO_fact 37 = .ok (.lload_n 0, 1) := by decide +kernel
theorem d_MO_fact_38 : decode b_MO_fact 38 = .ok (.bipush 24, 2) := by decide +kernel
theorem d_MO_fact_40 : decode b_MO_fact 40 = .ok (.lushr, 1) := by decide +kernel
theorem d_MO_fact_41 : decode b_MO_fact 41 = .ok (.bipush 24, 2) := by decide +kernel
theorem d_MO_fact_43 : decode b_MO_fact 43 = .ok (.invokestatic 40, 3) := by decide +kernel
theorem d_MO_fact_46 : decode b_MO_fact 46 = .ok (.goto 11, 3) := by decide +kernel
theorem d_MO_fact_49 : decode b_MO_fact 49 = .ok (.lload_n 0, 1) := by decide +kernel
theorem d_MO_fact_50 : decode b_MO_fact 50 = .ok (.bipush 40, 2) := by decide +kernel
theorem d_MO_fact_52 : decode b_MO_fact 52 = .ok (.lushr, 1) := by decide +kernel
theorem d_MO_fact_53 : decode b_MO_fact 53 = .ok (.iconst 2, 1) := by decide +kernel
theorem d_MO_fact_54 : decode b_MO_fact 54 = .ok (.invokestatic 40, 3) := by decide +kernel
theorem d_MO_fact_57 : decode b_MO_fact 57 = .ok (.ireturn, 1) := by decide +kernel
abbrev rm_MO_fact : Room := { frames := 1, cells := 0, slots := 0, locals := 24 }
set_option maxHeartbeats 4000000 in
set_option maxRecDepth 100000 in
theorem c_MO_fact (l : Launch) (D : va_G) (z : Int64) (w : Int32) : Met l y_MO_fact (Cond.code y_MO_fact b_MO_fact 3 (some .int) :: gw) rm_MO_fact (cP D [.long z, .int w] (fun _ => True)) (rV (.int (p_fact z w))) 0 0 (fun _ => False) := by
  refine mt_B (by decide) (Nat.le_of_ble_eq_true rfl) ?_
  intro p e s m below meth c ls ⟨hx, hb, hr, hlocks, hin, hml, hown, hg⟩ ⟨hk, hp⟩ hl
  have hown : s.vm.findClass R_MO = some m.cls := hown
  have hl : lv_has ls 3 [(0, .long z), (2, .int w)] := hl
  refine lv_iload_n hx hb d_MO_fact_0 rfl (lv_at hl 1 rfl) ?_
  refine lv_iconst (v := 1) hx hb d_MO_fact_1 (by decide) ?_
  refine lv_icmp_ne (tgt := 14) hx hb d_MO_fact_2 (by decide) (fun c1 => ?_) (fun c1 => ?_)
  · refine lv_iload_n hx hb d_MO_fact_14 rfl (lv_at hl 1 rfl) ?_
    refine lv_iconst (v := 2) hx hb d_MO_fact_15 (by decide) ?_
    refine lv_icmp_ne (tgt := 32) hx hb d_MO_fact_16 (by decide) (fun c2 => ?_) (fun c2 => ?_)
    · refine lv_iload_n hx hb d_MO_fact_32 rfl (lv_at hl 1 rfl) ?_
      refine lv_iconst (v := 3) hx hb d_MO_fact_33 (by decide) ?_
      refine lv_icmp_ne (tgt := 49) hx hb d_MO_fact_34 (by decide) (fun c3 => ?_) (fun c3 => ?_)
      · refine lv_lload_n hx hb d_MO_fact_49 rfl (lv_at hl 0 rfl) ?_
        refine lv_bipush (v := 40) hx hb d_MO_fact_50 (by decide) ?_
        refine lv_lushr (v := ush z 40) hx hb d_MO_fact_52 rfl ?_
        refine lv_iconst (v := 2) hx hb d_MO_fact_53 (by decide) ?_
        refine k_S hx hb hml hown hg hk [.long (ush z 40), .int 2] [] (c_MO_rest l D (ush z 40) 2 (by decide)) z_MO_rest w_370 w_371 (trivial) d_MO_fact_54 rfl rfl ⟨Nat.le_of_ble_eq_true rfl, Nat.le_of_ble_eq_true rfl⟩ rfl hl.1 rfl (Nat.le_of_ble_eq_true rfl) ⟨Nat.zero_le _, Nat.zero_le _⟩ ?_
        exact e_i hx hb hr hlocks (by rw [p_fact, if_neg c1, if_neg c2, if_neg c3]) d_MO_fact_57
      · refine lv_lload_n hx hb d_MO_fact_37 rfl (lv_at hl 0 rfl) ?_
        refine lv_bipush (v := 24) hx hb d_MO_fact_38 (by decide) ?_
        refine lv_lushr (v := ush z 24) hx hb d_MO_fact_40 rfl ?_
        refine lv_bipush (v := 24) hx hb d_MO_fact_41 (by decide) ?_
        refine k_S hx hb hml hown hg hk [.long (ush z 24), .int 24] [] (c_MO_rest l D (ush z 24) 24 (by decide)) z_MO_rest w_370 w_371 (trivial) d_MO_fact_43 rfl rfl ⟨Nat.le_of_ble_eq_true rfl, Nat.le_of_ble_eq_true rfl⟩ rfl hl.1 rfl (Nat.le_of_ble_eq_true rfl) ⟨Nat.zero_le _, Nat.zero_le _⟩ ?_
        refine lv_goto (tgt := 57) hx hb d_MO_fact_46 (by decide) ?_
        exact e_i hx hb hr hlocks (by rw [p_fact, if_neg c1, if_neg c2, if_pos c3]) d_MO_fact_57
    · refine lv_lload_n hx hb d_MO_fact_19 rfl (lv_at hl 0 rfl) ?_
      refine lv_bipush (v := 8) hx hb d_MO_fact_20 (by decide) ?_
      refine lv_lushr (v := ush z 8) hx hb d_MO_fact_22 rfl ?_
      refine lv_sipush (v := 1000) hx hb d_MO_fact_23 (by decide) ?_
      refine k_S hx hb hml hown hg hk [.long (ush z 8), .int 1000] [] (c_MO_rest l D (ush z 8) 1000 (by decide)) z_MO_rest w_370 w_371 (trivial) d_MO_fact_26 rfl rfl ⟨Nat.le_of_ble_eq_true rfl, Nat.le_of_ble_eq_true rfl⟩ rfl hl.1 rfl (Nat.le_of_ble_eq_true rfl) ⟨Nat.zero_le _, Nat.zero_le _⟩ ?_
      refine lv_goto (tgt := 57) hx hb d_MO_fact_29 (by decide) ?_
      exact e_i hx hb hr hlocks (by rw [p_fact, if_neg c1, if_pos c2]) d_MO_fact_57
  · refine lv_lload_n hx hb d_MO_fact_5 rfl (lv_at hl 0 rfl) ?_
    refine lv_bipush (v := 100) hx hb d_MO_fact_6 (by decide) ?_
    refine k_S hx hb hml hown hg hk [.long z, .int 100] [] (c_MO_rest l D z 100 (by decide)) z_MO_rest w_370 w_371 (trivial) d_MO_fact_8 rfl rfl ⟨Nat.le_of_ble_eq_true rfl, Nat.le_of_ble_eq_true rfl⟩ rfl hl.1 rfl (Nat.le_of_ble_eq_true rfl) ⟨Nat.zero_le _, Nat.zero_le _⟩ ?_
    refine lv_goto (tgt := 57) hx hb d_MO_fact_11 (by decide) ?_
    exact e_i hx hb hr hlocks (by rw [p_fact, if_pos c1]) d_MO_fact_57
theorem d_PT_fact_0 : decode b_PT_fact 0 = .ok (.iload_n 1, 1) := by decide +kernel
theorem d_PT_fact_1 : decode b_PT_fact 1 = .ok (.tableswitch 81 0 3 #[31, 44, 54, 68], 31) := by decide +kernel
theorem d_PT_fact_32 : decode b_PT_fact 32 = .ok (.aload_n 0, 1) := by decide +kernel
theorem d_PT_fact_33 : decode b_PT_fact 33 = .ok (.getfield 13, 3) := by decide +kernel
theorem d_PT_fact_36 : decode b_PT_fact 36 = .ok (.ifCond .eq 7, 3) := by decide +kernel
theorem d_PT_fact_39 : decode b_PT_fact 39 = .ok (.iconst 1, 1) := by decide +kernel
theorem d_PT_fact_40 : decode b_PT_fact 40 = .ok (.goto 4, 3) := by decide +kernel
theorem d_PT_fact_43 : decode b_PT_fact 43 = .ok (.iconst 0, 1) := by decide +kernel
theorem d_PT_fact_44 : decode b_PT_fact 44 = .ok (.ireturn, 1) := by decide +kernel
theorem d_PT_fact_45 : decode b_PT_fact 45 = .ok (.aload_n 0, 1) := by decide +kernel
theorem d_PT_fact_46 : decode b_PT_fact 46 = .ok (.getfield 7, 3) := by decide +kernel
theorem d_PT_fact_49 : decode b_PT_fact 49 = .ok (.bipush 100, 2) := by decide +kernel
theorem d_PT_fact_51 : decode b_PT_fact 51 = .ok (.invokestatic 17, 3) := by decide +kernel
theorem d_PT_fact_54 : decode b_PT_fact 54 = .ok (.ireturn, 1) := by decide +kernel
theorem d_PT_fact_55 : decode b_PT_fact 55 = .ok (.aload_n 0, 1) := by decide +kernel
theorem d_PT_fact_56 : decode b_PT_fact 56 = .ok (.getfield 7, 3) := by decide +kernel
theorem d_PT_fact_59 : decode b_PT_fact 59 = .ok (.bipush 8, 2) := by decide +kernel
theorem d_PT_fact_61 : decode b_PT_fact 61 = .ok (.lushr, 1) := by decide +kernel
theorem d_PT_fact_62 : decode b_PT_fact 62 = .ok (.sipush 1000, 3) := by decide +kernel
theorem d_PT_fact_65 : decode b_PT_fact 65 = .ok (.invokestatic 17, 3) := by decide +kernel
theorem d_PT_fact_68 : decode b_PT_fact 68 = .ok (.ireturn, 1) := by decide +kernel
theorem d_PT_fact_69 : decode b_PT_fact 69 = .ok (.aload_n 0, 1) := by decide +kernel
theorem d_PT_fact_70 : decode b_PT_fact 70 = .ok (.getfield 7, 3) := by decide +kernel
theorem d_PT_fact_73 : decode b_PT_fact 73 = .ok (.bipush 24, 2) := by decide +kernel
theorem d_PT_fact_75 : decode b_PT_fact 75 = .ok (.lushr, 1) := by decide +kernel
theorem d_PT_fact_76 : decode b_PT_fact 76 = .ok (.bipush 24, 2) := by decide +kernel
theorem d_PT_fact_78 : decode b_PT_fact 78 = .ok (.invokestatic 17, 3) := by decide +kernel
theorem d_PT_fact_81 : decode b_PT_fact 81 = .ok (.ireturn, 1) := by decide +kernel
theorem d_PT_fact_82 : decode b_PT_fact 82 = .ok (.aload_n 0, 1) := by decide +kernel
theorem d_PT_fact_83 : decode b_PT_fact 83 = .ok (.getfield 7, 3) := by decide +kernel
theorem d_PT_fact_86 : decode b_PT_fact 86 = .ok (.bipush 40, 2) := by decide +kernel
theorem d_PT_fact_88 : decode b_PT_fact 88 = .ok (.lushr, 1) := by decide +kernel
theorem d_PT_fact_89 : decode b_PT_fact 89 = .ok (.iconst 2, 1) := by decide +kernel
theorem d_PT_fact_90 : decode b_PT_fact 90 = .ok (.invokestatic 17, 3) := by decide +kernel
theorem d_PT_fact_93 : decode b_PT_fact 93 = .ok (.ireturn, 1) := by decide +kernel
abbrev rm_PT_fact : Room := { frames := 1, cells := 0, slots := 0, locals := 24 }
set_option maxHeartbeats 4000000 in
set_option maxRecDepth 100000 in
theorem c_PT_fact (l : Launch) (D : va_G) (a : Nat) (z : Int64) (f : Int32) (hf : f = 0 ∨ f = 1) (w : Nat) (hw : w < 5) : Met l y_PT_fact (Cond.code y_PT_fact b_PT_fact 2 (some .int) :: gw) rm_PT_fact (cP D [.ref a, .int (nI w)] (fun H => ob D 2 a [.long z, .int f] H)) (rV (.int (p_pf z f w))) 0 0 (fun _ => False) := by
  refine mt_B (by decide) (Nat.le_of_ble_eq_true rfl) ?_
  intro p e s m below meth c ls ⟨hx, hb, hr, hlocks, hin, hml, hown, hg⟩ ⟨hk, hp⟩ hl
  have hown : s.vm.findClass R_PT = some m.cls := hown
  have hl : lv_has ls 2 [(0, .ref a), (1, .int (nI w))] := hl
  refine lv_iload_n hx hb d_PT_fact_0 rfl (lv_at hl 1 rfl) ?_
  rcases (show w = 0 ∨ w = 1 ∨ w = 2 ∨ w = 3 ∨ w = 4 by omega) with rfl | rfl | rfl | rfl | rfl
  · refine lv_tableIn (tgt := 32) hx hb d_PT_fact_1 (by decide +kernel) (by decide +kernel) (show _ = some 31 by decide +kernel) (by decide) ?_
    refine lv_aload_n hx hb d_PT_fact_32 rfl (lv_at hl 0 rfl) ?_
    refine x_get hx hb hg hown hk hp rfl i_PT 1 (by decide) w_99 rfl d_PT_fact_33 ?_
    refine lv_if_eq (tgt := 43) hx hb d_PT_fact_36 (by decide) (fun c1 => ?_) (fun c1 => ?_)
    · refine lv_iconst (v := 0) hx hb d_PT_fact_43 (by decide) ?_
      exact e_i hx hb hr hlocks (c1.symm) d_PT_fact_44
    · refine lv_iconst (v := 1) hx hb d_PT_fact_39 (by decide) ?_
      refine lv_goto (tgt := 44) hx hb d_PT_fact_40 (by decide) ?_
      exact e_i hx hb hr hlocks ((hf.resolve_left c1).symm) d_PT_fact_44
  · refine lv_tableIn (tgt := 45) hx hb d_PT_fact_1 (by decide +kernel) (by decide +kernel) (show _ = some 44 by decide +kernel) (by decide) ?_
    refine lv_aload_n hx hb d_PT_fact_45 rfl (lv_at hl 0 rfl) ?_
    refine x_get hx hb hg hown hk hp rfl i_PT 0 (by decide) w_97 rfl d_PT_fact_46 ?_
    refine lv_bipush (v := 100) hx hb d_PT_fact_49 (by decide) ?_
    refine k_SN hx hb hml hown hg hk [.long z, .int 100] [] (c_PD_rest l D z 100 (by decide)) z_PD_rest 7 rfl w_228 (trivial) d_PT_fact_51 rfl rfl ⟨Nat.le_of_ble_eq_true rfl, Nat.le_of_ble_eq_true rfl⟩ rfl hl.1 rfl (Nat.le_of_ble_eq_true rfl) ⟨Nat.zero_le _, Nat.zero_le _⟩ ?_
    exact e_i hx hb hr hlocks (rfl) d_PT_fact_54
  · refine lv_tableIn (tgt := 55) hx hb d_PT_fact_1 (by decide +kernel) (by decide +kernel) (show _ = some 54 by decide +kernel) (by decide) ?_
    refine lv_aload_n hx hb d_PT_fact_55 rfl (lv_at hl 0 rfl) ?_
    refine x_get hx hb hg hown hk hp rfl i_PT 0 (by decide) w_97 rfl d_PT_fact_56 ?_
    refine lv_bipush (v := 8) hx hb d_PT_fact_59 (by decide) ?_
    refine lv_lushr (v := ush z 8) hx hb d_PT_fact_61 rfl ?_
    refine lv_sipush (v := 1000) hx hb d_PT_fact_62 (by decide) ?_
    refine k_SN hx hb hml hown hg hk [.long (ush z 8), .int 1000] [] (c_PD_rest l D (ush z 8) 1000 (by decide)) z_PD_rest 7 rfl w_228 (trivial) d_PT_fact_65 rfl rfl ⟨Nat.le_of_ble_eq_true rfl, Nat.le_of_ble_eq_true rfl⟩ rfl hl.1 rfl (Nat.le_of_ble_eq_true rfl) ⟨Nat.zero_le _, Nat.zero_le _⟩ ?_
    exact e_i hx hb hr hlocks (rfl) d_PT_fact_68
  · refine lv_tableIn (tgt := 69) hx hb d_PT_fact_1 (by decide +kernel) (by decide +kernel) (show _ = some 68 by decide +kernel) (by decide) ?_
    refine lv_aload_n hx hb d_PT_fact_69 rfl (lv_at hl 0 rfl) ?_
    refine x_get hx hb hg hown hk hp rfl i_PT 0 (by decide) w_97 rfl d_PT_fact_70 ?_
    refine lv_bipush (v := 24) hx hb d_PT_fact_73 (by decide) ?_
    refine lv_lushr (v := ush z 24) hx hb d_PT_fact_75 rfl ?_
    refine lv_bipush (v := 24) hx hb d_PT_fact_76 (by decide) ?_
    refine k_SN hx hb hml hown hg hk [.long (ush z 24), .int 24] [] (c_PD_rest l D (ush z 24) 24 (by decide)) z_PD_rest 7 rfl w_228 (trivial) d_PT_fact_78 rfl rfl ⟨Nat.le_of_ble_eq_true rfl, Nat.le_of_ble_eq_true rfl⟩ rfl hl.1 rfl (Nat.le_of_ble_eq_true rfl) ⟨Nat.zero_le _, Nat.zero_le _⟩ ?_
    exact e_i hx hb hr hlocks (rfl) d_PT_fact_81
  · refine lv_tableOut (tgt := 82) hx hb d_PT_fact_1 (by decide +kernel) (by decide) ?_
    refine lv_aload_n hx hb d_PT_fact_82 rfl (lv_at hl 0 rfl) ?_
    refine x_get hx hb hg hown hk hp rfl i_PT 0 (by decide) w_97 rfl d_PT_fact_83 ?_
    refine lv_bipush (v := 40) hx hb d_PT_fact_86 (by decide) ?_
    refine lv_lushr (v := ush z 40) hx hb d_PT_fact_88 rfl ?_
    refine lv_iconst (v := 2) hx hb d_PT_fact_89 (by decide) ?_
    refine k_SN hx hb hml hown hg hk [.long (ush z 40), .int 2] [] (c_PD_rest l D (ush z 40) 2 (by decide)) z_PD_rest 7 rfl w_228 (trivial) d_PT_fact_90 rfl rfl ⟨Nat.le_of_ble_eq_true rfl, Nat.le_of_ble_eq_true rfl⟩ rfl hl.1 rfl (Nat.le_of_ble_eq_true rfl) ⟨Nat.zero_le _, Nat.zero_le _⟩ ?_
    exact e_i hx hb hr hlocks (rfl) d_PT_fact_93
theorem d_AL_size_0 : decode b_AL_size 0 = .ok (.aload_n 0, 1) := by decide +kernel
theorem d_AL_size_1 : decode b_AL_size 1 = .ok (.getfield 48, 3) := by decide +kernel
theorem d_AL_size_4 : decode b_AL_size 4 = .ok (.ireturn, 1) := by decide +kernel
abbrev rm_AL_size : Room := { frames := 0, cells := 0, slots := 0, locals := 0 }
set_option maxHeartbeats 4000000 in
set_option maxRecDepth 100000 in
theorem c_AL_size (l : Launch) (D : va_G) (a arr : Nat) (v mc : Int32) : Met l y_AL_size (Cond.code y_AL_size b_AL_size 1 (some .int) :: gw) rm_AL_size (cP D [.ref a] (fun H => ob D 4 a [.ref arr, .int v, .int mc] H)) (rV (.int v)) 0 0 (fun _ => False) := by
  refine mt_B (by decide) (Nat.le_of_ble_eq_true rfl) ?_
  intro p e s m below meth c ls ⟨hx, hb, hr, hlocks, hin, hml, hown, hg⟩ ⟨hk, hp⟩ hl
  have hown : s.vm.findClass R_AL = some m.cls := hown
  have hl : lv_has ls 1 [(0, .ref a)] := hl
  refine lv_aload_n hx hb d_AL_size_0 rfl (lv_at hl 0 rfl) ?_
  refine x_get hx hb hg hown hk hp rfl i_AL 1 (by decide) w_38 rfl d_AL_size_1 ?_
  exact e_i hx hb hr hlocks (rfl) d_AL_size_4
theorem d_PC_checkIndex_0 : decode b_PC_checkIndex 0 = .ok (.iload_n 0, 1) := by decide +kernel
theorem d_PC_checkIndex_1 : decode b_PC_checkIndex 1 = .ok (.ifCond .lt 8, 3) := by decide +kernel
theorem d_PC_checkIndex_4 : decode b_PC_checkIndex 4 = .ok (.iload_n 0, 1) := by decide +kernel
theorem d_PC_checkIndex_5 : decode b_PC_checkIndex 5 = .ok (.iload_n 1, 1) := by decide +kernel
theorem d_PC_checkIndex_6 : decode b_PC_checkIndex 6 = .ok (.if_icmp .lt 10, 3) := by decide +kernel
theorem d_PC_checkIndex_9 : decode b_PC_checkIndex 9 = .ok (.aload_n 2, 1) := by decide +kernel
theorem d_PC_checkIndex_10 : decode b_PC_checkIndex 10 = .ok (.iload_n 0, 1) := by decide +kernel
theorem d_PC_checkIndex_11 : decode b_PC_checkIndex 11 = .ok (.iload_n 1, 1) := by decide +kernel
theorem d_PC_checkIndex_12 : decode b_PC_checkIndex 12 = .ok (.invokestatic 95, 3) := by decide +kernel
theorem d_PC_checkIndex_15 : decode b_PC_checkIndex 15 = .ok (.athrow, 1) := by decide +kernel
theorem d_PC_checkIndex_16 : decode b_PC_checkIndex 16 = .ok (.iload_n 0, 1) := by decide +kernel
theorem d_PC_checkIndex_17 : decode b_PC_checkIndex 17 = .ok (.ireturn, 1) := by decide +kernel
abbrev rm_PC_checkIndex : Room := { frames := 0, cells := 0, slots := 0, locals := 0 }
set_option maxHeartbeats 4000000 in
set_option maxRecDepth 100000 in
theorem c_PC_checkIndex (l : Launch) (D : va_G) (i n : Nat) (hi : i < n) (hn : n < 2 ^ 31) : Met l y_PC_checkIndex (Cond.code y_PC_checkIndex b_PC_checkIndex 3 (some .int) :: gw) rm_PC_checkIndex (cP D [.int (nI i), .int (nI n), .null] (fun _ => True)) (rV (.int (nI i))) 0 0 (fun _ => False) := by
  refine mt_B (by decide) (Nat.le_of_ble_eq_true rfl) ?_
  intro p e s m below meth c ls ⟨hx, hb, hr, hlocks, hin, hml, hown, hg⟩ ⟨hk, hp⟩ hl
  have hown : s.vm.findClass R_PC = some m.cls := hown
  have hl : lv_has ls 3 [(0, .int (nI i)), (1, .int (nI n)), (2, .null)] := hl
  refine lv_iload_n hx hb d_PC_checkIndex_0 rfl (lv_at hl 0 rfl) ?_
  refine lv_if_lt (tgt := 9) hx hb d_PC_checkIndex_1 (by decide) (fun c1 => absurd c1 (nI_pos (Nat.lt_trans hi hn))) (fun c1 => ?_)
  refine lv_iload_n hx hb d_PC_checkIndex_4 rfl (lv_at hl 0 rfl) ?_
  refine lv_iload_n hx hb d_PC_checkIndex_5 rfl (lv_at hl 1 rfl) ?_
  refine lv_icmp_lt (tgt := 16) hx hb d_PC_checkIndex_6 (by decide) (fun c2 => ?_) (fun c2 => absurd (nI_lt hi hn) c2)
  refine lv_iload_n hx hb d_PC_checkIndex_16 rfl (lv_at hl 0 rfl) ?_
  exact e_i hx hb hr hlocks (rfl) d_PC_checkIndex_17
theorem d_OB_checkIndex_0 : decode b_OB_checkIndex 0 = .ok (.iload_n 0, 1) := by decide +kernel
theorem d_OB_checkIndex_1 : decode b_OB_checkIndex 1 = .ok (.iload_n 1, 1) := by decide +kernel
theorem d_OB_checkIndex_2 : decode b_OB_checkIndex 2 = .ok (.aconst_null, 1) := by decide +kernel
theorem d_OB_checkIndex_3 : decode b_OB_checkIndex 3 = .ok (.invokestatic 105, 3) := by decide +kernel
theorem d_OB_checkIndex_6 : decode b_OB_checkIndex 6 = .ok (.ireturn, 1) := by decide +kernel
abbrev rm_OB_checkIndex : Room := { frames := 1, cells := 0, slots := 0, locals := 22 }
set_option maxHeartbeats 4000000 in
set_option maxRecDepth 100000 in
theorem c_OB_checkIndex (l : Launch) (D : va_G) (i n : Nat) (hi : i < n) (hn : n < 2 ^ 31) : Met l y_OB_checkIndex (Cond.code y_OB_checkIndex b_OB_checkIndex 2 (some .int) :: gw) rm_OB_checkIndex (cP D [.int (nI i), .int (nI n)] (fun _ => True)) (rV (.int (nI i))) 0 0 (fun _ => False) := by
  refine mt_B (by decide) (Nat.le_of_ble_eq_true rfl) ?_
  intro p e s m below meth c ls ⟨hx, hb, hr, hlocks, hin, hml, hown, hg⟩ ⟨hk, hp⟩ hl
  have hown : s.vm.findClass R_OB = some m.cls := hown
  have hl : lv_has ls 2 [(0, .int (nI i)), (1, .int (nI n))] := hl
  refine lv_iload_n hx hb d_OB_checkIndex_0 rfl (lv_at hl 0 rfl) ?_
  refine lv_iload_n hx hb d_OB_checkIndex_1 rfl (lv_at hl 1 rfl) ?_
  refine lv_null hx hb d_OB_checkIndex_2 ?_
  refine k_S hx hb hml hown hg hk [.int (nI i), .int (nI n), .null] [] (c_PC_checkIndex l D i n hi hn) z_PC_checkIndex w_175 w_176 (trivial) d_OB_checkIndex_3 rfl rfl ⟨Nat.le_of_ble_eq_true rfl, Nat.le_of_ble_eq_true rfl⟩ rfl hl.1 rfl (Nat.le_of_ble_eq_true rfl) ⟨Nat.zero_le _, Nat.zero_le _⟩ ?_
  exact e_i hx hb hr hlocks (rfl) d_OB_checkIndex_6
theorem d_AL_elementData_0 : decode b_AL_elementData 0 = .ok (.aload_n 0, 1) := by decide +kernel
theorem d_AL_elementData_1 : decode b_AL_elementData 1 = .ok (.getfield 9, 3) := by decide +kernel
theorem d_AL_elementData_4 : decode b_AL_elementData 4 = .ok (.iload_n 1, 1) := by decide +kernel
theorem d_AL_elementData_5 : decode b_AL_elementData 5 = .ok (.aaload, 1) := by decide +kernel
theorem d_AL_elementData_6 : decode b_AL_elementData 6 = .ok (.areturn, 1) := by decide +kernel
abbrev rm_AL_elementData : Room := { frames := 0, cells := 0, slots := 0, locals := 0 }
set_option maxHeartbeats 4000000 in
set_option maxRecDepth 100000 in
theorem c_AL_elementData (l : Launch) (D : va_G) (a arr cap i v : Nat) (sz mc : Int32) (f : Nat → Option Nat) (hi : i < cap) (hc : cap < 2 ^ 31) (hf : f i = some v) : Met l y_AL_elementData (Cond.code y_AL_elementData b_AL_elementData 2 (some (.object "java/lang/Object")) :: gw) rm_AL_elementData (cP D [.ref a, .int (nI i)] (fun H => ob D 4 a [.ref arr, .int sz, .int mc] H ∧ aq D arr cap f H)) (rV (.ref v)) 0 0 (fun _ => False) := by
  refine mt_B (by decide) (Nat.le_of_ble_eq_true rfl) ?_
  intro p e s m below meth c ls ⟨hx, hb, hr, hlocks, hin, hml, hown, hg⟩ ⟨hk, hp⟩ hl
  have hown : s.vm.findClass R_AL = some m.cls := hown
  have hl : lv_has ls 2 [(0, .ref a), (1, .int (nI i))] := hl
  refine lv_aload_n hx hb d_AL_elementData_0 rfl (lv_at hl 0 rfl) ?_
  refine x_get hx hb hg hown hk hp.1 rfl i_AL 0 (by decide) w_37 rfl d_AL_elementData_1 ?_
  refine lv_iload_n hx hb d_AL_elementData_4 rfl (lv_at hl 1 rfl) ?_
  refine va_aldq hx hb hk.1 (p_1 hp.2) 0 0 rfl rfl (vp_in_nI hi hc) d_AL_elementData_5 ?_
  exact e_r (r := some v) hx hb hr (Or.inl ⟨_, rfl⟩) hlocks (by rw [nI_clamp (Nat.lt_trans hi hc), hf]) d_AL_elementData_6
theorem d_AL_get_0 : decode b_AL_get 0 = .ok (.iload_n 1, 1) := by decide +kernel
theorem d_AL_get_1 : decode b_AL_get 1 = .ok (.aload_n 0, 1) := by decide +kernel
theorem d_AL_get_2 : decode b_AL_get 2 = .ok (.getfield 48, 3) := by decide +kernel
theorem d_AL_get_5 : decode b_AL_get 5 = .ok (.invokestatic 118, 3) := by decide +kernel
theorem d_AL_get_8 : decode b_AL_get 8 = .ok (.pop, 1) := by decide +kernel
theorem d_AL_get_9 : decode b_AL_get 9 = .ok (.aload_n 0, 1) := by decide +kernel
theorem d_AL_get_10 : decode b_AL_get 10 = .ok (.iload_n 1, 1) := by decide +kernel
theorem d_AL_get_11 : decode b_AL_get 11 = .ok (.invokevirtual 123, 3) := by decide +kernel
theorem d_AL_get_14 : decode b_AL_get 14 = .ok (.areturn, 1) := by decide +kernel
abbrev rm_AL_get : Room := { frames := 2, cells := 0, slots := 0, locals := 43 }
set_option maxHeartbeats 4000000 in
set_option maxRecDepth 100000 in
theorem c_AL_get (l : Launch) (D : va_G) (a arr n cap i v : Nat) (mc : Int32) (f : Nat → Option Nat) (hi : i < n) (hn : n ≤ cap) (hc : cap < 2 ^ 31) (hf : f i = some v) : Met l y_AL_get (Cond.code y_AL_get b_AL_get 2 (some (.object "java/lang/Object")) :: gw) rm_AL_get (cP D [.ref a, .int (nI i)] (fun H => ob D 4 a [.ref arr, .int (nI n), .int mc] H ∧ aq D arr cap f H)) (rV (.ref v)) 0 0 (fun _ => False) := by
  refine mt_B (by decide) (Nat.le_of_ble_eq_true rfl) ?_
  intro p e s m below meth c ls ⟨hx, hb, hr, hlocks, hin, hml, hown, hg⟩ ⟨hk, hp⟩ hl
  have hown : s.vm.findClass R_AL = some m.cls := hown
  have hl : lv_has ls 2 [(0, .ref a), (1, .int (nI i))] := hl
  refine lv_iload_n hx hb d_AL_get_0 rfl (lv_at hl 1 rfl) ?_
  refine lv_aload_n hx hb d_AL_get_1 rfl (lv_at hl 0 rfl) ?_
  refine x_get hx hb hg hown hk hp.1 rfl i_AL 1 (by decide) w_38 rfl d_AL_get_2 ?_
  refine k_S hx hb hml hown hg hk [.int (nI i), .int (nI n)] [] (c_OB_checkIndex l D i n hi (Nat.lt_of_le_of_lt hn hc)) z_OB_checkIndex w_172 w_173 (trivial) d_AL_get_5 rfl rfl ⟨Nat.le_of_ble_eq_true rfl, Nat.le_of_ble_eq_true rfl⟩ rfl hl.1 rfl (Nat.le_of_ble_eq_true rfl) ⟨Nat.zero_le _, Nat.zero_le _⟩ ?_
  refine lv_pop hx hb d_AL_get_8 rfl ?_
  refine lv_aload_n hx hb d_AL_get_9 rfl (lv_at hl 0 rfl) ?_
  refine lv_iload_n hx hb d_AL_get_10 rfl (lv_at hl 1 rfl) ?_
  refine k_V hx hb hml hown hg hk a [.int (nI i)] [] (c_AL_elementData l D a arr cap i v (nI n) mc f (Nat.lt_of_lt_of_le hi hn) hc hf) z_AL_elementData w_178 w_179 w_180 (rc_ob hk hp.1 rfl) (hp) d_AL_get_11 rfl rfl ⟨Nat.le_of_ble_eq_true rfl, Nat.le_of_ble_eq_true rfl⟩ rfl hl.1 rfl (Nat.le_of_ble_eq_true rfl) ⟨Nat.zero_le _, Nat.zero_le _⟩ ?_
  exact e_r (r := some v) hx hb hr (Or.inl ⟨_, rfl⟩) hlocks rfl d_AL_get_14
theorem d_AS_newLength_0 : decode b_AS_newLength 0 = .ok (.iload_n 0, 1) := by decide +kernel
theorem d_AS_newLength_1 : decode b_AS_newLength 1 = .ok (.iload_n 1, 1) := by decide +kernel
theorem d_AS_newLength_2 : decode b_AS_newLength 2 = .ok (.iload_n 2, 1) := by decide +kernel
theorem d_AS_newLength_3 : decode b_AS_newLength 3 = .ok (.invokestatic 194, 3) := by decide +kernel
theorem d_AS_newLength_6 : decode b_AS_newLength 6 = .ok (.iadd, 1) := by decide +kernel
theorem d_AS_newLength_7 : decode b_AS_newLength 7 = .ok (.istore_n 3, 1) := by decide +kernel
theorem d_AS_newLength_8 : decode b_AS_newLength 8 = .ok (.iconst 0, 1) := by decide +kernel
theorem d_AS_newLength_9 : decode b_AS_newLength 9 = .ok (.iload_n 3, 1) := by decide +kernel
theorem d_AS_newLength_10 : decode b_AS_newLength 10 = .ok (.if_icmp .ge 11, 3) := by decide +kernel
theorem d_AS_newLength_13 : decode b_AS_newLength 13 = .ok (.iload_n 3, 1) := by decide +kernel
theorem d_AS_newLength_14 : decode b_AS_newLength 14 = .ok (.ldc 200, 2) := by decide +kernel
theorem d_AS_newLength_16 : decode b_AS_newLength 16 = .ok (.if_icmp .gt 5, 3) := by decide +kernel
theorem d_AS_newLength_19 : decode b_AS_newLength 19 = .ok (.iload_n 3, 1) := by decide +kernel
theorem d_AS_newLength_20 : decode b_AS_newLength 20 = .ok (.ireturn, 1) := by decide +kernel
theorem d_AS_newLength_21 : decode b_AS_newLength 21 = .ok (.iload_n 0, 1) := by decide +kernel
theorem d_AS_newLength_22 : decode b_AS_newLength 22 = .ok (.iload_n 1, 1) := by decide +kernel
theorem d_AS_newLength_23 : decode b_AS_newLength 23 = .ok (.invokestatic 201, 3) := by decide +kernel
theorem d_AS_newLength_26 : decode b_AS_newLength 26 = .ok (.ireturn, 1) := by decide +kernel
abbrev rm_AS_newLength : Room := { frames := 1, cells := 0, slots := 0, locals := 30 }
set_option maxHeartbeats 4000000 in
set_option maxRecDepth 100000 in
theorem c_AS_newLength (l : Launch) (D : va_G) (o g q : Nat) (h0 : 0 < o + max g q) (h1 : o + max g q < 2 ^ 30) : Met l y_AS_newLength (Cond.code y_AS_newLength b_AS_newLength 4 (some .int) :: gw) rm_AS_newLength (cP D [.int (nI o), .int (nI g), .int (nI q)] (fun _ => True)) (rV (.int (nI (o + max g q)))) 0 0 (fun _ => False) := by
  refine mt_B (by decide) (Nat.le_of_ble_eq_true rfl) ?_
  intro p e s m below meth c ls ⟨hx, hb, hr, hlocks, hin, hml, hown, hg⟩ ⟨hk, hp⟩ hl
  have hown : s.vm.findClass R_AS = some m.cls := hown
  have hl : lv_has ls 4 [(0, .int (nI o)), (1, .int (nI g)), (2, .int (nI q))] := hl
  refine lv_iload_n hx hb d_AS_newLength_0 rfl (lv_at hl 0 rfl) ?_
  refine lv_iload_n hx hb d_AS_newLength_1 rfl (lv_at hl 1 rfl) ?_
  refine lv_iload_n hx hb d_AS_newLength_2 rfl (lv_at hl 2 rfl) ?_
  refine va_mmax hx hb (hml.trans hl.1.symm) hown (hg _ w_126) (hg _ w_127) (hg _ w_9) (hg _ w_128) (Nat.le_of_ble_eq_true rfl) (Nat.le_of_ble_eq_true rfl) (Nat.zero_le _) (Nat.zero_le _) d_AS_newLength_3 ?_
  rw [p_max (by omega) (by omega)]
  refine lv_iadd hx hb d_AS_newLength_6 ?_
  rw [nI_add]
  refine lv_istore_n (lv' := [(3, .int (nI (o + max g q))), (0, .int (nI o)), (1, .int (nI g)), (2, .int (nI q))]) hx hb d_AS_newLength_7 rfl hl (by decide) rfl (fun ls hl => ?_)
  refine lv_iconst (v := 0) hx hb d_AS_newLength_8 (by decide) ?_
  refine lv_iload_n hx hb d_AS_newLength_9 rfl (lv_at hl 0 rfl) ?_
  refine lv_icmp_ge (tgt := 21) hx hb d_AS_newLength_10 (by decide) (fun c1 => absurd (show nI (o + max g q) ≤ nI 0 from c1) (nI_ge h0 (by omega))) (fun c1 => ?_)
  refine lv_iload_n hx hb d_AS_newLength_13 rfl (lv_at hl 0 rfl) ?_
  refine lv_ldc hx hb hown (hg _ w_129) d_AS_newLength_14 ?_
  refine lv_icmp_gt (tgt := 21) hx hb d_AS_newLength_16 (by decide) (fun c2 => absurd (show nI 2147483639 < nI (o + max g q) from c2) (nI_nlt (by omega) (by omega))) (fun c2 => ?_)
  refine lv_iload_n hx hb d_AS_newLength_19 rfl (lv_at hl 0 rfl) ?_
  exact e_i hx hb hr hlocks (rfl) d_AS_newLength_20
end
section
/-! MODEL: what only reads (printed by gen/mread.py) -/
abbrev mo (D : va_G) (g0 a1 a2 a3 : Nat) (th : Int32) (sd db : Int64) (pr kd lf ns : Int32) (vb vt ik : Nat → Int32) : va_W := [(g0, .inr (5, [.int th, .long sd, .long db, .int pr, .int kd, .int lf, .int ns, .ref a1, .ref a2, .ref a3])), (a1, .inl (D.1 7, 100, .inl vb)), (a2, .inl (D.1 8, 100, .inl vt)), (a3, .inl (D.1 7, 10, .inl ik))]
theorem d_MO_hasFaults_0 : decode b_MO_hasFaults 0 = .ok (.iconst 0, 1) := by decide +kernel
theorem d_MO_hasFaults_1 : decode b_MO_hasFaults 1 = .ok (.istore 5, 2) := by decide +kernel
theorem d_MO_hasFaults_3 : decode b_MO_hasFaults 3 = .ok (.lload_n 0, 1) := by decide +kernel
theorem d_MO_hasFaults_4 : decode b_MO_hasFaults 4 = .ok (.iload_n 2, 1) := by decide +kernel
theorem d_MO_hasFaults_5 : decode b_MO_hasFaults 5 = .ok (.iload 4, 2) := by decide +kernel
theorem d_MO_hasFaults_7 : decode b_MO_hasFaults 7 = .ok (.invokestatic 44, 3) := by decide +kernel
theorem d_MO_hasFaults_10 : decode b_MO_hasFaults 10 = .ok (.lstore 6, 2) := by decide +kernel
theorem d_MO_hasFaults_12 : decode b_MO_hasFaults 12 = .ok (.iconst 0, 1) := by decide +kernel
theorem d_MO_hasFaults_13 : decode b_MO_hasFaults 13 = .ok (.istore 8, 2) := by decide +kernel
theorem d_MO_hasFaults_15 : decode b_MO_hasFaults 15 = .ok (.iload 8, 2) := by decide +kernel
theorem d_MO_hasFaults_17 : decode b_MO_hasFaults 17 = .ok (.iload_n 3, 1) := by decide +kernel
theorem d_MO_hasFaults_18 : decode b_MO_hasFaults 18 = .ok (.if_icmp .ge 54, 3) := by decide +kernel
theorem d_MO_hasFaults_21 : decode b_MO_hasFaults 21 = .ok (.lload_n 0, 1) := by decide +kernel
theorem d_MO_hasFaults_22 : decode b_MO_hasFaults 22 = .ok (.iload_n 2, 1) := by decide +kernel
theorem d_MO_hasFaults_23 : decode b_MO_hasFaults 23 = .ok (.iload 8, 2) := by decide +kernel
theorem d_MO_hasFaults_25 : decode b_MO_hasFaults 25 = .ok (.invokestatic 44, 3) := by decide +kernel
theorem d_MO_hasFaults_28 : decode b_MO_hasFaults 28 = .ok (.lstore 9, 2) := by decide +kernel
theorem d_MO_hasFaults_30 : decode b_MO_hasFaults 30 = .ok (.lload 6, 2) := by decide +kernel
theorem d_MO_hasFaults_32 : decode b_MO_hasFaults 32 = .ok (.lload 9, 2) := by decide +kernel
theorem d_MO_hasFaults_34 : decode b_MO_hasFaults 34 = .ok (.invokestatic 48, 3) := by decide +kernel
theorem d_MO_hasFaults_37 : decode b_MO_hasFaults 37 = .ok (.ifCond .ne 18, 3) := by decide +kernel
theorem d_MO_hasFaults_40 : decode b_MO_hasFaults 40 = .ok (.lload 6, 2) := by decide +kernel
theorem d_MO_hasFaults_42 : decode b_MO_hasFaults 42 = .ok (.lload 9, 2) := by decide +kernel
theorem d_MO_hasFaults_44 : decode b_MO_hasFaults 44 = .ok (.lcmp, 1) := by decide +kernel
theorem d_MO_hasFaults_45 : decode b_MO_hasFaults 45 = .ok (.ifCond .ne 17, 3) := by decide +kernel
theorem d_MO_hasFaults_48 : decode b_MO_hasFaults 48 = .ok (.iload 8, 2) := by decide +kernel
theorem d_MO_hasFaults_50 : decode b_MO_hasFaults 50 = .ok (.iload 4, 2) := by decide +kernel
theorem d_MO_hasFaults_52 : decode b_MO_hasFaults 52 = .ok (.if_icmp .le 10, 3) := by decide +kernel
theorem d_MO_hasFaults_55 : decode b_MO_hasFaults 55 = .ok (.iload 5, 2) := by decide +kernel
theorem d_MO_hasFaults_57 : decode b_MO_hasFaults 57 = .ok (.iconst 1, 1) := by decide +kernel
theorem d_MO_hasFaults_58 : decode b_MO_hasFaults 58 = .ok (.iadd, 1) := by decide +kernel
theorem d_MO_hasFaults_59 : decode b_MO_hasFaults 59 = .ok (.goto 5, 3) := by decide +kernel
theorem d_MO_hasFaults_62 : decode b_MO_hasFaults 62 = .ok (.iload 5, 2) := by decide +kernel
theorem d_MO_hasFaults_64 : decode b_MO_hasFaults 64 = .ok (.istore 5, 2) := by decide +kernel
theorem d_MO_hasFaults_66 : decode b_MO_hasFaults 66 = .ok (.iinc 8 1, 3) := by decide +kernel
theorem d_MO_hasFaults_69 : decode b_MO_hasFaults 69 = .ok (.goto (-54), 3) := by decide +kernel
theorem d_MO_hasFaults_72 : decode b_MO_hasFaults 72 = .ok (.iload_n 2, 1) := by decide +kernel
theorem d_MO_hasFaults_73 : decode b_MO_hasFaults 73 = .ok (.iconst 3, 1) := by decide +kernel
theorem d_MO_hasFaults_74 : decode b_MO_hasFaults 74 = .ok (.if_icmp .ne 15, 3) := by decide +kernel
theorem d_MO_hasFaults_77 : decode b_MO_hasFaults 77 = .ok (.iload 5, 2) := by decide +kernel
theorem d_MO_hasFaults_79 : decode b_MO_hasFaults 79 = .ok (.iload_n 3, 1) := by decide +kernel
theorem d_MO_hasFaults_80 : decode b_MO_hasFaults 80 = .ok (.iconst 2, 1) := by decide +kernel
theorem d_MO_hasFaults_81 : decode b_MO_hasFaults 81 = .ok (.idiv, 1) := by decide +kernel
theorem d_MO_hasFaults_82 : decode b_MO_hasFaults 82 = .ok (.if_icmp .ge 7, 3) := by decide +kernel
theorem d_MO_hasFaults_85 : decode b_MO_hasFaults 85 = .ok (.iconst 1, 1) := by decide +kernel
theorem d_MO_hasFaults_86 : decode b_MO_hasFaults 86 = .ok (.goto 4, 3) := by decide +kernel
theorem d_MO_hasFaults_89 : decode b_MO_hasFaults 89 = .ok (.iconst 0, 1) := by decide +kernel
theorem d_MO_hasFaults_90 : decode b_MO_hasFaults 90 = .ok (.ireturn, 1) := by decide +kernel
abbrev rm_MO_hasFaults : Room := { frames := 1, cells := 0, slots := 0, locals := 25 }
set_option maxHeartbeats 4000000 in
set_option maxRecDepth 100000 in
theorem c_MO_hasFaults (l : Launch) (D : va_G) (sd : Int64) (kd : Int32) (n i : Nat) (hn : n < 2 ^ 20) (hi : i < 2 ^ 20) : Met l y_MO_hasFaults (Cond.code y_MO_hasFaults b_MO_hasFaults 11 (some .boolean) :: gw) rm_MO_hasFaults (cP D [.long sd, .int kd, .int (nI n), .int (nI i)] (fun _ => True)) (rV (.int (p_flt sd kd n i))) 0 0 (fun _ => False) := by
  refine mt_B (by decide) (Nat.le_of_ble_eq_true rfl) ?_
  intro p e s m below meth c ls ⟨hx, hb, hr, hlocks, hin, hml, hown, hg⟩ ⟨hk, hp⟩ hl
  have hown : s.vm.findClass R_MO = some m.cls := hown
  have hl : lv_has ls 11 [(0, .long sd), (2, .int kd), (3, .int (nI n)), (4, .int (nI i))] := hl
  refine lv_iconst (v := 0) hx hb d_MO_hasFaults_0 (by decide) ?_
  refine lv_istore (lv' := [(5, .int 0), (0, .long sd), (2, .int kd), (3, .int (nI n)), (4, .int (nI i))]) hx hb d_MO_hasFaults_1 hl (by decide) rfl (fun ls hl => ?_)
  refine lv_lload_n hx hb d_MO_hasFaults_3 rfl (lv_at hl 1 rfl) ?_
  refine lv_iload_n hx hb d_MO_hasFaults_4 rfl (lv_at hl 2 rfl) ?_
  refine lv_iload hx hb d_MO_hasFaults_5 (lv_at hl 4 rfl) ?_
  refine k_S hx hb hml hown hg hk [.long sd, .int kd, .int (nI i)] [] (c_MO_number l D sd kd (nI i)) z_MO_number w_356 w_357 (trivial) d_MO_hasFaults_7 rfl rfl ⟨Nat.le_of_ble_eq_true rfl, Nat.le_of_ble_eq_true rfl⟩ rfl hl.1 rfl (Nat.le_of_ble_eq_true rfl) ⟨Nat.zero_le _, Nat.zero_le _⟩ ?_
  refine lv_lstore (lv' := [(6, .long (p_mix sd kd (nI i))), (5, .int 0), (0, .long sd), (2, .int kd), (3, .int (nI n)), (4, .int (nI i))]) hx hb d_MO_hasFaults_10 hl (by decide) rfl (fun ls hl => ?_)
  refine lv_iconst (v := 0) hx hb d_MO_hasFaults_12 (by decide) ?_
  refine lv_istore (lv' := [(8, .int 0), (6, .long (p_mix sd kd (nI i))), (5, .int 0), (0, .long sd), (2, .int kd), (3, .int (nI n)), (4, .int (nI i))]) hx hb d_MO_hasFaults_13 hl (by decide) rfl (fun ls hl => ?_)
  have loop : ∀ (fu : Nat) (j : Nat) (x8 x5 : Int32), j ≤ n → n - j < fu → x8 = nI j → x5 = nI (p_cnt (fun k => p_mix sd kd (nI k)) i j) → p_cnt (fun k => p_mix sd kd (nI k)) i j ≤ j → ∀ ls : Array Slot, lv_has ls 11 [(8, .int x8), (5, .int x5), (6, .long (p_mix sd kd (nI i))), (0, .long sd), (2, .int kd), (3, .int (nI n)), (4, .int (nI i))] → W p l e rm_MO_hasFaults s m ([.long sd, .int kd, .int (nI n), .int (nI i)] : List Value).toArray below meth c s.heap [] 0 0 (MQ below (rV (.int (p_flt sd kd n i))) ([.long sd, .int kd, .int (nI n), .int (nI i)] : List Value).toArray s 0 0 (fun _ => False)) (F0 m 15 ls []) := by
    intro fu
    induction fu with
    | zero => intro j x8 x5 h1 h2 e8 e5 h5; exact absurd h2 (Nat.not_lt_zero _)
    | succ fu ih =>
      intro j x8 x5 h1 h2 e8 e5 h5 ls hl
      refine lv_iload hx hb d_MO_hasFaults_15 (lv_at hl 0 rfl) ?_
      refine lv_iload_n hx hb d_MO_hasFaults_17 rfl (lv_at hl 5 rfl) ?_
      refine lv_icmp_ge (tgt := 72) hx hb d_MO_hasFaults_18 (by decide) (fun c1 => ?_) (fun c1 => ?_)
      · have hj : j = n := by have := (q_le rfl e8 (by omega) (by omega)).mp c1; omega
        subst hj
        refine lv_iload_n hx hb d_MO_hasFaults_72 rfl (lv_at hl 4 rfl) ?_
        refine lv_iconst (v := 3) hx hb d_MO_hasFaults_73 (by decide) ?_
        refine lv_icmp_ne (tgt := 89) hx hb d_MO_hasFaults_74 (by decide) (fun c2 => ?_) (fun c2 => ?_)
        · refine lv_iconst (v := 0) hx hb d_MO_hasFaults_89 (by decide) ?_
          exact e_z hx hb hr hlocks ((if_neg (fun h => c2 h.1)).symm) (by decide) d_MO_hasFaults_90
        · refine lv_iload hx hb d_MO_hasFaults_77 (lv_at hl 1 rfl) ?_
          refine lv_iload_n hx hb d_MO_hasFaults_79 rfl (lv_at hl 5 rfl) ?_
          refine lv_iconst (v := 2) hx hb d_MO_hasFaults_80 (by decide) ?_
          refine lv_idiv hx hb d_MO_hasFaults_81 (by decide) ?_
          refine lv_icmp_ge (tgt := 89) hx hb d_MO_hasFaults_82 (by decide) (fun c3 => ?_) (fun c3 => ?_)
          · refine lv_iconst (v := 0) hx hb d_MO_hasFaults_89 (by decide) ?_
            exact e_z hx hb hr hlocks ((if_neg (fun h => absurd h.2 (Nat.not_lt.mpr ((q_le (q_half (by omega)) e5 (by omega) (by omega)).mp c3)))).symm) (by decide) d_MO_hasFaults_90
          · refine lv_iconst (v := 1) hx hb d_MO_hasFaults_85 (by decide) ?_
            refine lv_goto (tgt := 90) hx hb d_MO_hasFaults_86 (by decide) ?_
            exact e_z hx hb hr hlocks ((if_pos ⟨c2, Nat.not_le.mp (fun h => c3 ((q_le (q_half (by omega)) e5 (by omega) (by omega)).mpr h))⟩).symm) (by decide) d_MO_hasFaults_90
      · have hj : j < n := Nat.not_le.mp (fun h => c1 ((q_le rfl e8 (by omega) (by omega)).mpr h))
        subst e8
        refine lv_lload_n hx hb d_MO_hasFaults_21 rfl (lv_at hl 3 rfl) ?_
        refine lv_iload_n hx hb d_MO_hasFaults_22 rfl (lv_at hl 4 rfl) ?_
        refine lv_iload hx hb d_MO_hasFaults_23 (lv_at hl 0 rfl) ?_
        refine k_S hx hb hml hown hg hk [.long sd, .int kd, .int (nI j)] [] (c_MO_number l D sd kd (nI j)) z_MO_number w_356 w_357 (trivial) d_MO_hasFaults_25 rfl rfl ⟨Nat.le_of_ble_eq_true rfl, Nat.le_of_ble_eq_true rfl⟩ rfl hl.1 rfl (Nat.le_of_ble_eq_true rfl) ⟨Nat.zero_le _, Nat.zero_le _⟩ ?_
        refine lv_lstore (lv' := [(9, .long (p_mix sd kd (nI j))), (8, .int (nI j)), (5, .int x5), (6, .long (p_mix sd kd (nI i))), (0, .long sd), (2, .int kd), (3, .int (nI n)), (4, .int (nI i))]) hx hb d_MO_hasFaults_28 hl (by decide) rfl (fun ls hl => ?_)
        refine lv_lload hx hb d_MO_hasFaults_30 (lv_at hl 3 rfl) ?_
        refine lv_lload hx hb d_MO_hasFaults_32 (lv_at hl 0 rfl) ?_
        refine k_S hx hb hml hown hg hk [.long (p_mix sd kd (nI i)), .long (p_mix sd kd (nI j))] [] (c_MO_isLess l D (p_mix sd kd (nI i)) (p_mix sd kd (nI j))) z_MO_isLess w_363 w_364 (trivial) d_MO_hasFaults_34 rfl rfl ⟨Nat.le_of_ble_eq_true rfl, Nat.le_of_ble_eq_true rfl⟩ rfl hl.1 rfl (Nat.le_of_ble_eq_true rfl) ⟨Nat.zero_le _, Nat.zero_le _⟩ ?_
        refine lv_if_ne (tgt := 55) hx hb d_MO_hasFaults_37 (by decide) (fun c2 => ?_) (fun c2 => ?_)
        · refine lv_iload hx hb d_MO_hasFaults_55 (lv_at hl 2 rfl) ?_
          refine lv_iconst (v := 1) hx hb d_MO_hasFaults_57 (by decide) ?_
          refine lv_iadd hx hb d_MO_hasFaults_58 ?_
          refine lv_goto (tgt := 64) hx hb d_MO_hasFaults_59 (by decide) ?_
          refine lv_topi (fun y5 ey5 => ?_)
          refine lv_istore (lv' := [(5, .int y5), (9, .long (p_mix sd kd (nI j))), (8, .int (nI j)), (6, .long (p_mix sd kd (nI i))), (0, .long sd), (2, .int kd), (3, .int (nI n)), (4, .int (nI i))]) hx hb d_MO_hasFaults_64 hl (by decide) rfl (fun ls hl => ?_)
          obtain ⟨y8, ey8⟩ : ∃ y : Int32, y = (nI j) + 1 := ⟨_, rfl⟩
          refine lv_iinc (v := y8) (lv' := [(8, .int y8), (5, .int y5), (9, .long (p_mix sd kd (nI j))), (6, .long (p_mix sd kd (nI i))), (0, .long sd), (2, .int kd), (3, .int (nI n)), (4, .int (nI i))]) hx hb d_MO_hasFaults_66 hl (k := 2) rfl (by rw [ey8]; rfl) (by decide) rfl (fun ls hl => ?_)
          refine lv_goto (tgt := 15) hx hb d_MO_hasFaults_69 (by decide) ?_
          exact ih (j + 1) y8 y5 hj (by omega) (by rw [ey8, nI_1]) (by rw [ey5, e5, nI_1, p_cnt_y (p_bef_g (zf := (fun k => p_mix sd kd (nI k))) c2)]) (p_cnt_le _ _ _) ls (lv_sub hl [0, 1, 3, 4, 5, 6, 7] rfl)
        · refine lv_lload hx hb d_MO_hasFaults_40 (lv_at hl 3 rfl) ?_
          refine lv_lload hx hb d_MO_hasFaults_42 (lv_at hl 0 rfl) ?_
          refine W.lcmp hx hb d_MO_hasFaults_44 ?_
          refine lv_if_ne (tgt := 62) hx hb d_MO_hasFaults_45 (by decide) (fun c3 => ?_) (fun c3 => ?_)
          · refine lv_iload hx hb d_MO_hasFaults_62 (lv_at hl 2 rfl) ?_
            refine lv_istore (lv' := [(5, .int x5), (9, .long (p_mix sd kd (nI j))), (8, .int (nI j)), (6, .long (p_mix sd kd (nI i))), (0, .long sd), (2, .int kd), (3, .int (nI n)), (4, .int (nI i))]) hx hb d_MO_hasFaults_64 hl (by decide) rfl (fun ls hl => ?_)
            obtain ⟨y8, ey8⟩ : ∃ y : Int32, y = (nI j) + 1 := ⟨_, rfl⟩
            refine lv_iinc (v := y8) (lv' := [(8, .int y8), (5, .int x5), (9, .long (p_mix sd kd (nI j))), (6, .long (p_mix sd kd (nI i))), (0, .long sd), (2, .int kd), (3, .int (nI n)), (4, .int (nI i))]) hx hb d_MO_hasFaults_66 hl (k := 2) rfl (by rw [ey8]; rfl) (by decide) rfl (fun ls hl => ?_)
            refine lv_goto (tgt := 15) hx hb d_MO_hasFaults_69 (by decide) ?_
            exact ih (j + 1) y8 x5 hj (by omega) (by rw [ey8, nI_1]) (by rw [e5, p_cnt_n (p_bef_n (zf := (fun k => p_mix sd kd (nI k))) c2 (fun h => c3 ((lg_cmp_eq _ _).mpr h.symm)))]) (p_cnt_le _ _ _) ls (lv_sub hl [0, 1, 3, 4, 5, 6, 7] rfl)
          · refine lv_iload hx hb d_MO_hasFaults_48 (lv_at hl 1 rfl) ?_
            refine lv_iload hx hb d_MO_hasFaults_50 (lv_at hl 7 rfl) ?_
            refine lv_icmp_le (tgt := 62) hx hb d_MO_hasFaults_52 (by decide) (fun c4 => ?_) (fun c4 => ?_)
            · refine lv_iload hx hb d_MO_hasFaults_62 (lv_at hl 2 rfl) ?_
              refine lv_istore (lv' := [(5, .int x5), (9, .long (p_mix sd kd (nI j))), (8, .int (nI j)), (6, .long (p_mix sd kd (nI i))), (0, .long sd), (2, .int kd), (3, .int (nI n)), (4, .int (nI i))]) hx hb d_MO_hasFaults_64 hl (by decide) rfl (fun ls hl => ?_)
              obtain ⟨y8, ey8⟩ : ∃ y : Int32, y = (nI j) + 1 := ⟨_, rfl⟩
              refine lv_iinc (v := y8) (lv' := [(8, .int y8), (5, .int x5), (9, .long (p_mix sd kd (nI j))), (6, .long (p_mix sd kd (nI i))), (0, .long sd), (2, .int kd), (3, .int (nI n)), (4, .int (nI i))]) hx hb d_MO_hasFaults_66 hl (k := 2) rfl (by rw [ey8]; rfl) (by decide) rfl (fun ls hl => ?_)
              refine lv_goto (tgt := 15) hx hb d_MO_hasFaults_69 (by decide) ?_
              exact ih (j + 1) y8 x5 hj (by omega) (by rw [ey8, nI_1]) (by rw [e5, p_cnt_n (p_bef_m (zf := (fun k => p_mix sd kd (nI k))) c2 (Nat.not_lt.mpr ((nI_leI (by omega) (by omega)).mp c4)))]) (p_cnt_le _ _ _) ls (lv_sub hl [0, 1, 3, 4, 5, 6, 7] rfl)
            · refine lv_iload hx hb d_MO_hasFaults_55 (lv_at hl 2 rfl) ?_
              refine lv_iconst (v := 1) hx hb d_MO_hasFaults_57 (by decide) ?_
              refine lv_iadd hx hb d_MO_hasFaults_58 ?_
              refine lv_goto (tgt := 64) hx hb d_MO_hasFaults_59 (by decide) ?_
              refine lv_topi (fun y5 ey5 => ?_)
              refine lv_istore (lv' := [(5, .int y5), (9, .long (p_mix sd kd (nI j))), (8, .int (nI j)), (6, .long (p_mix sd kd (nI i))), (0, .long sd), (2, .int kd), (3, .int (nI n)), (4, .int (nI i))]) hx hb d_MO_hasFaults_64 hl (by decide) rfl (fun ls hl => ?_)
              obtain ⟨y8, ey8⟩ : ∃ y : Int32, y = (nI j) + 1 := ⟨_, rfl⟩
              refine lv_iinc (v := y8) (lv' := [(8, .int y8), (5, .int y5), (9, .long (p_mix sd kd (nI j))), (6, .long (p_mix sd kd (nI i))), (0, .long sd), (2, .int kd), (3, .int (nI n)), (4, .int (nI i))]) hx hb d_MO_hasFaults_66 hl (k := 2) rfl (by rw [ey8]; rfl) (by decide) rfl (fun ls hl => ?_)
              refine lv_goto (tgt := 15) hx hb d_MO_hasFaults_69 (by decide) ?_
              exact ih (j + 1) y8 y5 hj (by omega) (by rw [ey8, nI_1]) (by rw [ey5, e5, nI_1, p_cnt_y (p_bef_e (zf := (fun k => p_mix sd kd (nI k))) ((lg_cmp_eq _ _).mp c3).symm (Nat.not_le.mp (fun h => c4 ((nI_leI (by omega) (by omega)).mpr h))))]) (p_cnt_le _ _ _) ls (lv_sub hl [0, 1, 3, 4, 5, 6, 7] rfl)
  exact loop (n + 1) 0 0 0 (Nat.zero_le _) (by omega) nI_0.symm nI_0.symm (Nat.le_refl _) ls (lv_sub hl [0, 2, 1, 3, 4, 5, 6] rfl)
theorem d_MO_countOf_0 : decode b_MO_countOf 0 = .ok (.iconst 0, 1) := by decide +kernel
theorem d_MO_countOf_1 : decode b_MO_countOf 1 = .ok (.istore_n 1, 1) := by decide +kernel
theorem d_MO_countOf_2 : decode b_MO_countOf 2 = .ok (.iconst 0, 1) := by decide +kernel
theorem d_MO_countOf_3 : decode b_MO_countOf 3 = .ok (.istore_n 2, 1) := by decide +kernel
theorem d_MO_countOf_4 : decode b_MO_countOf 4 = .ok (.iload_n 2, 1) := by decide +kernel
theorem d_MO_countOf_5 : decode b_MO_countOf 5 = .ok (.bipush 16, 2) := by decide +kernel
theorem d_MO_countOf_7 : decode b_MO_countOf 7 = .ok (.if_icmp .ge 17, 3) := by decide +kernel
theorem d_MO_countOf_10 : decode b_MO_countOf 10 = .ok (.iload_n 1, 1) := by decide +kernel
theorem d_MO_countOf_11 : decode b_MO_countOf 11 = .ok (.iload_n 0, 1) := by decide +kernel
theorem d_MO_countOf_12 : decode b_MO_countOf 12 = .ok (.iload_n 2, 1) := by decide +kernel
theorem d_MO_countOf_13 : decode b_MO_countOf 13 = .ok (.ishr, 1) := by decide +kernel
theorem d_MO_countOf_14 : decode b_MO_countOf 14 = .ok (.iconst 1, 1) := by decide +kernel
theorem d_MO_countOf_15 : decode b_MO_countOf 15 = .ok (.iand, 1) := by decide +kernel
theorem d_MO_countOf_16 : decode b_MO_countOf 16 = .ok (.iadd, 1) := by decide +kernel
theorem d_MO_countOf_17 : decode b_MO_countOf 17 = .ok (.istore_n 1, 1) := by decide +kernel
theorem d_MO_countOf_18 : decode b_MO_countOf 18 = .ok (.iinc 2 1, 3) := by decide +kernel
theorem d_MO_countOf_21 : decode b_MO_countOf 21 = .ok (.goto (-17), 3) := by decide +kernel
theorem d_MO_countOf_24 : decode b_MO_countOf 24 = .ok (.iload_n 1, 1) := by decide +kernel
theorem d_MO_countOf_25 : decode b_MO_countOf 25 = .ok (.ireturn, 1) := by decide +kernel
abbrev rm_MO_countOf : Room := { frames := 0, cells := 0, slots := 0, locals := 0 }
set_option maxHeartbeats 4000000 in
set_option maxRecDepth 100000 in
theorem c_MO_countOf (l : Launch) (D : va_G) (b : Nat) (hbb : b < 2 ^ 31) : Met l y_MO_countOf (Cond.code y_MO_countOf b_MO_countOf 3 (some .int) :: gw) rm_MO_countOf (cP D [.int (nI b)] (fun _ => True)) (rV (.int (nI (p_pop b 16)))) 0 0 (fun _ => False) := by
  refine mt_B (by decide) (Nat.le_of_ble_eq_true rfl) ?_
  intro p e s m below meth c ls ⟨hx, hb, hr, hlocks, hin, hml, hown, hg⟩ ⟨hk, hp⟩ hl
  have hown : s.vm.findClass R_MO = some m.cls := hown
  have hl : lv_has ls 3 [(0, .int (nI b))] := hl
  refine lv_iconst (v := 0) hx hb d_MO_countOf_0 (by decide) ?_
  refine lv_istore_n (lv' := [(1, .int 0), (0, .int (nI b))]) hx hb d_MO_countOf_1 rfl hl (by decide) rfl (fun ls hl => ?_)
  refine lv_iconst (v := 0) hx hb d_MO_countOf_2 (by decide) ?_
  refine lv_istore_n (lv' := [(2, .int 0), (1, .int 0), (0, .int (nI b))]) hx hb d_MO_countOf_3 rfl hl (by decide) rfl (fun ls hl => ?_)
  have loop : ∀ (fu : Nat) (j : Nat) (x2 x1 : Int32), j ≤ 16 → 16 - j < fu → x2 = nI j → x1 = nI (p_pop b j) → ∀ ls : Array Slot, lv_has ls 3 [(2, .int x2), (1, .int x1), (0, .int (nI b))] → W p l e rm_MO_countOf s m ([.int (nI b)] : List Value).toArray below meth c s.heap [] 0 0 (MQ below (rV (.int (nI (p_pop b 16)))) ([.int (nI b)] : List Value).toArray s 0 0 (fun _ => False)) (F0 m 4 ls []) := by
    intro fu
    induction fu with
    | zero => intro j x2 x1 h1 h2 e2 e1; exact absurd h2 (Nat.not_lt_zero _)
    | succ fu ih =>
      intro j x2 x1 h1 h2 e2 e1 ls hl
      refine lv_iload_n hx hb d_MO_countOf_4 rfl (lv_at hl 0 rfl) ?_
      refine lv_bipush (v := 16) hx hb d_MO_countOf_5 (by decide) ?_
      refine lv_icmp_ge (tgt := 24) hx hb d_MO_countOf_7 (by decide) (fun c1 => ?_) (fun c1 => ?_)
      · refine lv_iload_n hx hb d_MO_countOf_24 rfl (lv_at hl 1 rfl) ?_
        exact e_i hx hb hr hlocks (by rw [e1, show j = 16 by have := (q_le (show (16 : Int32) = nI 16 from rfl) e2 (by omega) (by omega)).mp c1; omega]) d_MO_countOf_25
      · have hj : j < 16 := Nat.not_le.mp (fun h => c1 ((q_le (show (16 : Int32) = nI 16 from rfl) e2 (by omega) (by omega)).mpr h))
        subst e2
        refine lv_iload_n hx hb d_MO_countOf_10 rfl (lv_at hl 1 rfl) ?_
        refine lv_iload_n hx hb d_MO_countOf_11 rfl (lv_at hl 2 rfl) ?_
        refine lv_iload_n hx hb d_MO_countOf_12 rfl (lv_at hl 0 rfl) ?_
        refine lv_ishr hx hb d_MO_countOf_13 ?_
        refine lv_iconst (v := 1) hx hb d_MO_countOf_14 (by decide) ?_
        refine lv_iand hx hb d_MO_countOf_15 ?_
        refine lv_iadd hx hb d_MO_countOf_16 ?_
        refine lv_topi (fun y1 ey1 => ?_)
        refine lv_istore_n (lv' := [(1, .int y1), (2, .int (nI j)), (0, .int (nI b))]) hx hb d_MO_countOf_17 rfl hl (by decide) rfl (fun ls hl => ?_)
        obtain ⟨y2, ey2⟩ : ∃ y : Int32, y = (nI j) + 1 := ⟨_, rfl⟩
        refine lv_iinc (v := y2) (lv' := [(2, .int y2), (1, .int y1), (0, .int (nI b))]) hx hb d_MO_countOf_18 hl (k := 1) rfl (by rw [ey2]; rfl) (by decide) rfl (fun ls hl => ?_)
        refine lv_goto (tgt := 4) hx hb d_MO_countOf_21 (by decide) ?_
        exact ih (j + 1) y2 y1 hj (by omega) (by rw [ey2, nI_1]) (by rw [ey1, e1, q_bit hbb (by omega), nI_add]; rfl) ls (lv_sub hl [0, 1, 2] rfl)
  exact loop 17 0 0 0 (Nat.zero_le _) (by omega) nI_0.symm nI_0.symm ls (lv_sub hl [0, 1, 2] rfl)
theorem d_MO_placeOf_0 : decode b_MO_placeOf 0 = .ok (.iconst (-1), 1) := by decide +kernel
theorem d_MO_placeOf_1 : decode b_MO_placeOf 1 = .ok (.istore_n 2, 1) := by decide +kernel
theorem d_MO_placeOf_2 : decode b_MO_placeOf 2 = .ok (.iconst 0, 1) := by decide +kernel
theorem d_MO_placeOf_3 : decode b_MO_placeOf 3 = .ok (.istore_n 3, 1) := by decide +kernel
theorem d_MO_placeOf_4 : decode b_MO_placeOf 4 = .ok (.iload_n 3, 1) := by decide +kernel
theorem d_MO_placeOf_5 : decode b_MO_placeOf 5 = .ok (.aload_n 0, 1) := by decide +kernel
theorem d_MO_placeOf_6 : decode b_MO_placeOf 6 = .ok (.getfield 68, 3) := by decide +kernel
theorem d_MO_placeOf_9 : decode b_MO_placeOf 9 = .ok (.if_icmp .ge 25, 3) := by decide +kernel
theorem d_MO_placeOf_12 : decode b_MO_placeOf 12 = .ok (.aload_n 0, 1) := by decide +kernel
theorem d_MO_placeOf_13 : decode b_MO_placeOf 13 = .ok (.getfield 7, 3) := by decide +kernel
theorem d_MO_placeOf_16 : decode b_MO_placeOf 16 = .ok (.iload_n 3, 1) := by decide +kernel
theorem d_MO_placeOf_17 : decode b_MO_placeOf 17 = .ok (.iaload, 1) := by decide +kernel
theorem d_MO_placeOf_18 : decode b_MO_placeOf 18 = .ok (.iload_n 1, 1) := by decide +kernel
theorem d_MO_placeOf_19 : decode b_MO_placeOf 19 = .ok (.if_icmp .ne 7, 3) := by decide +kernel
theorem d_MO_placeOf_22 : decode b_MO_placeOf 22 = .ok (.iload_n 3, 1) := by decide +kernel
theorem d_MO_placeOf_23 : decode b_MO_placeOf 23 = .ok (.goto 4, 3) := by decide +kernel
theorem d_MO_placeOf_26 : decode b_MO_placeOf 26 = .ok (.iload_n 2, 1) := by decide +kernel
theorem d_MO_placeOf_27 : decode b_MO_placeOf 27 = .ok (.istore_n 2, 1) := by decide +kernel
theorem d_MO_placeOf_28 : decode b_MO_placeOf 28 = .ok (.iinc 3 1, 3) := by decide +kernel
theorem d_MO_placeOf_31 : decode b_MO_placeOf 31 = .ok (.goto (-27), 3) := by decide +kernel
theorem d_MO_placeOf_34 : decode b_MO_placeOf 34 = .ok (.iload_n 2, 1) := by decide +kernel
theorem d_MO_placeOf_35 : decode b_MO_placeOf 35 = .ok (.ireturn, 1) := by decide +kernel
abbrev rm_MO_placeOf : Room := { frames := 0, cells := 0, slots := 0, locals := 0 }
set_option maxHeartbeats 4000000 in
set_option maxRecDepth 100000 in
theorem c_MO_placeOf (l : Launch) (D : va_G) (g0 a1 a2 a3 : Nat) (th : Int32) (sd db : Int64) (pr kd lf : Int32) (nv : Nat) (hv : nv ≤ 100) (vb vt ik : Nat → Int32) (b : Int32) : Met l y_MO_placeOf (Cond.code y_MO_placeOf b_MO_placeOf 4 (some .int) :: gw) rm_MO_placeOf (cP D [.ref g0, .int b] (va_P D classes (mo D g0 a1 a2 a3 th sd db pr kd lf (nI nv) vb vt ik))) (rV (.int (p_ix (p_at vb b nv)))) 0 0 (fun _ => False) := by
  refine mt_B (by decide) (Nat.le_of_ble_eq_true rfl) ?_
  intro p e s m below meth c ls ⟨hx, hb, hr, hlocks, hin, hml, hown, hg⟩ ⟨hk, hp⟩ hl
  have hown : s.vm.findClass R_MO = some m.cls := hown
  have hl : lv_has ls 4 [(0, .ref g0), (1, .int b)] := hl
  refine lv_iconst (v := -1) hx hb d_MO_placeOf_0 (by decide) ?_
  refine lv_istore_n (lv' := [(2, .int (-1)), (0, .ref g0), (1, .int b)]) hx hb d_MO_placeOf_1 rfl hl (by decide) rfl (fun ls hl => ?_)
  refine lv_iconst (v := 0) hx hb d_MO_placeOf_2 (by decide) ?_
  refine lv_istore_n (lv' := [(3, .int 0), (2, .int (-1)), (0, .ref g0), (1, .int b)]) hx hb d_MO_placeOf_3 rfl hl (by decide) rfl (fun ls hl => ?_)
  have loop : ∀ (fu : Nat) (j : Nat) (x3 x2 : Int32), j ≤ nv → nv - j < fu → x3 = nI j → x2 = p_ix (p_at vb b j) → ∀ ls : Array Slot, lv_has ls 4 [(3, .int x3), (2, .int x2), (0, .ref g0), (1, .int b)] → W p l e rm_MO_placeOf s m ([.ref g0, .int b] : List Value).toArray below meth c s.heap [] 0 0 (MQ below (rV (.int (p_ix (p_at vb b nv)))) ([.ref g0, .int b] : List Value).toArray s 0 0 (fun _ => False)) (F0 m 4 ls []) := by
    intro fu
    induction fu with
    | zero => intro j x3 x2 h1 h2 e3 e2; exact absurd h2 (Nat.not_lt_zero _)
    | succ fu ih =>
      intro j x3 x2 h1 h2 e3 e2 ls hl
      refine lv_iload_n hx hb d_MO_placeOf_4 rfl (lv_at hl 0 rfl) ?_
      refine lv_aload_n hx hb d_MO_placeOf_5 rfl (lv_at hl 2 rfl) ?_
      refine x_get hx hb hg hown hk (hp 0 _ rfl) rfl i_MO 6 (by decide) w_311 rfl d_MO_placeOf_6 ?_
      refine lv_icmp_ge (tgt := 34) hx hb d_MO_placeOf_9 (by decide) (fun c1 => ?_) (fun c1 => ?_)
      · refine lv_iload_n hx hb d_MO_placeOf_34 rfl (lv_at hl 1 rfl) ?_
        exact e_i hx hb hr hlocks (by rw [e2, show j = nv by have := (q_le rfl e3 (by omega) (by omega)).mp c1; omega]) d_MO_placeOf_35
      · have hj : j < nv := Nat.not_le.mp (fun h => c1 ((q_le rfl e3 (by omega) (by omega)).mpr h))
        subst e3
        refine lv_aload_n hx hb d_MO_placeOf_12 rfl (lv_at hl 2 rfl) ?_
        refine x_get hx hb hg hown hk (hp 0 _ rfl) rfl i_MO 7 (by decide) w_312 rfl d_MO_placeOf_13 ?_
        refine lv_iload_n hx hb d_MO_placeOf_16 rfl (lv_at hl 0 rfl) ?_
        refine va_iald hx hb hk.1 hp 1 1 rfl rfl (vp_in_nI (show j < 100 by omega) (by decide)) d_MO_placeOf_17 ?_
        rw [nI_clamp (by omega)]
        refine lv_iload_n hx hb d_MO_placeOf_18 rfl (lv_at hl 3 rfl) ?_
        refine lv_icmp_ne (tgt := 26) hx hb d_MO_placeOf_19 (by decide) (fun c2 => ?_) (fun c2 => ?_)
        · refine lv_iload_n hx hb d_MO_placeOf_26 rfl (lv_at hl 1 rfl) ?_
          refine lv_istore_n (lv' := [(2, .int x2), (3, .int (nI j)), (0, .ref g0), (1, .int b)]) hx hb d_MO_placeOf_27 rfl hl (by decide) rfl (fun ls hl => ?_)
          obtain ⟨y3, ey3⟩ : ∃ y : Int32, y = (nI j) + 1 := ⟨_, rfl⟩
          refine lv_iinc (v := y3) (lv' := [(3, .int y3), (2, .int x2), (0, .ref g0), (1, .int b)]) hx hb d_MO_placeOf_28 hl (k := 1) rfl (by rw [ey3]; rfl) (by decide) rfl (fun ls hl => ?_)
          refine lv_goto (tgt := 4) hx hb d_MO_placeOf_31 (by decide) ?_
          exact ih (j + 1) y3 x2 hj (by omega) (by rw [ey3, nI_1]) (by rw [e2, p_at, if_neg c2]) ls (lv_sub hl [0, 1, 2, 3] rfl)
        · refine lv_iload_n hx hb d_MO_placeOf_22 rfl (lv_at hl 0 rfl) ?_
          refine lv_goto (tgt := 27) hx hb d_MO_placeOf_23 (by decide) ?_
          refine lv_istore_n (lv' := [(2, .int (nI j)), (3, .int (nI j)), (0, .ref g0), (1, .int b)]) hx hb d_MO_placeOf_27 rfl hl (by decide) rfl (fun ls hl => ?_)
          obtain ⟨y3, ey3⟩ : ∃ y : Int32, y = (nI j) + 1 := ⟨_, rfl⟩
          refine lv_iinc (v := y3) (lv' := [(3, .int y3), (2, .int (nI j)), (0, .ref g0), (1, .int b)]) hx hb d_MO_placeOf_28 hl (k := 1) rfl (by rw [ey3]; rfl) (by decide) rfl (fun ls hl => ?_)
          refine lv_goto (tgt := 4) hx hb d_MO_placeOf_31 (by decide) ?_
          exact ih (j + 1) y3 (nI j) hj (by omega) (by rw [ey3, nI_1]) (by rw [p_at, if_pos c2]; rfl) ls (lv_sub hl [0, 1, 2, 3] rfl)
  exact loop (nv + 1) 0 0 (-1) (Nat.zero_le _) (by omega) nI_0.symm rfl ls (lv_sub hl [0, 1, 2, 3] rfl)
theorem d_MO_stays_0 : decode b_MO_stays 0 = .ok (.aload_n 0, 1) := by decide +kernel
theorem d_MO_stays_1 : decode b_MO_stays 1 = .ok (.iload_n 1, 1) := by decide +kernel
theorem d_MO_stays_2 : decode b_MO_stays 2 = .ok (.invokevirtual 78, 3) := by decide +kernel
theorem d_MO_stays_5 : decode b_MO_stays 5 = .ok (.istore_n 2, 1) := by decide +kernel
theorem d_MO_stays_6 : decode b_MO_stays 6 = .ok (.iload_n 2, 1) := by decide +kernel
theorem d_MO_stays_7 : decode b_MO_stays 7 = .ok (.iconst (-1), 1) := by decide +kernel
theorem d_MO_stays_8 : decode b_MO_stays 8 = .ok (.if_icmp .eq 16, 3) := by decide +kernel
theorem d_MO_stays_11 : decode b_MO_stays 11 = .ok (.aload_n 0, 1) := by decide +kernel
theorem d_MO_stays_12 : decode b_MO_stays 12 = .ok (.getfield 13, 3) := by decide +kernel
theorem d_MO_stays_15 : decode b_MO_stays 15 = .ok (.iload_n 2, 1) := by decide +kernel
theorem d_MO_stays_16 : decode b_MO_stays 16 = .ok (.baload, 1) := by decide +kernel
theorem d_MO_stays_17 : decode b_MO_stays 17 = .ok (.ifCond .eq 7, 3) := by decide +kernel
theorem d_MO_stays_20 : decode b_MO_stays 20 = .ok (.iconst 1, 1) := by decide +kernel
theorem d_MO_stays_21 : decode b_MO_stays 21 = .ok (.goto 4, 3) := by decide +kernel
theorem d_MO_stays_24 : decode b_MO_stays 24 = .ok (.iconst 0, 1) := by decide +kernel
theorem d_MO_stays_25 : decode b_MO_stays 25 = .ok (.ireturn, 1) := by decide +kernel
abbrev rm_MO_stays : Room := { frames := 1, cells := 0, slots := 0, locals := 23 }
set_option maxHeartbeats 4000000 in
set_option maxRecDepth 100000 in
theorem c_MO_stays (l : Launch) (D : va_G) (g0 a1 a2 a3 : Nat) (th : Int32) (sd db : Int64) (pr kd lf : Int32) (nv : Nat) (hv : nv ≤ 100) (vb vt ik : Nat → Int32) (ht : ∀ i, i < nv → vt i = 0 ∨ vt i = 1) (b : Int32) : Met l y_MO_stays (Cond.code y_MO_stays b_MO_stays 3 (some .boolean) :: gw) rm_MO_stays (cP D [.ref g0, .int b] (va_P D classes (mo D g0 a1 a2 a3 th sd db pr kd lf (nI nv) vb vt ik))) (rV (.int (p_st vb vt nv b))) 0 0 (fun _ => False) := by
  refine mt_B (by decide) (Nat.le_of_ble_eq_true rfl) ?_
  intro p e s m below meth c ls ⟨hx, hb, hr, hlocks, hin, hml, hown, hg⟩ ⟨hk, hp⟩ hl
  have hown : s.vm.findClass R_MO = some m.cls := hown
  have hl : lv_has ls 3 [(0, .ref g0), (1, .int b)] := hl
  refine lv_aload_n hx hb d_MO_stays_0 rfl (lv_at hl 0 rfl) ?_
  refine lv_iload_n hx hb d_MO_stays_1 rfl (lv_at hl 1 rfl) ?_
  refine k_V hx hb hml hown hg hk g0 [.int b] [] (c_MO_placeOf l D g0 a1 a2 a3 th sd db pr kd lf nv hv vb vt ik b) z_MO_placeOf w_382 w_384 s_MO_placeOf (rc_ob hk (hp 0 _ rfl) rfl) (hp) d_MO_stays_2 rfl rfl ⟨Nat.le_of_ble_eq_true rfl, Nat.le_of_ble_eq_true rfl⟩ rfl hl.1 rfl (Nat.le_of_ble_eq_true rfl) ⟨Nat.zero_le _, Nat.zero_le _⟩ ?_
  cases h1 : p_at vb b nv with
  | none =>
    have hst : p_st vb vt nv b = 0 := by unfold p_st; rw [h1]
    refine lv_istore_n (lv' := [(2, .int (-1)), (0, .ref g0), (1, .int b)]) hx hb d_MO_stays_5 rfl hl (by decide) rfl (fun ls hl => ?_)
    refine lv_iload_n hx hb d_MO_stays_6 rfl (lv_at hl 0 rfl) ?_
    refine lv_iconst (v := -1) hx hb d_MO_stays_7 (by decide) ?_
    refine lv_icmp_eq (tgt := 24) hx hb d_MO_stays_8 (by decide) (fun _ => ?_) (fun h => absurd (by decide) h)
    refine lv_iconst (v := 0) hx hb d_MO_stays_24 (by decide) ?_
    exact e_z hx hb hr hlocks (hst.symm) (by decide) d_MO_stays_25
  | some k =>
    have hst : p_st vb vt nv b = vt k := by unfold p_st; rw [h1]
    have hkv := (p_at_lt h1).1
    refine lv_istore_n (lv' := [(2, .int (nI k)), (0, .ref g0), (1, .int b)]) hx hb d_MO_stays_5 rfl hl (by decide) rfl (fun ls hl => ?_)
    refine lv_iload_n hx hb d_MO_stays_6 rfl (lv_at hl 0 rfl) ?_
    refine lv_iconst (v := -1) hx hb d_MO_stays_7 (by decide) ?_
    refine lv_icmp_eq (tgt := 24) hx hb d_MO_stays_8 (by decide) (fun c1 => absurd (p_ix_no (o := some k) (fun _ h => by cases h; omega) c1) (by simp)) (fun c1 => ?_)
    refine lv_aload_n hx hb d_MO_stays_11 rfl (lv_at hl 1 rfl) ?_
    refine x_get hx hb hg hown hk (hp 0 _ rfl) rfl i_MO 8 (by decide) w_313 rfl d_MO_stays_12 ?_
    refine lv_iload_n hx hb d_MO_stays_15 rfl (lv_at hl 0 rfl) ?_
    refine va_zald hx hb hk.1 hp 2 2 rfl rfl (vp_in_nI (show k < 100 by omega) (by decide)) d_MO_stays_16 ?_
    rw [nI_clamp (by omega)]
    refine lv_if_eq (tgt := 24) hx hb d_MO_stays_17 (by decide) (fun c2 => ?_) (fun c2 => ?_)
    · refine lv_iconst (v := 0) hx hb d_MO_stays_24 (by decide) ?_
      exact e_z hx hb hr hlocks (by rw [hst, c2]) (by decide) d_MO_stays_25
    · refine lv_iconst (v := 1) hx hb d_MO_stays_20 (by decide) ?_
      refine lv_goto (tgt := 25) hx hb d_MO_stays_21 (by decide) ?_
      exact e_z hx hb hr hlocks (by rw [hst]; exact ((ht k hkv).resolve_left c2).symm) (by decide) d_MO_stays_25
theorem d_MO_without_0 : decode b_MO_without 0 = .ok (.iload_n 2, 1) := by decide +kernel
theorem d_MO_without_1 : decode b_MO_without 1 = .ok (.istore_n 3, 1) := by decide +kernel
theorem d_MO_without_2 : decode b_MO_without 2 = .ok (.iload_n 3, 1) := by decide +kernel
theorem d_MO_without_3 : decode b_MO_without 3 = .ok (.aload_n 0, 1) := by decide +kernel
theorem d_MO_without_4 : decode b_MO_without 4 = .ok (.getfield 62, 3) := by decide +kernel
theorem d_MO_without_7 : decode b_MO_without 7 = .ok (.if_icmp .ge 51, 3) := by decide +kernel
theorem d_MO_without_10 : decode b_MO_without 10 = .ok (.iload_n 1, 1) := by decide +kernel
theorem d_MO_without_11 : decode b_MO_without 11 = .ok (.iload_n 3, 1) := by decide +kernel
theorem d_MO_without_12 : decode b_MO_without 12 = .ok (.ishr, 1) := by decide +kernel
theorem d_MO_without_13 : decode b_MO_without 13 = .ok (.iconst 1, 1) := by decide +kernel
theorem d_MO_without_14 : decode b_MO_without 14 = .ok (.iand, 1) := by decide +kernel
theorem d_MO_without_15 : decode b_MO_without 15 = .ok (.iconst 1, 1) := by decide +kernel
theorem d_MO_without_16 : decode b_MO_without 16 = .ok (.if_icmp .ne 7, 3) := by decide +kernel
theorem d_MO_without_19 : decode b_MO_without 19 = .ok (.iconst 1, 1) := by decide +kernel
theorem d_MO_without_20 : decode b_MO_without 20 = .ok (.goto 4, 3) := by decide +kernel
theorem d_MO_without_23 : decode b_MO_without 23 = .ok (.iconst 0, 1) := by decide +kernel
theorem d_MO_without_24 : decode b_MO_without 24 = .ok (.istore 4, 2) := by decide +kernel
theorem d_MO_without_26 : decode b_MO_without 26 = .ok (.iload 4, 2) := by decide +kernel
theorem d_MO_without_28 : decode b_MO_without 28 = .ok (.ifCond .eq 24, 3) := by decide +kernel
theorem d_MO_without_31 : decode b_MO_without 31 = .ok (.iload_n 1, 1) := by decide +kernel
theorem d_MO_without_32 : decode b_MO_without 32 = .ok (.iconst 1, 1) := by decide +kernel
theorem d_MO_without_33 : decode b_MO_without 33 = .ok (.iload_n 3, 1) := by decide +kernel
theorem d_MO_without_34 : decode b_MO_without 34 = .ok (.ishl, 1) := by decide +kernel
theorem d_MO_without_35 : decode b_MO_without 35 = .ok (.if_icmp .eq 17, 3) := by decide +kernel
theorem d_MO_without_38 : decode b_MO_without 38 = .ok (.aload_n 0, 1) := by decide +kernel
theorem d_MO_without_39 : decode b_MO_without 39 = .ok (.iload_n 1, 1) := by decide +kernel
theorem d_MO_without_40 : decode b_MO_without 40 = .ok (.iconst 1, 1) := by decide +kernel
theorem d_MO_without_41 : decode b_MO_without 41 = .ok (.iload_n 3, 1) := by decide +kernel
theorem d_MO_without_42 : decode b_MO_without 42 = .ok (.ishl, 1) := by decide +kernel
theorem d_MO_without_43 : decode b_MO_without 43 = .ok (.isub, 1) := by decide +kernel
theorem d_MO_without_44 : decode b_MO_without 44 = .ok (.invokevirtual 82, 3) := by decide +kernel
theorem d_MO_without_47 : decode b_MO_without 47 = .ok (.ifCond .eq 5, 3) := by decide +kernel
theorem d_MO_without_50 : decode b_MO_without 50 = .ok (.iload_n 3, 1) := by decide +kernel
theorem d_MO_without_51 : decode b_MO_without 51 = .ok (.ireturn, 1) := by decide +kernel
theorem d_MO_without_52 : decode b_MO_without 52 = .ok (.iinc 3 1, 3) := by decide +kernel
theorem d_MO_without_55 : decode b_MO_without 55 = .ok (.goto (-53), 3) := by decide +kernel
theorem d_MO_without_58 : decode b_MO_without 58 = .ok (.iconst (-1), 1) := by decide +kernel
theorem d_MO_without_59 : decode b_MO_without 59 = .ok (.ireturn, 1) := by decide +kernel
abbrev rm_MO_without : Room := { frames := 2, cells := 0, slots := 0, locals := 45 }
set_option maxHeartbeats 4000000 in
set_option maxRecDepth 100000 in
theorem c_MO_without (l : Launch) (D : va_G) (g0 a1 a2 a3 : Nat) (th : Int32) (sd db : Int64) (n : Nat) (hn : n ≤ 16) (kd lf : Int32) (nv : Nat) (hv : nv ≤ 100) (vb vt ik : Nat → Int32) (ht : ∀ i, i < nv → vt i = 0 ∨ vt i = 1) (b fr : Nat) (hbb : b < 2 ^ 16) (hf : fr ≤ n) : Met l y_MO_without (Cond.code y_MO_without b_MO_without 5 (some .int) :: gw) rm_MO_without (cP D [.ref g0, .int (nI b), .int (nI fr)] (va_P D classes (mo D g0 a1 a2 a3 th sd db (nI n) kd lf (nI nv) vb vt ik))) (rV (.int (p_go (fun x => p_st vb vt nv (nI x)) b (n - fr) fr))) 0 0 (fun _ => False) := by
  refine mt_B (by decide) (Nat.le_of_ble_eq_true rfl) ?_
  intro p e s m below meth c ls ⟨hx, hb, hr, hlocks, hin, hml, hown, hg⟩ ⟨hk, hp⟩ hl
  have hown : s.vm.findClass R_MO = some m.cls := hown
  have hl : lv_has ls 5 [(0, .ref g0), (1, .int (nI b)), (2, .int (nI fr))] := hl
  refine lv_iload_n hx hb d_MO_without_0 rfl (lv_at hl 2 rfl) ?_
  refine lv_istore_n (lv' := [(3, .int (nI fr)), (0, .ref g0), (1, .int (nI b)), (2, .int (nI fr))]) hx hb d_MO_without_1 rfl hl (by decide) rfl (fun ls hl => ?_)
  have loop : ∀ (fu : Nat) (j : Nat) (x3 : Int32), j ≤ n → n - j < fu → x3 = nI j → p_go (fun x => p_st vb vt nv (nI x)) b (n - j) j = p_go (fun x => p_st vb vt nv (nI x)) b (n - fr) fr → ∀ ls : Array Slot, lv_has ls 5 [(3, .int x3), (0, .ref g0), (1, .int (nI b))] → W p l e rm_MO_without s m ([.ref g0, .int (nI b), .int (nI fr)] : List Value).toArray below meth c s.heap [] 0 0 (MQ below (rV (.int (p_go (fun x => p_st vb vt nv (nI x)) b (n - fr) fr))) ([.ref g0, .int (nI b), .int (nI fr)] : List Value).toArray s 0 0 (fun _ => False)) (F0 m 2 ls []) := by
    intro fu
    induction fu with
    | zero => intro j x3 h1 h2 e3 hg2; exact absurd h2 (Nat.not_lt_zero _)
    | succ fu ih =>
      intro j x3 h1 h2 e3 hg2 ls hl
      refine lv_iload_n hx hb d_MO_without_2 rfl (lv_at hl 0 rfl) ?_
      refine lv_aload_n hx hb d_MO_without_3 rfl (lv_at hl 1 rfl) ?_
      refine x_get hx hb hg hown hk (hp 0 _ rfl) rfl i_MO 3 (by decide) w_308 rfl d_MO_without_4 ?_
      refine lv_icmp_ge (tgt := 58) hx hb d_MO_without_7 (by decide) (fun c1 => ?_) (fun c1 => ?_)
      · have hj : j = n := by have := (q_le rfl e3 (by omega) (by omega)).mp c1; omega
        refine lv_iconst (v := -1) hx hb d_MO_without_58 (by decide) ?_
        exact e_i hx hb hr hlocks (by rw [← hg2, hj, Nat.sub_self]; rfl) d_MO_without_59
      · have hj : j < n := Nat.not_le.mp (fun h => c1 ((q_le rfl e3 (by omega) (by omega)).mpr h))
        subst e3
        have hs : n - j = (n - (j + 1)) + 1 := by omega
        refine lv_iload_n hx hb d_MO_without_10 rfl (lv_at hl 2 rfl) ?_
        refine lv_iload_n hx hb d_MO_without_11 rfl (lv_at hl 0 rfl) ?_
        refine lv_ishr hx hb d_MO_without_12 ?_
        refine lv_iconst (v := 1) hx hb d_MO_without_13 (by decide) ?_
        refine lv_iand hx hb d_MO_without_14 ?_
        rw [q_bit (by omega) (by omega)]
        refine lv_iconst (v := 1) hx hb d_MO_without_15 (by decide) ?_
        refine lv_icmp_ne (tgt := 23) hx hb d_MO_without_16 (by decide) (fun c2 => ?_) (fun c2 => ?_)
        · refine lv_iconst (v := 0) hx hb d_MO_without_23 (by decide) ?_
          refine lv_istore (lv' := [(4, .int 0), (3, .int (nI j)), (0, .ref g0), (1, .int (nI b))]) hx hb d_MO_without_24 hl (by decide) rfl (fun ls hl => ?_)
          refine lv_iload hx hb d_MO_without_26 (lv_at hl 0 rfl) ?_
          refine lv_if_eq (tgt := 52) hx hb d_MO_without_28 (by decide) (fun _ => ?_) (fun h => absurd (by decide) h)
          obtain ⟨y3, ey3⟩ : ∃ y : Int32, y = (nI j) + 1 := ⟨_, rfl⟩
          refine lv_iinc (v := y3) (lv' := [(3, .int y3), (4, .int 0), (0, .ref g0), (1, .int (nI b))]) hx hb d_MO_without_52 hl (k := 1) rfl (by rw [ey3]; rfl) (by decide) rfl (fun ls hl => ?_)
          refine lv_goto (tgt := 2) hx hb d_MO_without_55 (by decide) ?_
          exact ih (j + 1) y3 hj (by omega) (by rw [ey3, nI_1]) (by rw [← hg2, hs, p_go, if_neg (fun h => c2 (by rw [h.1]; rfl))]) ls (lv_sub hl [0, 2, 3] rfl)
        · have hbit : b / 2 ^ j % 2 = 1 := (q_eq rfl (show (1 : Int32) = nI 1 from rfl) (by omega) (by omega)).mp c2
          refine lv_iconst (v := 1) hx hb d_MO_without_19 (by decide) ?_
          refine lv_goto (tgt := 24) hx hb d_MO_without_20 (by decide) ?_
          refine lv_istore (lv' := [(4, .int 1), (3, .int (nI j)), (0, .ref g0), (1, .int (nI b))]) hx hb d_MO_without_24 hl (by decide) rfl (fun ls hl => ?_)
          refine lv_iload hx hb d_MO_without_26 (lv_at hl 0 rfl) ?_
          refine lv_if_eq (tgt := 52) hx hb d_MO_without_28 (by decide) (fun h => absurd h (by decide)) (fun _ => ?_)
          refine lv_iload_n hx hb d_MO_without_31 rfl (lv_at hl 3 rfl) ?_
          refine lv_iconst (v := 1) hx hb d_MO_without_32 (by decide) ?_
          refine lv_iload_n hx hb d_MO_without_33 rfl (lv_at hl 1 rfl) ?_
          refine lv_ishl hx hb d_MO_without_34 ?_
          rw [q_one (by omega)]
          have h2j : 2 ^ j < 2 ^ 17 := Nat.pow_lt_pow_right (by decide) (by omega)
          refine lv_icmp_eq (tgt := 52) hx hb d_MO_without_35 (by decide) (fun c3 => ?_) (fun c3 => ?_)
          · obtain ⟨y3, ey3⟩ : ∃ y : Int32, y = (nI j) + 1 := ⟨_, rfl⟩
            refine lv_iinc (v := y3) (lv' := [(3, .int y3), (4, .int 1), (0, .ref g0), (1, .int (nI b))]) hx hb d_MO_without_52 hl (k := 1) rfl (by rw [ey3]; rfl) (by decide) rfl (fun ls hl => ?_)
            refine lv_goto (tgt := 2) hx hb d_MO_without_55 (by decide) ?_
            exact ih (j + 1) y3 hj (by omega) (by rw [ey3, nI_1]) (by rw [← hg2, hs, p_go, if_neg (fun h => h.2.1 ((nI_eq (by omega) (by omega)).mp c3))]) ls (lv_sub hl [0, 2, 3] rfl)
          · refine lv_aload_n hx hb d_MO_without_38 rfl (lv_at hl 2 rfl) ?_
            refine lv_iload_n hx hb d_MO_without_39 rfl (lv_at hl 3 rfl) ?_
            refine lv_iconst (v := 1) hx hb d_MO_without_40 (by decide) ?_
            refine lv_iload_n hx hb d_MO_without_41 rfl (lv_at hl 1 rfl) ?_
            refine lv_ishl hx hb d_MO_without_42 ?_
            rw [q_one (by omega)]
            refine lv_isub hx hb d_MO_without_43 ?_
            rw [pk_sub (q_bge hbit)]
            refine k_V hx hb hml hown hg hk g0 [.int (nI (b - 2 ^ j))] [] (c_MO_stays l D g0 a1 a2 a3 th sd db (nI n) kd lf nv hv vb vt ik ht (nI (b - 2 ^ j))) z_MO_stays w_390 w_392 s_MO_stays (rc_ob hk (hp 0 _ rfl) rfl) (hp) d_MO_without_44 rfl rfl ⟨Nat.le_of_ble_eq_true rfl, Nat.le_of_ble_eq_true rfl⟩ rfl hl.1 rfl (Nat.le_of_ble_eq_true rfl) ⟨Nat.zero_le _, Nat.zero_le _⟩ ?_
            refine lv_if_eq (tgt := 52) hx hb d_MO_without_47 (by decide) (fun c4 => ?_) (fun c4 => ?_)
            · obtain ⟨y3, ey3⟩ : ∃ y : Int32, y = (nI j) + 1 := ⟨_, rfl⟩
              refine lv_iinc (v := y3) (lv' := [(3, .int y3), (4, .int 1), (0, .ref g0), (1, .int (nI b))]) hx hb d_MO_without_52 hl (k := 1) rfl (by rw [ey3]; rfl) (by decide) rfl (fun ls hl => ?_)
              refine lv_goto (tgt := 2) hx hb d_MO_without_55 (by decide) ?_
              exact ih (j + 1) y3 hj (by omega) (by rw [ey3, nI_1]) (by rw [← hg2, hs, p_go, if_neg (fun h => h.2.2 c4)]) ls (lv_sub hl [0, 2, 3] rfl)
            · refine lv_iload_n hx hb d_MO_without_50 rfl (lv_at hl 1 rfl) ?_
              exact e_i hx hb hr hlocks (by rw [← hg2, hs, p_go, if_pos ⟨hbit, fun h => c3 (by rw [h]), c4⟩]) d_MO_without_51
  exact loop (n + 1) fr (nI fr) hf (by omega) rfl rfl ls (lv_sub hl [0, 1, 2] rfl)
end
section
/-! MODEL: public methods (printed by gen/mpub.py) -/
theorem d_MO_seed_0 : decode b_MO_seed 0 = .ok (.aload_n 0, 1) := by decide +kernel
theorem d_MO_seed_1 : decode b_MO_seed 1 = .ok (.iconst 0, 1) := by decide +kernel
theorem d_MO_seed_2 : decode b_MO_seed 2 = .ok (.putfield 24, 3) := by decide +kernel
theorem d_MO_seed_5 : decode b_MO_seed 5 = .ok (.aload_n 0, 1) := by decide +kernel
theorem d_MO_seed_6 : decode b_MO_seed 6 = .ok (.getfield 20, 3) := by decide +kernel
theorem d_MO_seed_9 : decode b_MO_seed 9 = .ok (.lstore_n 3, 1) := by decide +kernel
theorem d_MO_seed_10 : decode b_MO_seed 10 = .ok (.aload_n 0, 1) := by decide +kernel
theorem d_MO_seed_11 : decode b_MO_seed 11 = .ok (.lload_n 1, 1) := by decide +kernel
theorem d_MO_seed_12 : decode b_MO_seed 12 = .ok (.putfield 20, 3) := by decide +kernel
theorem d_MO_seed_15 : decode b_MO_seed 15 = .ok (.lload_n 3, 1) := by decide +kernel
theorem d_MO_seed_16 : decode b_MO_seed 16 = .ok (.lreturn, 1) := by decide +kernel
abbrev rm_MO_seed : Room := { frames := 0, cells := 0, slots := 0, locals := 0 }
set_option maxHeartbeats 4000000 in
set_option maxRecDepth 100000 in
theorem c_MO_seed (l : Launch) (D : va_G) (g0 a1 a2 a3 : Nat) (hj : mj g0 a1 a2 a3) (th : Int32) (sd : Int64) (db : Int64) (pr : Int32) (kd : Int32) (lf : Int32) (ns : Int32) (vb : Nat → Int32) (vt : Nat → Int32) (ik : Nat → Int32) (s2 : Int64) : Met l y_MO_seed (Cond.code y_MO_seed b_MO_seed 5 (some .long) :: gw) rm_MO_seed (cP D [.ref g0, .long s2] (va_P D classes (mo D g0 a1 a2 a3 th sd db pr kd lf ns vb vt ik))) (mV (mA g0 a1 a2 a3) (fun v H => v = some (.long sd) ∧ va_P D classes (mo D g0 a1 a2 a3 0 s2 db pr kd lf ns vb vt ik) H)) 0 0 (mA g0 a1 a2 a3) := by
  refine mt_B (by decide) (Nat.le_of_ble_eq_true rfl) ?_
  intro p e s m below meth c ls ⟨hx, hb, hr, hlocks, hin, hml, hown, hg⟩ ⟨hk, hp⟩ hl
  have hown : s.vm.findClass R_MO = some m.cls := hown
  have hS : va_S (mA g0 a1 a2 a3) s.heap s.heap [] := va_S.rf
  have hl : lv_has ls 5 [(0, .ref g0), (1, .long s2)] := hl
  have hP : va_P D classes (mo D g0 a1 a2 a3 th sd db pr kd lf ns vb vt ik) s.heap := hp
  have hD : va_D (mA g0 a1 a2 a3) (mo D g0 a1 a2 a3 th sd db pr kd lf ns vb vt ik) := mo_D hj _ _ _ _
  refine lv_aload_n hx hb d_MO_seed_0 rfl (lv_at hl 0 rfl) ?_
  refine lv_iconst (v := 0) hx hb d_MO_seed_1 (by decide) ?_
  refine va_put (D := D) (ci := 5) (v := .int 0) (ty := .int) (C := R_MO) (T := F_MO) (N := 10) hx hb hg i_MO T_MO k_MO n_MO hown hk.1 hP hD hS 0 rfl rfl 0 (by decide) (hg _ w_305) (fun _ h9 => h9) rfl (by decide +kernel) rfl rfl (Nat.le_of_ble_eq_true rfl) d_MO_seed_2 (fun H locs hP hD hS => ?_)
  have hP : va_P D classes (mo D g0 a1 a2 a3 0 sd db pr kd lf ns vb vt ik) H := hP
  have hD : va_D (mA g0 a1 a2 a3) (mo D g0 a1 a2 a3 0 sd db pr kd lf ns vb vt ik) := hD
  refine lv_aload_n hx hb d_MO_seed_5 rfl (lv_at hl 0 rfl) ?_
  refine x_get hx hb hg hown hk (hP 0 _ rfl) rfl i_MO 1 (by decide) w_306 rfl d_MO_seed_6 ?_
  refine lv_lstore_n (lv' := [(3, .long sd), (0, .ref g0), (1, .long s2)]) hx hb d_MO_seed_9 rfl hl (by decide) rfl (fun ls hl => ?_)
  refine lv_aload_n hx hb d_MO_seed_10 rfl (lv_at hl 1 rfl) ?_
  refine lv_lload_n hx hb d_MO_seed_11 rfl (lv_at hl 2 rfl) ?_
  refine va_put (D := D) (ci := 5) (v := .long s2) (ty := .long) (C := R_MO) (T := F_MO) (N := 10) hx hb hg i_MO T_MO k_MO n_MO hown hk.1 hP hD hS 0 rfl rfl 1 (by decide) (hg _ w_306) (fun _ h9 => h9) rfl (by decide +kernel) rfl rfl (Nat.le_of_ble_eq_true rfl) d_MO_seed_12 (fun H locs hP hD hS => ?_)
  have hP : va_P D classes (mo D g0 a1 a2 a3 0 s2 db pr kd lf ns vb vt ik) H := hP
  have hD : va_D (mA g0 a1 a2 a3) (mo D g0 a1 a2 a3 0 s2 db pr kd lf ns vb vt ik) := hD
  refine lv_lload_n hx hb d_MO_seed_15 rfl (lv_at hl 0 rfl) ?_
  exact f_l hx hb hr hlocks hS ⟨rfl, hP⟩ d_MO_seed_16
theorem d_MO_draw_0 : decode b_MO_draw 0 = .ok (.aload_n 0, 1) := by decide +kernel
theorem d_MO_draw_1 : decode b_MO_draw 1 = .ok (.iconst 0, 1) := by decide +kernel
theorem d_MO_draw_2 : decode b_MO_draw 2 = .ok (.putfield 24, 3) := by decide +kernel
theorem d_MO_draw_5 : decode b_MO_draw 5 = .ok (.iload_n 1, 1) := by decide +kernel
theorem d_MO_draw_6 : decode b_MO_draw 6 = .ok (.iconst 0, 1) := by decide +kernel
theorem d_MO_draw_7 : decode b_MO_draw 7 = .ok (.iconst 4, 1) := by decide +kernel
theorem d_MO_draw_8 : decode b_MO_draw 8 = .ok (.invokestatic 52, 3) := by decide +kernel
theorem d_MO_draw_11 : decode b_MO_draw 11 = .ok (.ifCond .eq 13, 3) := by decide +kernel
theorem d_MO_draw_14 : decode b_MO_draw 14 = .ok (.iload_n 2, 1) := by decide +kernel
theorem d_MO_draw_15 : decode b_MO_draw 15 = .ok (.iconst 0, 1) := by decide +kernel
theorem d_MO_draw_16 : decode b_MO_draw 16 = .ok (.bipush 15, 2) := by decide +kernel
theorem d_MO_draw_18 : decode b_MO_draw 18 = .ok (.invokestatic 52, 3) := by decide +kernel
theorem d_MO_draw_21 : decode b_MO_draw 21 = .ok (.ifCond .ne 6, 3) := by decide +kernel
theorem d_MO_draw_24 : decode b_MO_draw 24 = .ok (.bipush (-12), 2) := by decide +kernel
theorem d_MO_draw_26 : decode b_MO_draw 26 = .ok (.ireturn, 1) := by decide +kernel
theorem d_MO_draw_27 : decode b_MO_draw 27 = .ok (.aload_n 0, 1) := by decide +kernel
theorem d_MO_draw_28 : decode b_MO_draw 28 = .ok (.aload_n 0, 1) := by decide +kernel
theorem d_MO_draw_29 : decode b_MO_draw 29 = .ok (.getfield 20, 3) := by decide +kernel
theorem d_MO_draw_32 : decode b_MO_draw 32 = .ok (.putfield 56, 3) := by decide +kernel
theorem d_MO_draw_35 : decode b_MO_draw 35 = .ok (.aload_n 0, 1) := by decide +kernel
theorem d_MO_draw_36 : decode b_MO_draw 36 = .ok (.iload_n 1, 1) := by decide +kernel
theorem d_MO_draw_37 : decode b_MO_draw 37 = .ok (.putfield 59, 3) := by decide +kernel
theorem d_MO_draw_40 : decode b_MO_draw 40 = .ok (.aload_n 0, 1) := by decide +kernel
theorem d_MO_draw_41 : decode b_MO_draw 41 = .ok (.iload_n 2, 1) := by decide +kernel
theorem d_MO_draw_42 : decode b_MO_draw 42 = .ok (.iconst 1, 1) := by decide +kernel
theorem d_MO_draw_43 : decode b_MO_draw 43 = .ok (.iadd, 1) := by decide +kernel
theorem d_MO_draw_44 : decode b_MO_draw 44 = .ok (.putfield 62, 3) := by decide +kernel
theorem d_MO_draw_47 : decode b_MO_draw 47 = .ok (.aload_n 0, 1) := by decide +kernel
theorem d_MO_draw_48 : decode b_MO_draw 48 = .ok (.iconst 1, 1) := by decide +kernel
theorem d_MO_draw_49 : decode b_MO_draw 49 = .ok (.aload_n 0, 1) := by decide +kernel
theorem d_MO_draw_50 : decode b_MO_draw 50 = .ok (.getfield 62, 3) := by decide +kernel
theorem d_MO_draw_53 : decode b_MO_draw 53 = .ok (.ishl, 1) := by decide +kernel
theorem d_MO_draw_54 : decode b_MO_draw 54 = .ok (.iconst 1, 1) := by decide +kernel
theorem d_MO_draw_55 : decode b_MO_draw 55 = .ok (.isub, 1) := by decide +kernel
theorem d_MO_draw_56 : decode b_MO_draw 56 = .ok (.putfield 65, 3) := by decide +kernel
theorem d_MO_draw_59 : decode b_MO_draw 59 = .ok (.aload_n 0, 1) := by decide +kernel
theorem d_MO_draw_60 : decode b_MO_draw 60 = .ok (.iconst 0, 1) := by decide +kernel
theorem d_MO_draw_61 : decode b_MO_draw 61 = .ok (.putfield 68, 3) := by decide +kernel
theorem d_MO_draw_64 : decode b_MO_draw 64 = .ok (.aload_n 0, 1) := by decide +kernel
theorem d_MO_draw_65 : decode b_MO_draw 65 = .ok (.getfield 62, 3) := by decide +kernel
theorem d_MO_draw_68 : decode b_MO_draw 68 = .ok (.ireturn, 1) := by decide +kernel
abbrev rm_MO_draw : Room := { frames := 1, cells := 0, slots := 0, locals := 22 }
set_option maxHeartbeats 4000000 in
set_option maxRecDepth 100000 in
theorem c_MO_draw_no (l : Launch) (D : va_G) (g0 a1 a2 a3 : Nat) (hj : mj g0 a1 a2 a3) (th : Int32) (sd : Int64) (db : Int64) (pr : Int32) (kd : Int32) (lf : Int32) (ns : Int32) (vb : Nat → Int32) (vt : Nat → Int32) (ik : Nat → Int32) (k z : Int32) (hno : p_in k 0 4 = 0 ∨ p_in z 0 15 = 0) : Met l y_MO_draw (Cond.code y_MO_draw b_MO_draw 3 (some .int) :: gw) rm_MO_draw (cP D [.ref g0, .int k, .int z] (va_P D classes (mo D g0 a1 a2 a3 th sd db pr kd lf ns vb vt ik))) (mV (mA g0 a1 a2 a3) (fun v H => v = some (.int (-12)) ∧ va_P D classes (mo D g0 a1 a2 a3 0 sd db pr kd lf ns vb vt ik) H)) 0 0 (mA g0 a1 a2 a3) := by
  refine mt_B (by decide) (Nat.le_of_ble_eq_true rfl) ?_
  intro p e s m below meth c ls ⟨hx, hb, hr, hlocks, hin, hml, hown, hg⟩ ⟨hk, hp⟩ hl
  have hown : s.vm.findClass R_MO = some m.cls := hown
  have hS : va_S (mA g0 a1 a2 a3) s.heap s.heap [] := va_S.rf
  have hl : lv_has ls 3 [(0, .ref g0), (1, .int k), (2, .int z)] := hl
  have hP : va_P D classes (mo D g0 a1 a2 a3 th sd db pr kd lf ns vb vt ik) s.heap := hp
  have hD : va_D (mA g0 a1 a2 a3) (mo D g0 a1 a2 a3 th sd db pr kd lf ns vb vt ik) := mo_D hj _ _ _ _
  refine lv_aload_n hx hb d_MO_draw_0 rfl (lv_at hl 0 rfl) ?_
  refine lv_iconst (v := 0) hx hb d_MO_draw_1 (by decide) ?_
  refine va_put (D := D) (ci := 5) (v := .int 0) (ty := .int) (C := R_MO) (T := F_MO) (N := 10) hx hb hg i_MO T_MO k_MO n_MO hown hk.1 hP hD hS 0 rfl rfl 0 (by decide) (hg _ w_305) (fun _ h9 => h9) rfl (by decide +kernel) rfl rfl (Nat.le_of_ble_eq_true rfl) d_MO_draw_2 (fun H locs hP hD hS => ?_)
  have hP : va_P D classes (mo D g0 a1 a2 a3 0 sd db pr kd lf ns vb vt ik) H := hP
  have hD : va_D (mA g0 a1 a2 a3) (mo D g0 a1 a2 a3 0 sd db pr kd lf ns vb vt ik) := hD
  refine lv_iload_n hx hb d_MO_draw_5 rfl (lv_at hl 1 rfl) ?_
  refine lv_iconst (v := 0) hx hb d_MO_draw_6 (by decide) ?_
  refine lv_iconst (v := 4) hx hb d_MO_draw_7 (by decide) ?_
  refine k_S hx hb hml hown hg hk [.int k, .int 0, .int 4] [] (c_MO_in l D k 0 4) z_MO_in w_346 w_347 (trivial) d_MO_draw_8 rfl rfl ⟨Nat.le_of_ble_eq_true rfl, Nat.le_of_ble_eq_true rfl⟩ rfl hl.1 rfl (Nat.le_of_ble_eq_true rfl) ⟨Nat.zero_le _, Nat.zero_le _⟩ ?_
  refine lv_if_eq (tgt := 24) hx hb d_MO_draw_11 (by decide) (fun c1 => ?_) (fun c1 => ?_)
  · refine lv_bipush (v := -12) hx hb d_MO_draw_24 (by decide) ?_
    exact f_i hx hb hr hlocks hS ⟨rfl, hP⟩ d_MO_draw_26
  · refine lv_iload_n hx hb d_MO_draw_14 rfl (lv_at hl 2 rfl) ?_
    refine lv_iconst (v := 0) hx hb d_MO_draw_15 (by decide) ?_
    refine lv_bipush (v := 15) hx hb d_MO_draw_16 (by decide) ?_
    refine k_S hx hb hml hown hg hk [.int z, .int 0, .int 15] [] (c_MO_in l D z 0 15) z_MO_in w_346 w_347 (trivial) d_MO_draw_18 rfl rfl ⟨Nat.le_of_ble_eq_true rfl, Nat.le_of_ble_eq_true rfl⟩ rfl hl.1 rfl (Nat.le_of_ble_eq_true rfl) ⟨Nat.zero_le _, Nat.zero_le _⟩ ?_
    refine lv_if_ne (tgt := 27) hx hb d_MO_draw_21 (by decide) (fun c2 => absurd (hno.resolve_left c1) c2) (fun c2 => ?_)
    refine lv_bipush (v := -12) hx hb d_MO_draw_24 (by decide) ?_
    exact f_i hx hb hr hlocks hS ⟨rfl, hP⟩ d_MO_draw_26
set_option maxHeartbeats 4000000 in
set_option maxRecDepth 100000 in
theorem c_MO_draw_ok (l : Launch) (D : va_G) (g0 a1 a2 a3 : Nat) (hj : mj g0 a1 a2 a3) (th : Int32) (sd : Int64) (db : Int64) (pr : Int32) (kd : Int32) (lf : Int32) (ns : Int32) (vb : Nat → Int32) (vt : Nat → Int32) (ik : Nat → Int32) (k : Int32) (j : Nat) (hkk : ¬ p_in k 0 4 = 0) (hj2 : j < 16) : Met l y_MO_draw (Cond.code y_MO_draw b_MO_draw 3 (some .int) :: gw) rm_MO_draw (cP D [.ref g0, .int k, .int (nI j)] (va_P D classes (mo D g0 a1 a2 a3 th sd db pr kd lf ns vb vt ik))) (mV (mA g0 a1 a2 a3) (fun v H => v = some (.int (nI (j + 1))) ∧ va_P D classes (mo D g0 a1 a2 a3 0 sd sd (nI (j + 1)) k (nI (2 ^ (j + 1) - 1)) 0 vb vt ik) H)) 0 0 (mA g0 a1 a2 a3) := by
  refine mt_B (by decide) (Nat.le_of_ble_eq_true rfl) ?_
  intro p e s m below meth c ls ⟨hx, hb, hr, hlocks, hin, hml, hown, hg⟩ ⟨hk, hp⟩ hl
  have hown : s.vm.findClass R_MO = some m.cls := hown
  have hS : va_S (mA g0 a1 a2 a3) s.heap s.heap [] := va_S.rf
  have hl : lv_has ls 3 [(0, .ref g0), (1, .int k), (2, .int (nI j))] := hl
  have hP : va_P D classes (mo D g0 a1 a2 a3 th sd db pr kd lf ns vb vt ik) s.heap := hp
  have hD : va_D (mA g0 a1 a2 a3) (mo D g0 a1 a2 a3 th sd db pr kd lf ns vb vt ik) := mo_D hj _ _ _ _
  refine lv_aload_n hx hb d_MO_draw_0 rfl (lv_at hl 0 rfl) ?_
  refine lv_iconst (v := 0) hx hb d_MO_draw_1 (by decide) ?_
  refine va_put (D := D) (ci := 5) (v := .int 0) (ty := .int) (C := R_MO) (T := F_MO) (N := 10) hx hb hg i_MO T_MO k_MO n_MO hown hk.1 hP hD hS 0 rfl rfl 0 (by decide) (hg _ w_305) (fun _ h9 => h9) rfl (by decide +kernel) rfl rfl (Nat.le_of_ble_eq_true rfl) d_MO_draw_2 (fun H locs hP hD hS => ?_)
  have hP : va_P D classes (mo D g0 a1 a2 a3 0 sd db pr kd lf ns vb vt ik) H := hP
  have hD : va_D (mA g0 a1 a2 a3) (mo D g0 a1 a2 a3 0 sd db pr kd lf ns vb vt ik) := hD
  have hzz : ¬ p_in (nI j) 0 15 = 0 := fun h => p_in_0 h ⟨nI_pos' (by omega), nI_le (b := 15) (by omega) (by decide)⟩
  have h2p : 2 ^ (j + 1) ≤ 2 ^ 16 := Nat.pow_le_pow_right (by decide) (by omega)
  refine lv_iload_n hx hb d_MO_draw_5 rfl (lv_at hl 1 rfl) ?_
  refine lv_iconst (v := 0) hx hb d_MO_draw_6 (by decide) ?_
  refine lv_iconst (v := 4) hx hb d_MO_draw_7 (by decide) ?_
  refine k_S hx hb hml hown hg hk [.int k, .int 0, .int 4] [] (c_MO_in l D k 0 4) z_MO_in w_346 w_347 (trivial) d_MO_draw_8 rfl rfl ⟨Nat.le_of_ble_eq_true rfl, Nat.le_of_ble_eq_true rfl⟩ rfl hl.1 rfl (Nat.le_of_ble_eq_true rfl) ⟨Nat.zero_le _, Nat.zero_le _⟩ ?_
  refine lv_if_eq (tgt := 24) hx hb d_MO_draw_11 (by decide) (fun c1 => absurd c1 hkk) (fun c1 => ?_)
  refine lv_iload_n hx hb d_MO_draw_14 rfl (lv_at hl 2 rfl) ?_
  refine lv_iconst (v := 0) hx hb d_MO_draw_15 (by decide) ?_
  refine lv_bipush (v := 15) hx hb d_MO_draw_16 (by decide) ?_
  refine k_S hx hb hml hown hg hk [.int (nI j), .int 0, .int 15] [] (c_MO_in l D (nI j) 0 15) z_MO_in w_346 w_347 (trivial) d_MO_draw_18 rfl rfl ⟨Nat.le_of_ble_eq_true rfl, Nat.le_of_ble_eq_true rfl⟩ rfl hl.1 rfl (Nat.le_of_ble_eq_true rfl) ⟨Nat.zero_le _, Nat.zero_le _⟩ ?_
  refine lv_if_ne (tgt := 27) hx hb d_MO_draw_21 (by decide) (fun c2 => ?_) (fun c2 => absurd c2 hzz)
  refine lv_aload_n hx hb d_MO_draw_27 rfl (lv_at hl 0 rfl) ?_
  refine lv_aload_n hx hb d_MO_draw_28 rfl (lv_at hl 0 rfl) ?_
  refine x_get hx hb hg hown hk (hP 0 _ rfl) rfl i_MO 1 (by decide) w_306 rfl d_MO_draw_29 ?_
  refine va_put (D := D) (ci := 5) (v := .long sd) (ty := .long) (C := R_MO) (T := F_MO) (N := 10) hx hb hg i_MO T_MO k_MO n_MO hown hk.1 hP hD hS 0 rfl rfl 2 (by decide) (hg _ w_307) (fun _ h9 => h9) rfl (by decide +kernel) rfl rfl (Nat.le_of_ble_eq_true rfl) d_MO_draw_32 (fun H locs hP hD hS => ?_)
  have hP : va_P D classes (mo D g0 a1 a2 a3 0 sd sd pr kd lf ns vb vt ik) H := hP
  have hD : va_D (mA g0 a1 a2 a3) (mo D g0 a1 a2 a3 0 sd sd pr kd lf ns vb vt ik) := hD
  refine lv_aload_n hx hb d_MO_draw_35 rfl (lv_at hl 0 rfl) ?_
  refine lv_iload_n hx hb d_MO_draw_36 rfl (lv_at hl 1 rfl) ?_
  refine va_put (D := D) (ci := 5) (v := .int k) (ty := .int) (C := R_MO) (T := F_MO) (N := 10) hx hb hg i_MO T_MO k_MO n_MO hown hk.1 hP hD hS 0 rfl rfl 4 (by decide) (hg _ w_309) (fun _ h9 => h9) rfl (by decide +kernel) rfl rfl (Nat.le_of_ble_eq_true rfl) d_MO_draw_37 (fun H locs hP hD hS => ?_)
  have hP : va_P D classes (mo D g0 a1 a2 a3 0 sd sd pr k lf ns vb vt ik) H := hP
  have hD : va_D (mA g0 a1 a2 a3) (mo D g0 a1 a2 a3 0 sd sd pr k lf ns vb vt ik) := hD
  refine lv_aload_n hx hb d_MO_draw_40 rfl (lv_at hl 0 rfl) ?_
  refine lv_iload_n hx hb d_MO_draw_41 rfl (lv_at hl 2 rfl) ?_
  refine lv_iconst (v := 1) hx hb d_MO_draw_42 (by decide) ?_
  refine lv_iadd hx hb d_MO_draw_43 ?_
  rw [nI_1]
  refine va_put (D := D) (ci := 5) (v := .int (nI (j + 1))) (ty := .int) (C := R_MO) (T := F_MO) (N := 10) hx hb hg i_MO T_MO k_MO n_MO hown hk.1 hP hD hS 0 rfl rfl 3 (by decide) (hg _ w_308) (fun _ h9 => h9) rfl (by decide +kernel) rfl rfl (Nat.le_of_ble_eq_true rfl) d_MO_draw_44 (fun H locs hP hD hS => ?_)
  have hP : va_P D classes (mo D g0 a1 a2 a3 0 sd sd (nI (j + 1)) k lf ns vb vt ik) H := hP
  have hD : va_D (mA g0 a1 a2 a3) (mo D g0 a1 a2 a3 0 sd sd (nI (j + 1)) k lf ns vb vt ik) := hD
  refine lv_aload_n hx hb d_MO_draw_47 rfl (lv_at hl 0 rfl) ?_
  refine lv_iconst (v := 1) hx hb d_MO_draw_48 (by decide) ?_
  refine lv_aload_n hx hb d_MO_draw_49 rfl (lv_at hl 0 rfl) ?_
  refine x_get hx hb hg hown hk (hP 0 _ rfl) rfl i_MO 3 (by decide) w_308 rfl d_MO_draw_50 ?_
  refine lv_ishl hx hb d_MO_draw_53 ?_
  refine lv_iconst (v := 1) hx hb d_MO_draw_54 (by decide) ?_
  refine lv_isub hx hb d_MO_draw_55 ?_
  rw [q_one (by omega), show (1 : Int32) = nI 1 from rfl, pk_sub (Nat.two_pow_pos _)]
  refine va_put (D := D) (ci := 5) (v := .int (nI (2 ^ (j + 1) - 1))) (ty := .int) (C := R_MO) (T := F_MO) (N := 10) hx hb hg i_MO T_MO k_MO n_MO hown hk.1 hP hD hS 0 rfl rfl 5 (by decide) (hg _ w_310) (fun _ h9 => h9) rfl (by decide +kernel) rfl rfl (Nat.le_of_ble_eq_true rfl) d_MO_draw_56 (fun H locs hP hD hS => ?_)
  have hP : va_P D classes (mo D g0 a1 a2 a3 0 sd sd (nI (j + 1)) k (nI (2 ^ (j + 1) - 1)) ns vb vt ik) H := hP
  have hD : va_D (mA g0 a1 a2 a3) (mo D g0 a1 a2 a3 0 sd sd (nI (j + 1)) k (nI (2 ^ (j + 1) - 1)) ns vb vt ik) := hD
  refine lv_aload_n hx hb d_MO_draw_59 rfl (lv_at hl 0 rfl) ?_
  refine lv_iconst (v := 0) hx hb d_MO_draw_60 (by decide) ?_
  refine va_put (D := D) (ci := 5) (v := .int 0) (ty := .int) (C := R_MO) (T := F_MO) (N := 10) hx hb hg i_MO T_MO k_MO n_MO hown hk.1 hP hD hS 0 rfl rfl 6 (by decide) (hg _ w_311) (fun _ h9 => h9) rfl (by decide +kernel) rfl rfl (Nat.le_of_ble_eq_true rfl) d_MO_draw_61 (fun H locs hP hD hS => ?_)
  have hP : va_P D classes (mo D g0 a1 a2 a3 0 sd sd (nI (j + 1)) k (nI (2 ^ (j + 1) - 1)) 0 vb vt ik) H := hP
  have hD : va_D (mA g0 a1 a2 a3) (mo D g0 a1 a2 a3 0 sd sd (nI (j + 1)) k (nI (2 ^ (j + 1) - 1)) 0 vb vt ik) := hD
  refine lv_aload_n hx hb d_MO_draw_64 rfl (lv_at hl 0 rfl) ?_
  refine x_get hx hb hg hown hk (hP 0 _ rfl) rfl i_MO 3 (by decide) w_308 rfl d_MO_draw_65 ?_
  exact f_i hx hb hr hlocks hS ⟨rfl, hP⟩ d_MO_draw_68
theorem d_MO_part_0 : decode b_MO_part 0 = .ok (.aload_n 0, 1) := by decide +kernel
theorem d_MO_part_1 : decode b_MO_part 1 = .ok (.iconst 0, 1) := by decide +kernel
theorem d_MO_part_2 : decode b_MO_part 2 = .ok (.putfield 24, 3) := by decide +kernel
theorem d_MO_part_5 : decode b_MO_part 5 = .ok (.iload_n 1, 1) := by decide +kernel
theorem d_MO_part_6 : decode b_MO_part 6 = .ok (.iconst 0, 1) := by decide +kernel
theorem d_MO_part_7 : decode b_MO_part 7 = .ok (.aload_n 0, 1) := by decide +kernel
theorem d_MO_part_8 : decode b_MO_part 8 = .ok (.getfield 62, 3) := by decide +kernel
theorem d_MO_part_11 : decode b_MO_part 11 = .ok (.iconst 1, 1) := by decide +kernel
theorem d_MO_part_12 : decode b_MO_part 12 = .ok (.isub, 1) := by decide +kernel
theorem d_MO_part_13 : decode b_MO_part 13 = .ok (.invokestatic 52, 3) := by decide +kernel
theorem d_MO_part_16 : decode b_MO_part 16 = .ok (.ifCond .ne 5, 3) := by decide +kernel
theorem d_MO_part_19 : decode b_MO_part 19 = .ok (.iconst (-1), 1) := by decide +kernel
theorem d_MO_part_20 : decode b_MO_part 20 = .ok (.ireturn, 1) := by decide +kernel
theorem d_MO_part_21 : decode b_MO_part 21 = .ok (.iload_n 2, 1) := by decide +kernel
theorem d_MO_part_22 : decode b_MO_part 22 = .ok (.iconst 0, 1) := by decide +kernel
theorem d_MO_part_23 : decode b_MO_part 23 = .ok (.iconst 4, 1) := by decide +kernel
theorem d_MO_part_24 : decode b_MO_part 24 = .ok (.invokestatic 52, 3) := by decide +kernel
theorem d_MO_part_27 : decode b_MO_part 27 = .ok (.ifCond .ne 6, 3) := by decide +kernel
theorem d_MO_part_30 : decode b_MO_part 30 = .ok (.bipush (-12), 2) := by decide +kernel
theorem d_MO_part_32 : decode b_MO_part 32 = .ok (.ireturn, 1) := by decide +kernel
theorem d_MO_part_33 : decode b_MO_part 33 = .ok (.iload_n 2, 1) := by decide +kernel
theorem d_MO_part_34 : decode b_MO_part 34 = .ok (.ifCond .ne 28, 3) := by decide +kernel
theorem d_MO_part_37 : decode b_MO_part 37 = .ok (.aload_n 0, 1) := by decide +kernel
theorem d_MO_part_38 : decode b_MO_part 38 = .ok (.getfield 56, 3) := by decide +kernel
theorem d_MO_part_41 : decode b_MO_part 41 = .ok (.aload_n 0, 1) := by decide +kernel
theorem d_MO_part_42 : decode b_MO_part 42 = .ok (.getfield 59, 3) := by decide +kernel
theorem d_MO_part_45 : decode b_MO_part 45 = .ok (.aload_n 0, 1) := by decide +kernel
theorem d_MO_part_46 : decode b_MO_part 46 = .ok (.getfield 62, 3) := by decide +kernel
theorem d_MO_part_49 : decode b_MO_part 49 = .ok (.iload_n 1, 1) := by decide +kernel
theorem d_MO_part_50 : decode b_MO_part 50 = .ok (.invokestatic 71, 3) := by decide +kernel
theorem d_MO_part_53 : decode b_MO_part 53 = .ok (.ifCond .eq 7, 3) := by decide +kernel
theorem d_MO_part_56 : decode b_MO_part 56 = .ok (.iconst 1, 1) := by decide +kernel
theorem d_MO_part_57 : decode b_MO_part 57 = .ok (.goto 4, 3) := by decide +kernel
theorem d_MO_part_60 : decode b_MO_part 60 = .ok (.iconst 0, 1) := by decide +kernel
theorem d_MO_part_61 : decode b_MO_part 61 = .ok (.ireturn, 1) := by decide +kernel
theorem d_MO_part_62 : decode b_MO_part 62 = .ok (.aload_n 0, 1) := by decide +kernel
theorem d_MO_part_63 : decode b_MO_part 63 = .ok (.getfield 56, 3) := by decide +kernel
theorem d_MO_part_66 : decode b_MO_part 66 = .ok (.aload_n 0, 1) := by decide +kernel
theorem d_MO_part_67 : decode b_MO_part 67 = .ok (.getfield 59, 3) := by decide +kernel
theorem d_MO_part_70 : decode b_MO_part 70 = .ok (.iload_n 1, 1) := by decide +kernel
theorem d_MO_part_71 : decode b_MO_part 71 = .ok (.invokestatic 44, 3) := by decide +kernel
theorem d_MO_part_74 : decode b_MO_part 74 = .ok (.iload_n 2, 1) := by decide +kernel
theorem d_MO_part_75 : decode b_MO_part 75 = .ok (.invokestatic 75, 3) := by decide +kernel
theorem d_MO_part_78 : decode b_MO_part 78 = .ok (.ireturn, 1) := by decide +kernel
abbrev rm_MO_part : Room := { frames := 2, cells := 0, slots := 0, locals := 55 }
set_option maxHeartbeats 4000000 in
set_option maxRecDepth 100000 in
theorem c_MO_part (l : Launch) (D : va_G) (g0 a1 a2 a3 : Nat) (hj : mj g0 a1 a2 a3) (th : Int32) (sd : Int64) (db : Int64) (kd : Int32) (lf : Int32) (ns : Int32) (vb : Nat → Int32) (vt : Nat → Int32) (ik : Nat → Int32) (n : Nat) (hn : n ≤ 16) (i w : Int32) : Met l y_MO_part (Cond.code y_MO_part b_MO_part 3 (some .int) :: gw) rm_MO_part (cP D [.ref g0, .int i, .int w] (va_P D classes (mo D g0 a1 a2 a3 th sd db (nI n) kd lf ns vb vt ik))) (mV (mA g0 a1 a2 a3) (fun v H => v = some (.int (p_part db kd n i w)) ∧ va_P D classes (mo D g0 a1 a2 a3 0 sd db (nI n) kd lf ns vb vt ik) H)) 0 0 (mA g0 a1 a2 a3) := by
  refine mt_B (by decide) (Nat.le_of_ble_eq_true rfl) ?_
  intro p e s m below meth c ls ⟨hx, hb, hr, hlocks, hin, hml, hown, hg⟩ ⟨hk, hp⟩ hl
  have hown : s.vm.findClass R_MO = some m.cls := hown
  have hS : va_S (mA g0 a1 a2 a3) s.heap s.heap [] := va_S.rf
  have hl : lv_has ls 3 [(0, .ref g0), (1, .int i), (2, .int w)] := hl
  have hP : va_P D classes (mo D g0 a1 a2 a3 th sd db (nI n) kd lf ns vb vt ik) s.heap := hp
  have hD : va_D (mA g0 a1 a2 a3) (mo D g0 a1 a2 a3 th sd db (nI n) kd lf ns vb vt ik) := mo_D hj _ _ _ _
  refine lv_aload_n hx hb d_MO_part_0 rfl (lv_at hl 0 rfl) ?_
  refine lv_iconst (v := 0) hx hb d_MO_part_1 (by decide) ?_
  refine va_put (D := D) (ci := 5) (v := .int 0) (ty := .int) (C := R_MO) (T := F_MO) (N := 10) hx hb hg i_MO T_MO k_MO n_MO hown hk.1 hP hD hS 0 rfl rfl 0 (by decide) (hg _ w_305) (fun _ h9 => h9) rfl (by decide +kernel) rfl rfl (Nat.le_of_ble_eq_true rfl) d_MO_part_2 (fun H locs hP hD hS => ?_)
  have hP : va_P D classes (mo D g0 a1 a2 a3 0 sd db (nI n) kd lf ns vb vt ik) H := hP
  have hD : va_D (mA g0 a1 a2 a3) (mo D g0 a1 a2 a3 0 sd db (nI n) kd lf ns vb vt ik) := hD
  refine lv_iload_n hx hb d_MO_part_5 rfl (lv_at hl 1 rfl) ?_
  refine lv_iconst (v := 0) hx hb d_MO_part_6 (by decide) ?_
  refine lv_aload_n hx hb d_MO_part_7 rfl (lv_at hl 0 rfl) ?_
  refine x_get hx hb hg hown hk (hP 0 _ rfl) rfl i_MO 3 (by decide) w_308 rfl d_MO_part_8 ?_
  refine lv_iconst (v := 1) hx hb d_MO_part_11 (by decide) ?_
  refine lv_isub hx hb d_MO_part_12 ?_
  refine k_S hx hb hml hown hg hk [.int i, .int 0, .int ((nI n) - 1)] [] (c_MO_in l D i 0 (nI n - 1)) z_MO_in w_346 w_347 (trivial) d_MO_part_13 rfl rfl ⟨Nat.le_of_ble_eq_true rfl, Nat.le_of_ble_eq_true rfl⟩ rfl hl.1 rfl (Nat.le_of_ble_eq_true rfl) ⟨Nat.zero_le _, Nat.zero_le _⟩ ?_
  refine lv_if_ne (tgt := 21) hx hb d_MO_part_16 (by decide) (fun c1 => ?_) (fun c1 => ?_)
  · refine lv_iload_n hx hb d_MO_part_21 rfl (lv_at hl 2 rfl) ?_
    refine lv_iconst (v := 0) hx hb d_MO_part_22 (by decide) ?_
    refine lv_iconst (v := 4) hx hb d_MO_part_23 (by decide) ?_
    refine k_S hx hb hml hown hg hk [.int w, .int 0, .int 4] [] (c_MO_in l D w 0 4) z_MO_in w_346 w_347 (trivial) d_MO_part_24 rfl rfl ⟨Nat.le_of_ble_eq_true rfl, Nat.le_of_ble_eq_true rfl⟩ rfl hl.1 rfl (Nat.le_of_ble_eq_true rfl) ⟨Nat.zero_le _, Nat.zero_le _⟩ ?_
    refine lv_if_ne (tgt := 33) hx hb d_MO_part_27 (by decide) (fun c2 => ?_) (fun c2 => ?_)
    · have hi := p_in_1 c1
      obtain ⟨j, hj2, rfl⟩ := p_rng (by omega) hi.1 hi.2
      refine lv_iload_n hx hb d_MO_part_33 rfl (lv_at hl 2 rfl) ?_
      refine lv_if_ne (tgt := 62) hx hb d_MO_part_34 (by decide) (fun c3 => ?_) (fun c3 => ?_)
      · refine lv_aload_n hx hb d_MO_part_62 rfl (lv_at hl 0 rfl) ?_
        refine x_get hx hb hg hown hk (hP 0 _ rfl) rfl i_MO 2 (by decide) w_307 rfl d_MO_part_63 ?_
        refine lv_aload_n hx hb d_MO_part_66 rfl (lv_at hl 0 rfl) ?_
        refine x_get hx hb hg hown hk (hP 0 _ rfl) rfl i_MO 4 (by decide) w_309 rfl d_MO_part_67 ?_
        refine lv_iload_n hx hb d_MO_part_70 rfl (lv_at hl 1 rfl) ?_
        refine k_S hx hb hml hown hg hk [.long db, .int kd, .int (nI j)] [] (c_MO_number l D db kd (nI j)) z_MO_number w_356 w_357 (trivial) d_MO_part_71 rfl rfl ⟨Nat.le_of_ble_eq_true rfl, Nat.le_of_ble_eq_true rfl⟩ rfl hl.1 rfl (Nat.le_of_ble_eq_true rfl) ⟨Nat.zero_le _, Nat.zero_le _⟩ ?_
        refine lv_iload_n hx hb d_MO_part_74 rfl (lv_at hl 2 rfl) ?_
        refine k_S hx hb hml hown hg hk [.long (p_mix db kd (nI j)), .int w] [] (c_MO_fact l D (p_mix db kd (nI j)) w) z_MO_fact w_367 w_368 (trivial) d_MO_part_75 rfl rfl ⟨Nat.le_of_ble_eq_true rfl, Nat.le_of_ble_eq_true rfl⟩ rfl hl.1 rfl (Nat.le_of_ble_eq_true rfl) ⟨Nat.zero_le _, Nat.zero_le _⟩ ?_
        obtain ⟨q, hq, rfl⟩ := p_rng4 (p_in_1 c2)
        exact f_i hx hb hr hlocks hS ⟨by rw [p_part, if_neg c1, if_neg c2, nI_clamp (by omega), nI_clamp (by omega), p_pf, if_neg (fun h => c3 (by rw [h]; rfl))], hP⟩ d_MO_part_78
      · refine lv_aload_n hx hb d_MO_part_37 rfl (lv_at hl 0 rfl) ?_
        refine x_get hx hb hg hown hk (hP 0 _ rfl) rfl i_MO 2 (by decide) w_307 rfl d_MO_part_38 ?_
        refine lv_aload_n hx hb d_MO_part_41 rfl (lv_at hl 0 rfl) ?_
        refine x_get hx hb hg hown hk (hP 0 _ rfl) rfl i_MO 4 (by decide) w_309 rfl d_MO_part_42 ?_
        refine lv_aload_n hx hb d_MO_part_45 rfl (lv_at hl 0 rfl) ?_
        refine x_get hx hb hg hown hk (hP 0 _ rfl) rfl i_MO 3 (by decide) w_308 rfl d_MO_part_46 ?_
        refine lv_iload_n hx hb d_MO_part_49 rfl (lv_at hl 1 rfl) ?_
        refine k_S hx hb hml hown hg hk [.long db, .int kd, .int (nI n), .int (nI j)] [] (c_MO_hasFaults l D db kd n j (by omega) (by omega)) z_MO_hasFaults w_353 w_354 (trivial) d_MO_part_50 rfl rfl ⟨Nat.le_of_ble_eq_true rfl, Nat.le_of_ble_eq_true rfl⟩ rfl hl.1 rfl (Nat.le_of_ble_eq_true rfl) ⟨Nat.zero_le _, Nat.zero_le _⟩ ?_
        refine lv_if_eq (tgt := 60) hx hb d_MO_part_53 (by decide) (fun c4 => ?_) (fun c4 => ?_)
        · refine lv_iconst (v := 0) hx hb d_MO_part_60 (by decide) ?_
          exact f_i hx hb hr hlocks hS ⟨by rw [p_part, if_neg c1, if_neg c2, nI_clamp (by omega), c3, show (0 : Int32).toNatClampNeg = 0 by decide, p_pf, if_pos rfl, c4], hP⟩ d_MO_part_61
        · refine lv_iconst (v := 1) hx hb d_MO_part_56 (by decide) ?_
          refine lv_goto (tgt := 61) hx hb d_MO_part_57 (by decide) ?_
          exact f_i hx hb hr hlocks hS ⟨by rw [p_part, if_neg c1, if_neg c2, nI_clamp (by omega), c3, show (0 : Int32).toNatClampNeg = 0 by decide, p_pf, if_pos rfl, (p_flt_01 _ _ _ _).resolve_left c4], hP⟩ d_MO_part_61
    · refine lv_bipush (v := -12) hx hb d_MO_part_30 (by decide) ?_
      exact f_i hx hb hr hlocks hS ⟨by rw [p_part, if_neg c1, if_pos c2], hP⟩ d_MO_part_32
  · refine lv_iconst (v := -1) hx hb d_MO_part_19 (by decide) ?_
    exact f_i hx hb hr hlocks hS ⟨by rw [p_part, if_pos c1], hP⟩ d_MO_part_20
theorem d_MO_point_0 : decode b_MO_point 0 = .ok (.aload_n 0, 1) := by decide +kernel
theorem d_MO_point_1 : decode b_MO_point 1 = .ok (.iconst 0, 1) := by decide +kernel
theorem d_MO_point_2 : decode b_MO_point 2 = .ok (.putfield 24, 3) := by decide +kernel
theorem d_MO_point_5 : decode b_MO_point 5 = .ok (.aload_n 0, 1) := by decide +kernel
theorem d_MO_point_6 : decode b_MO_point 6 = .ok (.getfield 59, 3) := by decide +kernel
theorem d_MO_point_9 : decode b_MO_point 9 = .ok (.iconst 1, 1) := by decide +kernel
theorem d_MO_point_10 : decode b_MO_point 10 = .ok (.if_icmp .ne 37, 3) := by decide +kernel
theorem d_MO_point_13 : decode b_MO_point 13 = .ok (.iload_n 1, 1) := by decide +kernel
theorem d_MO_point_14 : decode b_MO_point 14 = .ok (.iconst 0, 1) := by decide +kernel
theorem d_MO_point_15 : decode b_MO_point 15 = .ok (.aload_n 0, 1) := by decide +kernel
theorem d_MO_point_16 : decode b_MO_point 16 = .ok (.getfield 62, 3) := by decide +kernel
theorem d_MO_point_19 : decode b_MO_point 19 = .ok (.iconst 1, 1) := by decide +kernel
theorem d_MO_point_20 : decode b_MO_point 20 = .ok (.isub, 1) := by decide +kernel
theorem d_MO_point_21 : decode b_MO_point 21 = .ok (.invokestatic 52, 3) := by decide +kernel
theorem d_MO_point_24 : decode b_MO_point 24 = .ok (.ifCond .eq 23, 3) := by decide +kernel
theorem d_MO_point_27 : decode b_MO_point 27 = .ok (.iload_n 2, 1) := by decide +kernel
theorem d_MO_point_28 : decode b_MO_point 28 = .ok (.iconst 0, 1) := by decide +kernel
theorem d_MO_point_29 : decode b_MO_point 29 = .ok (.bipush 11, 2) := by decide +kernel
theorem d_MO_point_31 : decode b_MO_point 31 = .ok (.invokestatic 52, 3) := by decide +kernel
theorem d_MO_point_34 : decode b_MO_point 34 = .ok (.ifCond .eq 13, 3) := by decide +kernel
theorem d_MO_point_37 : decode b_MO_point 37 = .ok (.iload_n 3, 1) := by decide +kernel
theorem d_MO_point_38 : decode b_MO_point 38 = .ok (.iconst 0, 1) := by decide +kernel
theorem d_MO_point_39 : decode b_MO_point 39 = .ok (.bipush 19, 2) := by decide +kernel
theorem d_MO_point_41 : decode b_MO_point 41 = .ok (.invokestatic 52, 3) := by decide +kernel
theorem d_MO_point_44 : decode b_MO_point 44 = .ok (.ifCond .ne 5, 3) := by decide +kernel
theorem d_MO_point_47 : decode b_MO_point 47 = .ok (.iconst (-1), 1) := by decide +kernel
theorem d_MO_point_48 : decode b_MO_point 48 = .ok (.ireturn, 1) := by decide +kernel
theorem d_MO_point_49 : decode b_MO_point 49 = .ok (.aload_n 0, 1) := by decide +kernel
theorem d_MO_point_50 : decode b_MO_point 50 = .ok (.getfield 17, 3) := by decide +kernel
theorem d_MO_point_53 : decode b_MO_point 53 = .ok (.aload_n 0, 1) := by decide +kernel
theorem d_MO_point_54 : decode b_MO_point 54 = .ok (.getfield 56, 3) := by decide +kernel
theorem d_MO_point_57 : decode b_MO_point 57 = .ok (.iconst 1, 1) := by decide +kernel
theorem d_MO_point_58 : decode b_MO_point 58 = .ok (.iload_n 1, 1) := by decide +kernel
theorem d_MO_point_59 : decode b_MO_point 59 = .ok (.invokestatic 44, 3) := by decide +kernel
theorem d_MO_point_62 : decode b_MO_point 62 = .ok (.iconst 1, 1) := by decide +kernel
theorem d_MO_point_63 : decode b_MO_point 63 = .ok (.invokestatic 75, 3) := by decide +kernel
theorem d_MO_point_66 : decode b_MO_point 66 = .ok (.bipush 10, 2) := by decide +kernel
theorem d_MO_point_68 : decode b_MO_point 68 = .ok (.irem, 1) := by decide +kernel
theorem d_MO_point_69 : decode b_MO_point 69 = .ok (.iaload, 1) := by decide +kernel
theorem d_MO_point_70 : decode b_MO_point 70 = .ok (.istore 4, 2) := by decide +kernel
theorem d_MO_point_72 : decode b_MO_point 72 = .ok (.iload 4, 2) := by decide +kernel
theorem d_MO_point_74 : decode b_MO_point 74 = .ok (.bipush 14, 2) := by decide +kernel
theorem d_MO_point_76 : decode b_MO_point 76 = .ok (.iconst 3, 1) := by decide +kernel
theorem d_MO_point_77 : decode b_MO_point 77 = .ok (.iload_n 3, 1) := by decide +kernel
theorem d_MO_point_78 : decode b_MO_point 78 = .ok (.iconst 4, 1) := by decide +kernel
theorem d_MO_point_79 : decode b_MO_point 79 = .ok (.idiv, 1) := by decide +kernel
theorem d_MO_point_80 : decode b_MO_point 80 = .ok (.imul, 1) := by decide +kernel
theorem d_MO_point_81 : decode b_MO_point 81 = .ok (.isub, 1) := by decide +kernel
theorem d_MO_point_82 : decode b_MO_point 82 = .ok (.iload_n 2, 1) := by decide +kernel
theorem d_MO_point_83 : decode b_MO_point 83 = .ok (.iconst 4, 1) := by decide +kernel
theorem d_MO_point_84 : decode b_MO_point 84 = .ok (.idiv, 1) := by decide +kernel
theorem d_MO_point_85 : decode b_MO_point 85 = .ok (.isub, 1) := by decide +kernel
theorem d_MO_point_86 : decode b_MO_point 86 = .ok (.ishr, 1) := by decide +kernel
theorem d_MO_point_87 : decode b_MO_point 87 = .ok (.iconst 1, 1) := by decide +kernel
theorem d_MO_point_88 : decode b_MO_point 88 = .ok (.iand, 1) := by decide +kernel
theorem d_MO_point_89 : decode b_MO_point 89 = .ok (.iconst 1, 1) := by decide +kernel
theorem d_MO_point_90 : decode b_MO_point 90 = .ok (.if_icmp .ne 7, 3) := by decide +kernel
theorem d_MO_point_93 : decode b_MO_point 93 = .ok (.iconst 1, 1) := by decide +kernel
theorem d_MO_point_94 : decode b_MO_point 94 = .ok (.goto 4, 3) := by decide +kernel
theorem d_MO_point_97 : decode b_MO_point 97 = .ok (.iconst 0, 1) := by decide +kernel
theorem d_MO_point_98 : decode b_MO_point 98 = .ok (.istore 5, 2) := by decide +kernel
theorem d_MO_point_100 : decode b_MO_point 100 = .ok (.iload 5, 2) := by decide +kernel
theorem d_MO_point_102 : decode b_MO_point 102 = .ok (.ifCond .eq 8, 3) := by decide +kernel
theorem d_MO_point_105 : decode b_MO_point 105 = .ok (.bipush 40, 2) := by decide +kernel
theorem d_MO_point_107 : decode b_MO_point 107 = .ok (.goto 6, 3) := by decide +kernel
theorem d_MO_point_110 : decode b_MO_point 110 = .ok (.sipush 200, 3) := by decide +kernel
theorem d_MO_point_113 : decode b_MO_point 113 = .ok (.aload_n 0, 1) := by decide +kernel
theorem d_MO_point_114 : decode b_MO_point 114 = .ok (.getfield 56, 3) := by decide +kernel
theorem d_MO_point_117 : decode b_MO_point 117 = .ok (.iconst 5, 1) := by decide +kernel
theorem d_MO_point_118 : decode b_MO_point 118 = .ok (.iload_n 1, 1) := by decide +kernel
theorem d_MO_point_119 : decode b_MO_point 119 = .ok (.iadd, 1) := by decide +kernel
theorem d_MO_point_120 : decode b_MO_point 120 = .ok (.bipush 12, 2) := by decide +kernel
theorem d_MO_point_122 : decode b_MO_point 122 = .ok (.iload_n 3, 1) := by decide +kernel
theorem d_MO_point_123 : decode b_MO_point 123 = .ok (.imul, 1) := by decide +kernel
theorem d_MO_point_124 : decode b_MO_point 124 = .ok (.iload_n 2, 1) := by decide +kernel
theorem d_MO_point_125 : decode b_MO_point 125 = .ok (.iadd, 1) := by decide +kernel
theorem d_MO_point_126 : decode b_MO_point 126 = .ok (.invokestatic 44, 3) := by decide +kernel
theorem d_MO_point_129 : decode b_MO_point 129 = .ok (.bipush 33, 2) := by decide +kernel
theorem d_MO_point_131 : decode b_MO_point 131 = .ok (.invokestatic 40, 3) := by decide +kernel
theorem d_MO_point_134 : decode b_MO_point 134 = .ok (.iadd, 1) := by decide +kernel
theorem d_MO_point_135 : decode b_MO_point 135 = .ok (.bipush 16, 2) := by decide +kernel
theorem d_MO_point_137 : decode b_MO_point 137 = .ok (.isub, 1) := by decide +kernel
theorem d_MO_point_138 : decode b_MO_point 138 = .ok (.ireturn, 1) := by decide +kernel
abbrev rm_MO_point : Room := { frames := 2, cells := 0, slots := 0, locals := 55 }
set_option maxHeartbeats 4000000 in
set_option maxRecDepth 100000 in
theorem c_MO_point (l : Launch) (D : va_G) (g0 a1 a2 a3 : Nat) (hj : mj g0 a1 a2 a3) (th : Int32) (sd : Int64) (db : Int64) (kd : Int32) (lf : Int32) (ns : Int32) (vb : Nat → Int32) (vt : Nat → Int32) (ik : Nat → Int32) (n : Nat) (hn : n ≤ 16) (hik : ∀ j, j < 10 → ik j = p_sign j) (sh x y : Int32) : Met l y_MO_point (Cond.code y_MO_point b_MO_point 6 (some .int) :: gw) rm_MO_point (cP D [.ref g0, .int sh, .int x, .int y] (va_P D classes (mo D g0 a1 a2 a3 th sd db (nI n) kd lf ns vb vt ik))) (mV (mA g0 a1 a2 a3) (fun v H => v = some (.int (p_point db kd n sh x y)) ∧ va_P D classes (mo D g0 a1 a2 a3 0 sd db (nI n) kd lf ns vb vt ik) H)) 0 0 (mA g0 a1 a2 a3) := by
  refine mt_B (by decide) (Nat.le_of_ble_eq_true rfl) ?_
  intro p e s m below meth c ls ⟨hx, hb, hr, hlocks, hin, hml, hown, hg⟩ ⟨hk, hp⟩ hl
  have hown : s.vm.findClass R_MO = some m.cls := hown
  have hS : va_S (mA g0 a1 a2 a3) s.heap s.heap [] := va_S.rf
  have hl : lv_has ls 6 [(0, .ref g0), (1, .int sh), (2, .int x), (3, .int y)] := hl
  have hP : va_P D classes (mo D g0 a1 a2 a3 th sd db (nI n) kd lf ns vb vt ik) s.heap := hp
  have hD : va_D (mA g0 a1 a2 a3) (mo D g0 a1 a2 a3 th sd db (nI n) kd lf ns vb vt ik) := mo_D hj _ _ _ _
  refine lv_aload_n hx hb d_MO_point_0 rfl (lv_at hl 0 rfl) ?_
  refine lv_iconst (v := 0) hx hb d_MO_point_1 (by decide) ?_
  refine va_put (D := D) (ci := 5) (v := .int 0) (ty := .int) (C := R_MO) (T := F_MO) (N := 10) hx hb hg i_MO T_MO k_MO n_MO hown hk.1 hP hD hS 0 rfl rfl 0 (by decide) (hg _ w_305) (fun _ h9 => h9) rfl (by decide +kernel) rfl rfl (Nat.le_of_ble_eq_true rfl) d_MO_point_2 (fun H locs hP hD hS => ?_)
  have hP : va_P D classes (mo D g0 a1 a2 a3 0 sd db (nI n) kd lf ns vb vt ik) H := hP
  have hD : va_D (mA g0 a1 a2 a3) (mo D g0 a1 a2 a3 0 sd db (nI n) kd lf ns vb vt ik) := hD
  refine lv_aload_n hx hb d_MO_point_5 rfl (lv_at hl 0 rfl) ?_
  refine x_get hx hb hg hown hk (hP 0 _ rfl) rfl i_MO 4 (by decide) w_309 rfl d_MO_point_6 ?_
  refine lv_iconst (v := 1) hx hb d_MO_point_9 (by decide) ?_
  refine lv_icmp_ne (tgt := 47) hx hb d_MO_point_10 (by decide) (fun c1 => ?_) (fun c1 => ?_)
  · refine lv_iconst (v := -1) hx hb d_MO_point_47 (by decide) ?_
    exact f_i hx hb hr hlocks hS ⟨by rw [p_point, if_pos c1], hP⟩ d_MO_point_48
  · refine lv_iload_n hx hb d_MO_point_13 rfl (lv_at hl 1 rfl) ?_
    refine lv_iconst (v := 0) hx hb d_MO_point_14 (by decide) ?_
    refine lv_aload_n hx hb d_MO_point_15 rfl (lv_at hl 0 rfl) ?_
    refine x_get hx hb hg hown hk (hP 0 _ rfl) rfl i_MO 3 (by decide) w_308 rfl d_MO_point_16 ?_
    refine lv_iconst (v := 1) hx hb d_MO_point_19 (by decide) ?_
    refine lv_isub hx hb d_MO_point_20 ?_
    refine k_S hx hb hml hown hg hk [.int sh, .int 0, .int ((nI n) - 1)] [] (c_MO_in l D sh 0 (nI n - 1)) z_MO_in w_346 w_347 (trivial) d_MO_point_21 rfl rfl ⟨Nat.le_of_ble_eq_true rfl, Nat.le_of_ble_eq_true rfl⟩ rfl hl.1 rfl (Nat.le_of_ble_eq_true rfl) ⟨Nat.zero_le _, Nat.zero_le _⟩ ?_
    refine lv_if_eq (tgt := 47) hx hb d_MO_point_24 (by decide) (fun c2 => ?_) (fun c2 => ?_)
    · refine lv_iconst (v := -1) hx hb d_MO_point_47 (by decide) ?_
      exact f_i hx hb hr hlocks hS ⟨by rw [p_point, if_neg (fun q => q c1), if_pos c2], hP⟩ d_MO_point_48
    · refine lv_iload_n hx hb d_MO_point_27 rfl (lv_at hl 2 rfl) ?_
      refine lv_iconst (v := 0) hx hb d_MO_point_28 (by decide) ?_
      refine lv_bipush (v := 11) hx hb d_MO_point_29 (by decide) ?_
      refine k_S hx hb hml hown hg hk [.int x, .int 0, .int 11] [] (c_MO_in l D x 0 11) z_MO_in w_346 w_347 (trivial) d_MO_point_31 rfl rfl ⟨Nat.le_of_ble_eq_true rfl, Nat.le_of_ble_eq_true rfl⟩ rfl hl.1 rfl (Nat.le_of_ble_eq_true rfl) ⟨Nat.zero_le _, Nat.zero_le _⟩ ?_
      refine lv_if_eq (tgt := 47) hx hb d_MO_point_34 (by decide) (fun c3 => ?_) (fun c3 => ?_)
      · refine lv_iconst (v := -1) hx hb d_MO_point_47 (by decide) ?_
        exact f_i hx hb hr hlocks hS ⟨by rw [p_point, if_neg (fun q => q c1), if_neg c2, if_pos c3], hP⟩ d_MO_point_48
      · refine lv_iload_n hx hb d_MO_point_37 rfl (lv_at hl 3 rfl) ?_
        refine lv_iconst (v := 0) hx hb d_MO_point_38 (by decide) ?_
        refine lv_bipush (v := 19) hx hb d_MO_point_39 (by decide) ?_
        refine k_S hx hb hml hown hg hk [.int y, .int 0, .int 19] [] (c_MO_in l D y 0 19) z_MO_in w_346 w_347 (trivial) d_MO_point_41 rfl rfl ⟨Nat.le_of_ble_eq_true rfl, Nat.le_of_ble_eq_true rfl⟩ rfl hl.1 rfl (Nat.le_of_ble_eq_true rfl) ⟨Nat.zero_le _, Nat.zero_le _⟩ ?_
        refine lv_if_ne (tgt := 49) hx hb d_MO_point_44 (by decide) (fun c4 => ?_) (fun c4 => ?_)
        · obtain ⟨j, hj2, ej⟩ := p_rest_lt (p_mix db 1 sh) (b := 100) (by decide) (by decide)
          have ef : p_fact (p_mix db 1 sh) 1 = nI j := by rw [p_fact, if_pos rfl]; exact ej
          have er : nI j - nI j / 10 * 10 = nI (j % 10) := pk_rem (d := 10) (by omega) (by decide) (by decide)
          have hm : j % 10 < 10 := Nat.mod_lt _ (by decide)
          have hink : p_ink db sh x y = (p_sign (j % 10) >>> (((14 - 3 * (y / 4)) - x / 4) &&& 31)) &&& 1 := by rw [p_ink, ef, irm, er, nI_clamp (by omega)]
          refine lv_aload_n hx hb d_MO_point_49 rfl (lv_at hl 0 rfl) ?_
          refine x_get hx hb hg hown hk (hP 0 _ rfl) rfl i_MO 9 (by decide) w_314 rfl d_MO_point_50 ?_
          refine lv_aload_n hx hb d_MO_point_53 rfl (lv_at hl 0 rfl) ?_
          refine x_get hx hb hg hown hk (hP 0 _ rfl) rfl i_MO 2 (by decide) w_307 rfl d_MO_point_54 ?_
          refine lv_iconst (v := 1) hx hb d_MO_point_57 (by decide) ?_
          refine lv_iload_n hx hb d_MO_point_58 rfl (lv_at hl 1 rfl) ?_
          refine k_S hx hb hml hown hg hk [.long db, .int 1, .int sh] [.ref a3] (c_MO_number l D db 1 sh) z_MO_number w_356 w_357 (trivial) d_MO_point_59 rfl rfl ⟨Nat.le_of_ble_eq_true rfl, Nat.le_of_ble_eq_true rfl⟩ rfl hl.1 rfl (Nat.le_of_ble_eq_true rfl) ⟨Nat.zero_le _, Nat.zero_le _⟩ ?_
          refine lv_iconst (v := 1) hx hb d_MO_point_62 (by decide) ?_
          refine k_S hx hb hml hown hg hk [.long (p_mix db 1 sh), .int 1] [.ref a3] (c_MO_fact l D (p_mix db 1 sh) 1) z_MO_fact w_367 w_368 (trivial) d_MO_point_63 rfl rfl ⟨Nat.le_of_ble_eq_true rfl, Nat.le_of_ble_eq_true rfl⟩ rfl hl.1 rfl (Nat.le_of_ble_eq_true rfl) ⟨Nat.zero_le _, Nat.zero_le _⟩ ?_
          rw [ef]
          refine lv_bipush (v := 10) hx hb d_MO_point_66 (by decide) ?_
          refine lv_irem hx hb d_MO_point_68 (by decide) ?_
          rw [er]
          refine va_iald hx hb hk.1 hP 3 1 rfl rfl (vp_in_nI hm (by decide)) d_MO_point_69 ?_
          rw [nI_clamp (by omega), hik _ hm]
          refine lv_istore (lv' := [(4, .int (p_sign (j % 10))), (0, .ref g0), (1, .int sh), (2, .int x), (3, .int y)]) hx hb d_MO_point_70 hl (by decide) rfl (fun ls hl => ?_)
          refine lv_iload hx hb d_MO_point_72 (lv_at hl 0 rfl) ?_
          refine lv_bipush (v := 14) hx hb d_MO_point_74 (by decide) ?_
          refine lv_iconst (v := 3) hx hb d_MO_point_76 (by decide) ?_
          refine lv_iload_n hx hb d_MO_point_77 rfl (lv_at hl 4 rfl) ?_
          refine lv_iconst (v := 4) hx hb d_MO_point_78 (by decide) ?_
          refine lv_idiv hx hb d_MO_point_79 (by decide) ?_
          refine lv_imul hx hb d_MO_point_80 ?_
          refine lv_isub hx hb d_MO_point_81 ?_
          refine lv_iload_n hx hb d_MO_point_82 rfl (lv_at hl 3 rfl) ?_
          refine lv_iconst (v := 4) hx hb d_MO_point_83 (by decide) ?_
          refine lv_idiv hx hb d_MO_point_84 (by decide) ?_
          refine lv_isub hx hb d_MO_point_85 ?_
          refine lv_ishr hx hb d_MO_point_86 ?_
          refine lv_iconst (v := 1) hx hb d_MO_point_87 (by decide) ?_
          refine lv_iand hx hb d_MO_point_88 ?_
          rw [← hink]
          refine lv_iconst (v := 1) hx hb d_MO_point_89 (by decide) ?_
          refine lv_icmp_ne (tgt := 97) hx hb d_MO_point_90 (by decide) (fun c5 => ?_) (fun c5 => ?_)
          · refine lv_iconst (v := 0) hx hb d_MO_point_97 (by decide) ?_
            refine lv_istore (lv' := [(5, .int 0), (4, .int (p_sign (j % 10))), (0, .ref g0), (1, .int sh), (2, .int x), (3, .int y)]) hx hb d_MO_point_98 hl (by decide) rfl (fun ls hl => ?_)
            refine lv_iload hx hb d_MO_point_100 (lv_at hl 0 rfl) ?_
            refine lv_if_eq (tgt := 110) hx hb d_MO_point_102 (by decide) (fun _ => ?_) (fun h => absurd (by decide) h)
            refine lv_sipush (v := 200) hx hb d_MO_point_110 (by decide) ?_
            refine lv_aload_n hx hb d_MO_point_113 rfl (lv_at hl 2 rfl) ?_
            refine x_get hx hb hg hown hk (hP 0 _ rfl) rfl i_MO 2 (by decide) w_307 rfl d_MO_point_114 ?_
            refine lv_iconst (v := 5) hx hb d_MO_point_117 (by decide) ?_
            refine lv_iload_n hx hb d_MO_point_118 rfl (lv_at hl 3 rfl) ?_
            refine lv_iadd hx hb d_MO_point_119 ?_
            refine lv_bipush (v := 12) hx hb d_MO_point_120 (by decide) ?_
            refine lv_iload_n hx hb d_MO_point_122 rfl (lv_at hl 5 rfl) ?_
            refine lv_imul hx hb d_MO_point_123 ?_
            refine lv_iload_n hx hb d_MO_point_124 rfl (lv_at hl 4 rfl) ?_
            refine lv_iadd hx hb d_MO_point_125 ?_
            refine k_S hx hb hml hown hg hk [.long db, .int (5 + sh), .int ((12 * y) + x)] [.int 200] (c_MO_number l D db (5 + sh) (12 * y + x)) z_MO_number w_356 w_357 (trivial) d_MO_point_126 rfl rfl ⟨Nat.le_of_ble_eq_true rfl, Nat.le_of_ble_eq_true rfl⟩ rfl hl.1 rfl (Nat.le_of_ble_eq_true rfl) ⟨Nat.zero_le _, Nat.zero_le _⟩ ?_
            refine lv_bipush (v := 33) hx hb d_MO_point_129 (by decide) ?_
            refine k_S hx hb hml hown hg hk [.long (p_mix db (5 + sh) (12 * y + x)), .int 33] [.int 200] (c_MO_rest l D (p_mix db (5 + sh) (12 * y + x)) 33 (by decide)) z_MO_rest w_370 w_371 (trivial) d_MO_point_131 rfl rfl ⟨Nat.le_of_ble_eq_true rfl, Nat.le_of_ble_eq_true rfl⟩ rfl hl.1 rfl (Nat.le_of_ble_eq_true rfl) ⟨Nat.zero_le _, Nat.zero_le _⟩ ?_
            refine lv_iadd hx hb d_MO_point_134 ?_
            refine lv_bipush (v := 16) hx hb d_MO_point_135 (by decide) ?_
            refine lv_isub hx hb d_MO_point_137 ?_
            exact f_i hx hb hr hlocks hS ⟨by rw [p_point, if_neg (fun q => q c1), if_neg c2, if_neg c3, if_neg c4, if_neg c5], hP⟩ d_MO_point_138
          · refine lv_iconst (v := 1) hx hb d_MO_point_93 (by decide) ?_
            refine lv_goto (tgt := 98) hx hb d_MO_point_94 (by decide) ?_
            refine lv_istore (lv' := [(5, .int 1), (4, .int (p_sign (j % 10))), (0, .ref g0), (1, .int sh), (2, .int x), (3, .int y)]) hx hb d_MO_point_98 hl (by decide) rfl (fun ls hl => ?_)
            refine lv_iload hx hb d_MO_point_100 (lv_at hl 0 rfl) ?_
            refine lv_if_eq (tgt := 110) hx hb d_MO_point_102 (by decide) (fun h => absurd h (by decide)) (fun _ => ?_)
            refine lv_bipush (v := 40) hx hb d_MO_point_105 (by decide) ?_
            refine lv_goto (tgt := 113) hx hb d_MO_point_107 (by decide) ?_
            refine lv_aload_n hx hb d_MO_point_113 rfl (lv_at hl 2 rfl) ?_
            refine x_get hx hb hg hown hk (hP 0 _ rfl) rfl i_MO 2 (by decide) w_307 rfl d_MO_point_114 ?_
            refine lv_iconst (v := 5) hx hb d_MO_point_117 (by decide) ?_
            refine lv_iload_n hx hb d_MO_point_118 rfl (lv_at hl 3 rfl) ?_
            refine lv_iadd hx hb d_MO_point_119 ?_
            refine lv_bipush (v := 12) hx hb d_MO_point_120 (by decide) ?_
            refine lv_iload_n hx hb d_MO_point_122 rfl (lv_at hl 5 rfl) ?_
            refine lv_imul hx hb d_MO_point_123 ?_
            refine lv_iload_n hx hb d_MO_point_124 rfl (lv_at hl 4 rfl) ?_
            refine lv_iadd hx hb d_MO_point_125 ?_
            refine k_S hx hb hml hown hg hk [.long db, .int (5 + sh), .int ((12 * y) + x)] [.int 40] (c_MO_number l D db (5 + sh) (12 * y + x)) z_MO_number w_356 w_357 (trivial) d_MO_point_126 rfl rfl ⟨Nat.le_of_ble_eq_true rfl, Nat.le_of_ble_eq_true rfl⟩ rfl hl.1 rfl (Nat.le_of_ble_eq_true rfl) ⟨Nat.zero_le _, Nat.zero_le _⟩ ?_
            refine lv_bipush (v := 33) hx hb d_MO_point_129 (by decide) ?_
            refine k_S hx hb hml hown hg hk [.long (p_mix db (5 + sh) (12 * y + x)), .int 33] [.int 40] (c_MO_rest l D (p_mix db (5 + sh) (12 * y + x)) 33 (by decide)) z_MO_rest w_370 w_371 (trivial) d_MO_point_131 rfl rfl ⟨Nat.le_of_ble_eq_true rfl, Nat.le_of_ble_eq_true rfl⟩ rfl hl.1 rfl (Nat.le_of_ble_eq_true rfl) ⟨Nat.zero_le _, Nat.zero_le _⟩ ?_
            refine lv_iadd hx hb d_MO_point_134 ?_
            refine lv_bipush (v := 16) hx hb d_MO_point_135 (by decide) ?_
            refine lv_isub hx hb d_MO_point_137 ?_
            exact f_i hx hb hr hlocks hS ⟨by rw [p_point, if_neg (fun q => q c1), if_neg c2, if_neg c3, if_neg c4, if_pos c5], hP⟩ d_MO_point_138
        · refine lv_iconst (v := -1) hx hb d_MO_point_47 (by decide) ?_
          exact f_i hx hb hr hlocks hS ⟨by rw [p_point, if_neg (fun q => q c1), if_neg c2, if_neg c3, if_pos c4], hP⟩ d_MO_point_48
theorem d_MO_verdict_0 : decode b_MO_verdict 0 = .ok (.aload_n 0, 1) := by decide +kernel
theorem d_MO_verdict_1 : decode b_MO_verdict 1 = .ok (.iconst 0, 1) := by decide +kernel
theorem d_MO_verdict_2 : decode b_MO_verdict 2 = .ok (.putfield 24, 3) := by decide +kernel
theorem d_MO_verdict_5 : decode b_MO_verdict 5 = .ok (.aload_n 0, 1) := by decide +kernel
theorem d_MO_verdict_6 : decode b_MO_verdict 6 = .ok (.getfield 62, 3) := by decide +kernel
theorem d_MO_verdict_9 : decode b_MO_verdict 9 = .ok (.ifCond .ne 6, 3) := by decide +kernel
theorem d_MO_verdict_12 : decode b_MO_verdict 12 = .ok (.bipush (-13), 2) := by decide +kernel
theorem d_MO_verdict_14 : decode b_MO_verdict 14 = .ok (.ireturn, 1) := by decide +kernel
theorem d_MO_verdict_15 : decode b_MO_verdict 15 = .ok (.iload_n 1, 1) := by decide +kernel
theorem d_MO_verdict_16 : decode b_MO_verdict 16 = .ok (.iconst 1, 1) := by decide +kernel
theorem d_MO_verdict_17 : decode b_MO_verdict 17 = .ok (.iconst 1, 1) := by decide +kernel
theorem d_MO_verdict_18 : decode b_MO_verdict 18 = .ok (.aload_n 0, 1) := by decide +kernel
theorem d_MO_verdict_19 : decode b_MO_verdict 19 = .ok (.getfield 62, 3) := by decide +kernel
theorem d_MO_verdict_22 : decode b_MO_verdict 22 = .ok (.ishl, 1) := by decide +kernel
theorem d_MO_verdict_23 : decode b_MO_verdict 23 = .ok (.iconst 1, 1) := by decide +kernel
theorem d_MO_verdict_24 : decode b_MO_verdict 24 = .ok (.isub, 1) := by decide +kernel
theorem d_MO_verdict_25 : decode b_MO_verdict 25 = .ok (.invokestatic 52, 3) := by decide +kernel
theorem d_MO_verdict_28 : decode b_MO_verdict 28 = .ok (.ifCond .ne 6, 3) := by decide +kernel
theorem d_MO_verdict_31 : decode b_MO_verdict 31 = .ok (.bipush (-12), 2) := by decide +kernel
theorem d_MO_verdict_33 : decode b_MO_verdict 33 = .ok (.ireturn, 1) := by decide +kernel
theorem d_MO_verdict_34 : decode b_MO_verdict 34 = .ok (.aload_n 0, 1) := by decide +kernel
theorem d_MO_verdict_35 : decode b_MO_verdict 35 = .ok (.iload_n 1, 1) := by decide +kernel
theorem d_MO_verdict_36 : decode b_MO_verdict 36 = .ok (.invokevirtual 78, 3) := by decide +kernel
theorem d_MO_verdict_39 : decode b_MO_verdict 39 = .ok (.istore_n 3, 1) := by decide +kernel
theorem d_MO_verdict_40 : decode b_MO_verdict 40 = .ok (.iload_n 3, 1) := by decide +kernel
theorem d_MO_verdict_41 : decode b_MO_verdict 41 = .ok (.iconst (-1), 1) := by decide +kernel
theorem d_MO_verdict_42 : decode b_MO_verdict 42 = .ok (.if_icmp .ne 15, 3) := by decide +kernel
theorem d_MO_verdict_45 : decode b_MO_verdict 45 = .ok (.aload_n 0, 1) := by decide +kernel
theorem d_MO_verdict_46 : decode b_MO_verdict 46 = .ok (.getfield 68, 3) := by decide +kernel
theorem d_MO_verdict_49 : decode b_MO_verdict 49 = .ok (.bipush 100, 2) := by decide +kernel
theorem d_MO_verdict_51 : decode b_MO_verdict 51 = .ok (.if_icmp .ne 6, 3) := by decide +kernel
theorem d_MO_verdict_54 : decode b_MO_verdict 54 = .ok (.bipush (-14), 2) := by decide +kernel
theorem d_MO_verdict_56 : decode b_MO_verdict 56 = .ok (.ireturn, 1) := by decide +kernel
theorem d_MO_verdict_57 : decode b_MO_verdict 57 = .ok (.iload_n 3, 1) := by decide +kernel
theorem d_MO_verdict_58 : decode b_MO_verdict 58 = .ok (.iconst (-1), 1) := by decide +kernel
theorem d_MO_verdict_59 : decode b_MO_verdict 59 = .ok (.if_icmp .ne 18, 3) := by decide +kernel
theorem d_MO_verdict_62 : decode b_MO_verdict 62 = .ok (.aload_n 0, 1) := by decide +kernel
theorem d_MO_verdict_63 : decode b_MO_verdict 63 = .ok (.getfield 68, 3) := by decide +kernel
theorem d_MO_verdict_66 : decode b_MO_verdict 66 = .ok (.istore_n 3, 1) := by decide +kernel
theorem d_MO_verdict_67 : decode b_MO_verdict 67 = .ok (.aload_n 0, 1) := by decide +kernel
theorem d_MO_verdict_68 : decode b_MO_verdict 68 = .ok (.dup, 1) := by decide +kernel
theorem d_MO_verdict_69 : decode b_MO_verdict 69 = .ok (.getfield 68, 3) := by decide +kernel
theorem d_MO_verdict_72 : decode b_MO_verdict 72 = .ok (.iconst 1, 1) := by decide +kernel
theorem d_MO_verdict_73 : decode b_MO_verdict 73 = .ok (.iadd, 1) := by decide +kernel
theorem d_MO_verdict_74 : decode b_MO_verdict 74 = .ok (.putfield 68, 3) := by decide +kernel
theorem d_MO_verdict_77 : decode b_MO_verdict 77 = .ok (.aload_n 0, 1) := by decide +kernel
theorem d_MO_verdict_78 : decode b_MO_verdict 78 = .ok (.getfield 7, 3) := by decide +kernel
theorem d_MO_verdict_81 : decode b_MO_verdict 81 = .ok (.iload_n 3, 1) := by decide +kernel
theorem d_MO_verdict_82 : decode b_MO_verdict 82 = .ok (.iload_n 1, 1) := by decide +kernel
theorem d_MO_verdict_83 : decode b_MO_verdict 83 = .ok (.iastore, 1) := by decide +kernel
theorem d_MO_verdict_84 : decode b_MO_verdict 84 = .ok (.aload_n 0, 1) := by decide +kernel
theorem d_MO_verdict_85 : decode b_MO_verdict 85 = .ok (.getfield 13, 3) := by decide +kernel
theorem d_MO_verdict_88 : decode b_MO_verdict 88 = .ok (.iload_n 3, 1) := by decide +kernel
theorem d_MO_verdict_89 : decode b_MO_verdict 89 = .ok (.iload_n 2, 1) := by decide +kernel
theorem d_MO_verdict_90 : decode b_MO_verdict 90 = .ok (.bastore, 1) := by decide +kernel
theorem d_MO_verdict_91 : decode b_MO_verdict 91 = .ok (.aload_n 0, 1) := by decide +kernel
theorem d_MO_verdict_92 : decode b_MO_verdict 92 = .ok (.getfield 68, 3) := by decide +kernel
theorem d_MO_verdict_95 : decode b_MO_verdict 95 = .ok (.ireturn, 1) := by decide +kernel
abbrev rm_MO_verdict : Room := { frames := 1, cells := 0, slots := 0, locals := 24 }
set_option maxHeartbeats 4000000 in
set_option maxRecDepth 100000 in
theorem c_MO_verdict_0 (l : Launch) (D : va_G) (g0 a1 a2 a3 : Nat) (hj : mj g0 a1 a2 a3) (th : Int32) (sd : Int64) (db : Int64) (kd : Int32) (lf : Int32) (ns : Int32) (vb : Nat → Int32) (vt : Nat → Int32) (ik : Nat → Int32) (b st : Int32) : Met l y_MO_verdict (Cond.code y_MO_verdict b_MO_verdict 4 (some .int) :: gw) rm_MO_verdict (cP D [.ref g0, .int b, .int st] (va_P D classes (mo D g0 a1 a2 a3 th sd db 0 kd lf ns vb vt ik))) (mV (mA g0 a1 a2 a3) (fun v H => v = some (.int (-13)) ∧ va_P D classes (mo D g0 a1 a2 a3 0 sd db 0 kd lf ns vb vt ik) H)) 0 0 (mA g0 a1 a2 a3) := by
  refine mt_B (by decide) (Nat.le_of_ble_eq_true rfl) ?_
  intro p e s m below meth c ls ⟨hx, hb, hr, hlocks, hin, hml, hown, hg⟩ ⟨hk, hp⟩ hl
  have hown : s.vm.findClass R_MO = some m.cls := hown
  have hS : va_S (mA g0 a1 a2 a3) s.heap s.heap [] := va_S.rf
  have hl : lv_has ls 4 [(0, .ref g0), (1, .int b), (2, .int st)] := hl
  have hP : va_P D classes (mo D g0 a1 a2 a3 th sd db 0 kd lf ns vb vt ik) s.heap := hp
  have hD : va_D (mA g0 a1 a2 a3) (mo D g0 a1 a2 a3 th sd db 0 kd lf ns vb vt ik) := mo_D hj _ _ _ _
  refine lv_aload_n hx hb d_MO_verdict_0 rfl (lv_at hl 0 rfl) ?_
  refine lv_iconst (v := 0) hx hb d_MO_verdict_1 (by decide) ?_
  refine va_put (D := D) (ci := 5) (v := .int 0) (ty := .int) (C := R_MO) (T := F_MO) (N := 10) hx hb hg i_MO T_MO k_MO n_MO hown hk.1 hP hD hS 0 rfl rfl 0 (by decide) (hg _ w_305) (fun _ h9 => h9) rfl (by decide +kernel) rfl rfl (Nat.le_of_ble_eq_true rfl) d_MO_verdict_2 (fun H locs hP hD hS => ?_)
  have hP : va_P D classes (mo D g0 a1 a2 a3 0 sd db 0 kd lf ns vb vt ik) H := hP
  have hD : va_D (mA g0 a1 a2 a3) (mo D g0 a1 a2 a3 0 sd db 0 kd lf ns vb vt ik) := hD
  refine lv_aload_n hx hb d_MO_verdict_5 rfl (lv_at hl 0 rfl) ?_
  refine x_get hx hb hg hown hk (hP 0 _ rfl) rfl i_MO 3 (by decide) w_308 rfl d_MO_verdict_6 ?_
  refine lv_if_ne (tgt := 15) hx hb d_MO_verdict_9 (by decide) (fun h => absurd (by decide) h) (fun _ => ?_)
  refine lv_bipush (v := -13) hx hb d_MO_verdict_12 (by decide) ?_
  exact f_i hx hb hr hlocks hS ⟨rfl, hP⟩ d_MO_verdict_14
set_option maxHeartbeats 4000000 in
set_option maxRecDepth 100000 in
theorem c_MO_verdict_1 (l : Launch) (D : va_G) (g0 a1 a2 a3 : Nat) (hj : mj g0 a1 a2 a3) (th : Int32) (sd : Int64) (db : Int64) (kd : Int32) (lf : Int32) (vb : Nat → Int32) (vt : Nat → Int32) (ik : Nat → Int32) (n : Nat) (hn0 : 0 < n) (hn : n ≤ 16) (nv : Nat) (hv : nv ≤ 100) (b st : Int32) (hst : st = 0 ∨ st = 1) (hno : p_in b 1 (nI (2 ^ n - 1)) = 0) : Met l y_MO_verdict (Cond.code y_MO_verdict b_MO_verdict 4 (some .int) :: gw) rm_MO_verdict (cP D [.ref g0, .int b, .int st] (va_P D classes (mo D g0 a1 a2 a3 th sd db (nI n) kd lf (nI nv) vb vt ik))) (mV (mA g0 a1 a2 a3) (fun v H => v = some (.int (-12)) ∧ va_P D classes (mo D g0 a1 a2 a3 0 sd db (nI n) kd lf (nI nv) vb vt ik) H)) 0 0 (mA g0 a1 a2 a3) := by
  refine mt_B (by decide) (Nat.le_of_ble_eq_true rfl) ?_
  intro p e s m below meth c ls ⟨hx, hb, hr, hlocks, hin, hml, hown, hg⟩ ⟨hk, hp⟩ hl
  have hown : s.vm.findClass R_MO = some m.cls := hown
  have hS : va_S (mA g0 a1 a2 a3) s.heap s.heap [] := va_S.rf
  have hl : lv_has ls 4 [(0, .ref g0), (1, .int b), (2, .int st)] := hl
  have hP : va_P D classes (mo D g0 a1 a2 a3 th sd db (nI n) kd lf (nI nv) vb vt ik) s.heap := hp
  have hD : va_D (mA g0 a1 a2 a3) (mo D g0 a1 a2 a3 th sd db (nI n) kd lf (nI nv) vb vt ik) := mo_D hj _ _ _ _
  refine lv_aload_n hx hb d_MO_verdict_0 rfl (lv_at hl 0 rfl) ?_
  refine lv_iconst (v := 0) hx hb d_MO_verdict_1 (by decide) ?_
  refine va_put (D := D) (ci := 5) (v := .int 0) (ty := .int) (C := R_MO) (T := F_MO) (N := 10) hx hb hg i_MO T_MO k_MO n_MO hown hk.1 hP hD hS 0 rfl rfl 0 (by decide) (hg _ w_305) (fun _ h9 => h9) rfl (by decide +kernel) rfl rfl (Nat.le_of_ble_eq_true rfl) d_MO_verdict_2 (fun H locs hP hD hS => ?_)
  have hP : va_P D classes (mo D g0 a1 a2 a3 0 sd db (nI n) kd lf (nI nv) vb vt ik) H := hP
  have hD : va_D (mA g0 a1 a2 a3) (mo D g0 a1 a2 a3 0 sd db (nI n) kd lf (nI nv) vb vt ik) := hD
  have h2p : 2 ^ n ≤ 2 ^ 16 := Nat.pow_le_pow_right (by decide) hn
  refine lv_aload_n hx hb d_MO_verdict_5 rfl (lv_at hl 0 rfl) ?_
  refine x_get hx hb hg hown hk (hP 0 _ rfl) rfl i_MO 3 (by decide) w_308 rfl d_MO_verdict_6 ?_
  refine lv_if_ne (tgt := 15) hx hb d_MO_verdict_9 (by decide) (fun c1 => ?_) (fun c1 => absurd c1 (nI_ne0 hn0 (by omega)))
  refine lv_iload_n hx hb d_MO_verdict_15 rfl (lv_at hl 1 rfl) ?_
  refine lv_iconst (v := 1) hx hb d_MO_verdict_16 (by decide) ?_
  refine lv_iconst (v := 1) hx hb d_MO_verdict_17 (by decide) ?_
  refine lv_aload_n hx hb d_MO_verdict_18 rfl (lv_at hl 0 rfl) ?_
  refine x_get hx hb hg hown hk (hP 0 _ rfl) rfl i_MO 3 (by decide) w_308 rfl d_MO_verdict_19 ?_
  refine lv_ishl hx hb d_MO_verdict_22 ?_
  refine lv_iconst (v := 1) hx hb d_MO_verdict_23 (by decide) ?_
  refine lv_isub hx hb d_MO_verdict_24 ?_
  rw [q_one (by omega), show (1 : Int32) = nI 1 from rfl, pk_sub (Nat.two_pow_pos _)]
  have e11 : nI 1 = (1 : Int32) := rfl
  rw [e11]
  refine k_S hx hb hml hown hg hk [.int b, .int 1, .int (nI (2 ^ n - 1))] [] (c_MO_in l D b 1 (nI (2 ^ n - 1))) z_MO_in w_346 w_347 (trivial) d_MO_verdict_25 rfl rfl ⟨Nat.le_of_ble_eq_true rfl, Nat.le_of_ble_eq_true rfl⟩ rfl hl.1 rfl (Nat.le_of_ble_eq_true rfl) ⟨Nat.zero_le _, Nat.zero_le _⟩ ?_
  refine lv_if_ne (tgt := 34) hx hb d_MO_verdict_28 (by decide) (fun c2 => absurd hno c2) (fun c2 => ?_)
  refine lv_bipush (v := -12) hx hb d_MO_verdict_31 (by decide) ?_
  exact f_i hx hb hr hlocks hS ⟨rfl, hP⟩ d_MO_verdict_33
set_option maxHeartbeats 4000000 in
set_option maxRecDepth 100000 in
theorem c_MO_verdict_2 (l : Launch) (D : va_G) (g0 a1 a2 a3 : Nat) (hj : mj g0 a1 a2 a3) (th : Int32) (sd : Int64) (db : Int64) (kd : Int32) (lf : Int32) (vb : Nat → Int32) (vt : Nat → Int32) (ik : Nat → Int32) (n : Nat) (hn0 : 0 < n) (hn : n ≤ 16) (nv : Nat) (hv : nv ≤ 100) (b st : Int32) (hst : st = 0 ∨ st = 1) (hyes : ¬ p_in b 1 (nI (2 ^ n - 1)) = 0) (hat : p_at vb b nv = none) (h100 : nv = 100) : Met l y_MO_verdict (Cond.code y_MO_verdict b_MO_verdict 4 (some .int) :: gw) rm_MO_verdict (cP D [.ref g0, .int b, .int st] (va_P D classes (mo D g0 a1 a2 a3 th sd db (nI n) kd lf (nI nv) vb vt ik))) (mV (mA g0 a1 a2 a3) (fun v H => v = some (.int (-14)) ∧ va_P D classes (mo D g0 a1 a2 a3 0 sd db (nI n) kd lf (nI nv) vb vt ik) H)) 0 0 (mA g0 a1 a2 a3) := by
  refine mt_B (by decide) (Nat.le_of_ble_eq_true rfl) ?_
  intro p e s m below meth c ls ⟨hx, hb, hr, hlocks, hin, hml, hown, hg⟩ ⟨hk, hp⟩ hl
  have hown : s.vm.findClass R_MO = some m.cls := hown
  have hS : va_S (mA g0 a1 a2 a3) s.heap s.heap [] := va_S.rf
  have hl : lv_has ls 4 [(0, .ref g0), (1, .int b), (2, .int st)] := hl
  have hP : va_P D classes (mo D g0 a1 a2 a3 th sd db (nI n) kd lf (nI nv) vb vt ik) s.heap := hp
  have hD : va_D (mA g0 a1 a2 a3) (mo D g0 a1 a2 a3 th sd db (nI n) kd lf (nI nv) vb vt ik) := mo_D hj _ _ _ _
  refine lv_aload_n hx hb d_MO_verdict_0 rfl (lv_at hl 0 rfl) ?_
  refine lv_iconst (v := 0) hx hb d_MO_verdict_1 (by decide) ?_
  refine va_put (D := D) (ci := 5) (v := .int 0) (ty := .int) (C := R_MO) (T := F_MO) (N := 10) hx hb hg i_MO T_MO k_MO n_MO hown hk.1 hP hD hS 0 rfl rfl 0 (by decide) (hg _ w_305) (fun _ h9 => h9) rfl (by decide +kernel) rfl rfl (Nat.le_of_ble_eq_true rfl) d_MO_verdict_2 (fun H locs hP hD hS => ?_)
  have hP : va_P D classes (mo D g0 a1 a2 a3 0 sd db (nI n) kd lf (nI nv) vb vt ik) H := hP
  have hD : va_D (mA g0 a1 a2 a3) (mo D g0 a1 a2 a3 0 sd db (nI n) kd lf (nI nv) vb vt ik) := hD
  have h2p : 2 ^ n ≤ 2 ^ 16 := Nat.pow_le_pow_right (by decide) hn
  refine lv_aload_n hx hb d_MO_verdict_5 rfl (lv_at hl 0 rfl) ?_
  refine x_get hx hb hg hown hk (hP 0 _ rfl) rfl i_MO 3 (by decide) w_308 rfl d_MO_verdict_6 ?_
  refine lv_if_ne (tgt := 15) hx hb d_MO_verdict_9 (by decide) (fun c1 => ?_) (fun c1 => absurd c1 (nI_ne0 hn0 (by omega)))
  refine lv_iload_n hx hb d_MO_verdict_15 rfl (lv_at hl 1 rfl) ?_
  refine lv_iconst (v := 1) hx hb d_MO_verdict_16 (by decide) ?_
  refine lv_iconst (v := 1) hx hb d_MO_verdict_17 (by decide) ?_
  refine lv_aload_n hx hb d_MO_verdict_18 rfl (lv_at hl 0 rfl) ?_
  refine x_get hx hb hg hown hk (hP 0 _ rfl) rfl i_MO 3 (by decide) w_308 rfl d_MO_verdict_19 ?_
  refine lv_ishl hx hb d_MO_verdict_22 ?_
  refine lv_iconst (v := 1) hx hb d_MO_verdict_23 (by decide) ?_
  refine lv_isub hx hb d_MO_verdict_24 ?_
  rw [q_one (by omega), show (1 : Int32) = nI 1 from rfl, pk_sub (Nat.two_pow_pos _)]
  have e11 : nI 1 = (1 : Int32) := rfl
  rw [e11]
  refine k_S hx hb hml hown hg hk [.int b, .int 1, .int (nI (2 ^ n - 1))] [] (c_MO_in l D b 1 (nI (2 ^ n - 1))) z_MO_in w_346 w_347 (trivial) d_MO_verdict_25 rfl rfl ⟨Nat.le_of_ble_eq_true rfl, Nat.le_of_ble_eq_true rfl⟩ rfl hl.1 rfl (Nat.le_of_ble_eq_true rfl) ⟨Nat.zero_le _, Nat.zero_le _⟩ ?_
  refine lv_if_ne (tgt := 34) hx hb d_MO_verdict_28 (by decide) (fun c2 => ?_) (fun c2 => absurd c2 hyes)
  refine lv_aload_n hx hb d_MO_verdict_34 rfl (lv_at hl 0 rfl) ?_
  refine lv_iload_n hx hb d_MO_verdict_35 rfl (lv_at hl 1 rfl) ?_
  refine k_V hx hb hml hown hg hk g0 [.int b] [] (c_MO_placeOf l D g0 a1 a2 a3 0 sd db (nI n) kd lf nv hv vb vt ik b) z_MO_placeOf w_382 w_384 s_MO_placeOf (rc_ob hk (hP 0 _ rfl) rfl) (hP) d_MO_verdict_36 rfl rfl ⟨Nat.le_of_ble_eq_true rfl, Nat.le_of_ble_eq_true rfl⟩ rfl hl.1 rfl (Nat.le_of_ble_eq_true rfl) ⟨Nat.zero_le _, Nat.zero_le _⟩ ?_
  rw [hat]
  refine lv_istore_n (lv' := [(3, .int (-1)), (0, .ref g0), (1, .int b), (2, .int st)]) hx hb d_MO_verdict_39 rfl hl (by decide) rfl (fun ls hl => ?_)
  refine lv_iload_n hx hb d_MO_verdict_40 rfl (lv_at hl 0 rfl) ?_
  refine lv_iconst (v := -1) hx hb d_MO_verdict_41 (by decide) ?_
  refine lv_icmp_ne (tgt := 57) hx hb d_MO_verdict_42 (by decide) (fun h => absurd (by decide) h) (fun _ => ?_)
  refine lv_aload_n hx hb d_MO_verdict_45 rfl (lv_at hl 1 rfl) ?_
  refine x_get hx hb hg hown hk (hP 0 _ rfl) rfl i_MO 6 (by decide) w_311 rfl d_MO_verdict_46 ?_
  refine lv_bipush (v := 100) hx hb d_MO_verdict_49 (by decide) ?_
  refine lv_icmp_ne (tgt := 57) hx hb d_MO_verdict_51 (by decide) (fun c3 => absurd (show nI nv = 100 by rw [h100]; rfl) c3) (fun c3 => ?_)
  refine lv_bipush (v := -14) hx hb d_MO_verdict_54 (by decide) ?_
  exact f_i hx hb hr hlocks hS ⟨rfl, hP⟩ d_MO_verdict_56
set_option maxHeartbeats 4000000 in
set_option maxRecDepth 100000 in
theorem c_MO_verdict_3 (l : Launch) (D : va_G) (g0 a1 a2 a3 : Nat) (hj : mj g0 a1 a2 a3) (th : Int32) (sd : Int64) (db : Int64) (kd : Int32) (lf : Int32) (vb : Nat → Int32) (vt : Nat → Int32) (ik : Nat → Int32) (n : Nat) (hn0 : 0 < n) (hn : n ≤ 16) (nv : Nat) (hv : nv ≤ 100) (b st : Int32) (hst : st = 0 ∨ st = 1) (hyes : ¬ p_in b 1 (nI (2 ^ n - 1)) = 0) (hat : p_at vb b nv = none) (h100 : nv < 100) : Met l y_MO_verdict (Cond.code y_MO_verdict b_MO_verdict 4 (some .int) :: gw) rm_MO_verdict (cP D [.ref g0, .int b, .int st] (va_P D classes (mo D g0 a1 a2 a3 th sd db (nI n) kd lf (nI nv) vb vt ik))) (mV (mA g0 a1 a2 a3) (fun v H => v = some (.int (nI (nv + 1))) ∧ va_P D classes (mo D g0 a1 a2 a3 0 sd db (nI n) kd lf (nI (nv + 1)) (upd vb nv b) (upd vt nv st) ik) H)) 0 0 (mA g0 a1 a2 a3) := by
  refine mt_B (by decide) (Nat.le_of_ble_eq_true rfl) ?_
  intro p e s m below meth c ls ⟨hx, hb, hr, hlocks, hin, hml, hown, hg⟩ ⟨hk, hp⟩ hl
  have hown : s.vm.findClass R_MO = some m.cls := hown
  have hS : va_S (mA g0 a1 a2 a3) s.heap s.heap [] := va_S.rf
  have hl : lv_has ls 4 [(0, .ref g0), (1, .int b), (2, .int st)] := hl
  have hP : va_P D classes (mo D g0 a1 a2 a3 th sd db (nI n) kd lf (nI nv) vb vt ik) s.heap := hp
  have hD : va_D (mA g0 a1 a2 a3) (mo D g0 a1 a2 a3 th sd db (nI n) kd lf (nI nv) vb vt ik) := mo_D hj _ _ _ _
  refine lv_aload_n hx hb d_MO_verdict_0 rfl (lv_at hl 0 rfl) ?_
  refine lv_iconst (v := 0) hx hb d_MO_verdict_1 (by decide) ?_
  refine va_put (D := D) (ci := 5) (v := .int 0) (ty := .int) (C := R_MO) (T := F_MO) (N := 10) hx hb hg i_MO T_MO k_MO n_MO hown hk.1 hP hD hS 0 rfl rfl 0 (by decide) (hg _ w_305) (fun _ h9 => h9) rfl (by decide +kernel) rfl rfl (Nat.le_of_ble_eq_true rfl) d_MO_verdict_2 (fun H locs hP hD hS => ?_)
  have hP : va_P D classes (mo D g0 a1 a2 a3 0 sd db (nI n) kd lf (nI nv) vb vt ik) H := hP
  have hD : va_D (mA g0 a1 a2 a3) (mo D g0 a1 a2 a3 0 sd db (nI n) kd lf (nI nv) vb vt ik) := hD
  have h2p : 2 ^ n ≤ 2 ^ 16 := Nat.pow_le_pow_right (by decide) hn
  refine lv_aload_n hx hb d_MO_verdict_5 rfl (lv_at hl 0 rfl) ?_
  refine x_get hx hb hg hown hk (hP 0 _ rfl) rfl i_MO 3 (by decide) w_308 rfl d_MO_verdict_6 ?_
  refine lv_if_ne (tgt := 15) hx hb d_MO_verdict_9 (by decide) (fun c1 => ?_) (fun c1 => absurd c1 (nI_ne0 hn0 (by omega)))
  refine lv_iload_n hx hb d_MO_verdict_15 rfl (lv_at hl 1 rfl) ?_
  refine lv_iconst (v := 1) hx hb d_MO_verdict_16 (by decide) ?_
  refine lv_iconst (v := 1) hx hb d_MO_verdict_17 (by decide) ?_
  refine lv_aload_n hx hb d_MO_verdict_18 rfl (lv_at hl 0 rfl) ?_
  refine x_get hx hb hg hown hk (hP 0 _ rfl) rfl i_MO 3 (by decide) w_308 rfl d_MO_verdict_19 ?_
  refine lv_ishl hx hb d_MO_verdict_22 ?_
  refine lv_iconst (v := 1) hx hb d_MO_verdict_23 (by decide) ?_
  refine lv_isub hx hb d_MO_verdict_24 ?_
  rw [q_one (by omega), show (1 : Int32) = nI 1 from rfl, pk_sub (Nat.two_pow_pos _)]
  have e11 : nI 1 = (1 : Int32) := rfl
  rw [e11]
  refine k_S hx hb hml hown hg hk [.int b, .int 1, .int (nI (2 ^ n - 1))] [] (c_MO_in l D b 1 (nI (2 ^ n - 1))) z_MO_in w_346 w_347 (trivial) d_MO_verdict_25 rfl rfl ⟨Nat.le_of_ble_eq_true rfl, Nat.le_of_ble_eq_true rfl⟩ rfl hl.1 rfl (Nat.le_of_ble_eq_true rfl) ⟨Nat.zero_le _, Nat.zero_le _⟩ ?_
  refine lv_if_ne (tgt := 34) hx hb d_MO_verdict_28 (by decide) (fun c2 => ?_) (fun c2 => absurd c2 hyes)
  refine lv_aload_n hx hb d_MO_verdict_34 rfl (lv_at hl 0 rfl) ?_
  refine lv_iload_n hx hb d_MO_verdict_35 rfl (lv_at hl 1 rfl) ?_
  refine k_V hx hb hml hown hg hk g0 [.int b] [] (c_MO_placeOf l D g0 a1 a2 a3 0 sd db (nI n) kd lf nv hv vb vt ik b) z_MO_placeOf w_382 w_384 s_MO_placeOf (rc_ob hk (hP 0 _ rfl) rfl) (hP) d_MO_verdict_36 rfl rfl ⟨Nat.le_of_ble_eq_true rfl, Nat.le_of_ble_eq_true rfl⟩ rfl hl.1 rfl (Nat.le_of_ble_eq_true rfl) ⟨Nat.zero_le _, Nat.zero_le _⟩ ?_
  rw [hat]
  refine lv_istore_n (lv' := [(3, .int (-1)), (0, .ref g0), (1, .int b), (2, .int st)]) hx hb d_MO_verdict_39 rfl hl (by decide) rfl (fun ls hl => ?_)
  refine lv_iload_n hx hb d_MO_verdict_40 rfl (lv_at hl 0 rfl) ?_
  refine lv_iconst (v := -1) hx hb d_MO_verdict_41 (by decide) ?_
  refine lv_icmp_ne (tgt := 57) hx hb d_MO_verdict_42 (by decide) (fun h => absurd (by decide) h) (fun _ => ?_)
  refine lv_aload_n hx hb d_MO_verdict_45 rfl (lv_at hl 1 rfl) ?_
  refine x_get hx hb hg hown hk (hP 0 _ rfl) rfl i_MO 6 (by decide) w_311 rfl d_MO_verdict_46 ?_
  refine lv_bipush (v := 100) hx hb d_MO_verdict_49 (by decide) ?_
  refine lv_icmp_ne (tgt := 57) hx hb d_MO_verdict_51 (by decide) (fun c3 => ?_) (fun c3 => absurd ((nI_eq (b := 100) (by omega) (by decide)).mp c3) (by omega))
  refine lv_iload_n hx hb d_MO_verdict_57 rfl (lv_at hl 0 rfl) ?_
  refine lv_iconst (v := -1) hx hb d_MO_verdict_58 (by decide) ?_
  refine lv_icmp_ne (tgt := 77) hx hb d_MO_verdict_59 (by decide) (fun h => absurd (by decide) h) (fun _ => ?_)
  refine lv_aload_n hx hb d_MO_verdict_62 rfl (lv_at hl 1 rfl) ?_
  refine x_get hx hb hg hown hk (hP 0 _ rfl) rfl i_MO 6 (by decide) w_311 rfl d_MO_verdict_63 ?_
  refine lv_istore_n (lv' := [(3, .int (nI nv)), (0, .ref g0), (1, .int b), (2, .int st)]) hx hb d_MO_verdict_66 rfl hl (by decide) rfl (fun ls hl => ?_)
  refine lv_aload_n hx hb d_MO_verdict_67 rfl (lv_at hl 1 rfl) ?_
  refine lv_dup hx hb d_MO_verdict_68 rfl ?_
  refine x_get hx hb hg hown hk (hP 0 _ rfl) rfl i_MO 6 (by decide) w_311 rfl d_MO_verdict_69 ?_
  refine lv_iconst (v := 1) hx hb d_MO_verdict_72 (by decide) ?_
  refine lv_iadd hx hb d_MO_verdict_73 ?_
  rw [nI_1]
  refine va_put (D := D) (ci := 5) (v := .int (nI (nv + 1))) (ty := .int) (C := R_MO) (T := F_MO) (N := 10) hx hb hg i_MO T_MO k_MO n_MO hown hk.1 hP hD hS 0 rfl rfl 6 (by decide) (hg _ w_311) (fun _ h9 => h9) rfl (by decide +kernel) rfl rfl (Nat.le_of_ble_eq_true rfl) d_MO_verdict_74 (fun H locs hP hD hS => ?_)
  have hP : va_P D classes (mo D g0 a1 a2 a3 0 sd db (nI n) kd lf (nI (nv + 1)) vb vt ik) H := hP
  have hD : va_D (mA g0 a1 a2 a3) (mo D g0 a1 a2 a3 0 sd db (nI n) kd lf (nI (nv + 1)) vb vt ik) := hD
  refine lv_aload_n hx hb d_MO_verdict_77 rfl (lv_at hl 1 rfl) ?_
  refine x_get hx hb hg hown hk (hP 0 _ rfl) rfl i_MO 7 (by decide) w_312 rfl d_MO_verdict_78 ?_
  refine lv_iload_n hx hb d_MO_verdict_81 rfl (lv_at hl 0 rfl) ?_
  refine lv_iload_n hx hb d_MO_verdict_82 rfl (lv_at hl 2 rfl) ?_
  refine va_iast hx hb hk.1 hP hD hS 1 1 rfl rfl (vp_in_nI (show nv < 100 by omega) (by decide)) d_MO_verdict_83 (fun H locs hP hD hS => ?_)
  rw [nI_clamp (by omega)] at hP
  have hP : va_P D classes (mo D g0 a1 a2 a3 0 sd db (nI n) kd lf (nI (nv + 1)) (upd vb nv b) vt ik) H := hP
  have hD : va_D (mA g0 a1 a2 a3) (mo D g0 a1 a2 a3 0 sd db (nI n) kd lf (nI (nv + 1)) (upd vb nv b) vt ik) := mo_D hj _ _ _ _
  refine lv_aload_n hx hb d_MO_verdict_84 rfl (lv_at hl 1 rfl) ?_
  refine x_get hx hb hg hown hk (hP 0 _ rfl) rfl i_MO 8 (by decide) w_313 rfl d_MO_verdict_85 ?_
  refine lv_iload_n hx hb d_MO_verdict_88 rfl (lv_at hl 0 rfl) ?_
  refine lv_iload_n hx hb d_MO_verdict_89 rfl (lv_at hl 3 rfl) ?_
  refine va_zast hx hb hk.1 hP hD hS 2 2 rfl rfl (vp_in_nI (show nv < 100 by omega) (by decide)) d_MO_verdict_90 (fun H locs hP hD hS => ?_)
  rw [nI_clamp (by omega), p_nar hst] at hP
  have hP : va_P D classes (mo D g0 a1 a2 a3 0 sd db (nI n) kd lf (nI (nv + 1)) (upd vb nv b) (upd vt nv st) ik) H := hP
  refine lv_aload_n hx hb d_MO_verdict_91 rfl (lv_at hl 1 rfl) ?_
  refine x_get hx hb hg hown hk (hP 0 _ rfl) rfl i_MO 6 (by decide) w_311 rfl d_MO_verdict_92 ?_
  exact f_i hx hb hr hlocks hS ⟨rfl, hP⟩ d_MO_verdict_95
set_option maxHeartbeats 4000000 in
set_option maxRecDepth 100000 in
theorem c_MO_verdict_4 (l : Launch) (D : va_G) (g0 a1 a2 a3 : Nat) (hj : mj g0 a1 a2 a3) (th : Int32) (sd : Int64) (db : Int64) (kd : Int32) (lf : Int32) (vb : Nat → Int32) (vt : Nat → Int32) (ik : Nat → Int32) (n : Nat) (hn0 : 0 < n) (hn : n ≤ 16) (nv : Nat) (hv : nv ≤ 100) (b st : Int32) (hst : st = 0 ∨ st = 1) (hyes : ¬ p_in b 1 (nI (2 ^ n - 1)) = 0) (k : Nat) (hat : p_at vb b nv = some k) : Met l y_MO_verdict (Cond.code y_MO_verdict b_MO_verdict 4 (some .int) :: gw) rm_MO_verdict (cP D [.ref g0, .int b, .int st] (va_P D classes (mo D g0 a1 a2 a3 th sd db (nI n) kd lf (nI nv) vb vt ik))) (mV (mA g0 a1 a2 a3) (fun v H => v = some (.int (nI nv)) ∧ va_P D classes (mo D g0 a1 a2 a3 0 sd db (nI n) kd lf (nI nv) (upd vb k b) (upd vt k st) ik) H)) 0 0 (mA g0 a1 a2 a3) := by
  refine mt_B (by decide) (Nat.le_of_ble_eq_true rfl) ?_
  intro p e s m below meth c ls ⟨hx, hb, hr, hlocks, hin, hml, hown, hg⟩ ⟨hk, hp⟩ hl
  have hown : s.vm.findClass R_MO = some m.cls := hown
  have hS : va_S (mA g0 a1 a2 a3) s.heap s.heap [] := va_S.rf
  have hl : lv_has ls 4 [(0, .ref g0), (1, .int b), (2, .int st)] := hl
  have hP : va_P D classes (mo D g0 a1 a2 a3 th sd db (nI n) kd lf (nI nv) vb vt ik) s.heap := hp
  have hD : va_D (mA g0 a1 a2 a3) (mo D g0 a1 a2 a3 th sd db (nI n) kd lf (nI nv) vb vt ik) := mo_D hj _ _ _ _
  refine lv_aload_n hx hb d_MO_verdict_0 rfl (lv_at hl 0 rfl) ?_
  refine lv_iconst (v := 0) hx hb d_MO_verdict_1 (by decide) ?_
  refine va_put (D := D) (ci := 5) (v := .int 0) (ty := .int) (C := R_MO) (T := F_MO) (N := 10) hx hb hg i_MO T_MO k_MO n_MO hown hk.1 hP hD hS 0 rfl rfl 0 (by decide) (hg _ w_305) (fun _ h9 => h9) rfl (by decide +kernel) rfl rfl (Nat.le_of_ble_eq_true rfl) d_MO_verdict_2 (fun H locs hP hD hS => ?_)
  have hP : va_P D classes (mo D g0 a1 a2 a3 0 sd db (nI n) kd lf (nI nv) vb vt ik) H := hP
  have hD : va_D (mA g0 a1 a2 a3) (mo D g0 a1 a2 a3 0 sd db (nI n) kd lf (nI nv) vb vt ik) := hD
  have h2p : 2 ^ n ≤ 2 ^ 16 := Nat.pow_le_pow_right (by decide) hn
  refine lv_aload_n hx hb d_MO_verdict_5 rfl (lv_at hl 0 rfl) ?_
  refine x_get hx hb hg hown hk (hP 0 _ rfl) rfl i_MO 3 (by decide) w_308 rfl d_MO_verdict_6 ?_
  refine lv_if_ne (tgt := 15) hx hb d_MO_verdict_9 (by decide) (fun c1 => ?_) (fun c1 => absurd c1 (nI_ne0 hn0 (by omega)))
  refine lv_iload_n hx hb d_MO_verdict_15 rfl (lv_at hl 1 rfl) ?_
  refine lv_iconst (v := 1) hx hb d_MO_verdict_16 (by decide) ?_
  refine lv_iconst (v := 1) hx hb d_MO_verdict_17 (by decide) ?_
  refine lv_aload_n hx hb d_MO_verdict_18 rfl (lv_at hl 0 rfl) ?_
  refine x_get hx hb hg hown hk (hP 0 _ rfl) rfl i_MO 3 (by decide) w_308 rfl d_MO_verdict_19 ?_
  refine lv_ishl hx hb d_MO_verdict_22 ?_
  refine lv_iconst (v := 1) hx hb d_MO_verdict_23 (by decide) ?_
  refine lv_isub hx hb d_MO_verdict_24 ?_
  rw [q_one (by omega), show (1 : Int32) = nI 1 from rfl, pk_sub (Nat.two_pow_pos _)]
  have e11 : nI 1 = (1 : Int32) := rfl
  rw [e11]
  refine k_S hx hb hml hown hg hk [.int b, .int 1, .int (nI (2 ^ n - 1))] [] (c_MO_in l D b 1 (nI (2 ^ n - 1))) z_MO_in w_346 w_347 (trivial) d_MO_verdict_25 rfl rfl ⟨Nat.le_of_ble_eq_true rfl, Nat.le_of_ble_eq_true rfl⟩ rfl hl.1 rfl (Nat.le_of_ble_eq_true rfl) ⟨Nat.zero_le _, Nat.zero_le _⟩ ?_
  refine lv_if_ne (tgt := 34) hx hb d_MO_verdict_28 (by decide) (fun c2 => ?_) (fun c2 => absurd c2 hyes)
  refine lv_aload_n hx hb d_MO_verdict_34 rfl (lv_at hl 0 rfl) ?_
  refine lv_iload_n hx hb d_MO_verdict_35 rfl (lv_at hl 1 rfl) ?_
  refine k_V hx hb hml hown hg hk g0 [.int b] [] (c_MO_placeOf l D g0 a1 a2 a3 0 sd db (nI n) kd lf nv hv vb vt ik b) z_MO_placeOf w_382 w_384 s_MO_placeOf (rc_ob hk (hP 0 _ rfl) rfl) (hP) d_MO_verdict_36 rfl rfl ⟨Nat.le_of_ble_eq_true rfl, Nat.le_of_ble_eq_true rfl⟩ rfl hl.1 rfl (Nat.le_of_ble_eq_true rfl) ⟨Nat.zero_le _, Nat.zero_le _⟩ ?_
  rw [hat]
  have hkv := (p_at_lt hat).1
  show W p l e rm_MO_verdict s m _ below meth c H locs 0 0 _ (F0 m 39 ls [.int (nI k)])
  refine lv_istore_n (lv' := [(3, .int (nI k)), (0, .ref g0), (1, .int b), (2, .int st)]) hx hb d_MO_verdict_39 rfl hl (by decide) rfl (fun ls hl => ?_)
  refine lv_iload_n hx hb d_MO_verdict_40 rfl (lv_at hl 0 rfl) ?_
  refine lv_iconst (v := -1) hx hb d_MO_verdict_41 (by decide) ?_
  refine lv_icmp_ne (tgt := 57) hx hb d_MO_verdict_42 (by decide) (fun c3 => ?_) (fun c3 => absurd c3 (p_ne1 (by omega)))
  refine lv_iload_n hx hb d_MO_verdict_57 rfl (lv_at hl 0 rfl) ?_
  refine lv_iconst (v := -1) hx hb d_MO_verdict_58 (by decide) ?_
  refine lv_icmp_ne (tgt := 77) hx hb d_MO_verdict_59 (by decide) (fun c4 => ?_) (fun c4 => absurd c4 (p_ne1 (by omega)))
  refine lv_aload_n hx hb d_MO_verdict_77 rfl (lv_at hl 1 rfl) ?_
  refine x_get hx hb hg hown hk (hP 0 _ rfl) rfl i_MO 7 (by decide) w_312 rfl d_MO_verdict_78 ?_
  refine lv_iload_n hx hb d_MO_verdict_81 rfl (lv_at hl 0 rfl) ?_
  refine lv_iload_n hx hb d_MO_verdict_82 rfl (lv_at hl 2 rfl) ?_
  refine va_iast hx hb hk.1 hP hD hS 1 1 rfl rfl (vp_in_nI (show k < 100 by omega) (by decide)) d_MO_verdict_83 (fun H locs hP hD hS => ?_)
  rw [nI_clamp (by omega)] at hP
  have hP : va_P D classes (mo D g0 a1 a2 a3 0 sd db (nI n) kd lf (nI nv) (upd vb k b) vt ik) H := hP
  have hD : va_D (mA g0 a1 a2 a3) (mo D g0 a1 a2 a3 0 sd db (nI n) kd lf (nI nv) (upd vb k b) vt ik) := mo_D hj _ _ _ _
  refine lv_aload_n hx hb d_MO_verdict_84 rfl (lv_at hl 1 rfl) ?_
  refine x_get hx hb hg hown hk (hP 0 _ rfl) rfl i_MO 8 (by decide) w_313 rfl d_MO_verdict_85 ?_
  refine lv_iload_n hx hb d_MO_verdict_88 rfl (lv_at hl 0 rfl) ?_
  refine lv_iload_n hx hb d_MO_verdict_89 rfl (lv_at hl 3 rfl) ?_
  refine va_zast hx hb hk.1 hP hD hS 2 2 rfl rfl (vp_in_nI (show k < 100 by omega) (by decide)) d_MO_verdict_90 (fun H locs hP hD hS => ?_)
  rw [nI_clamp (by omega), p_nar hst] at hP
  have hP : va_P D classes (mo D g0 a1 a2 a3 0 sd db (nI n) kd lf (nI nv) (upd vb k b) (upd vt k st) ik) H := hP
  refine lv_aload_n hx hb d_MO_verdict_91 rfl (lv_at hl 1 rfl) ?_
  refine x_get hx hb hg hown hk (hP 0 _ rfl) rfl i_MO 6 (by decide) w_311 rfl d_MO_verdict_92 ?_
  exact f_i hx hb hr hlocks hS ⟨rfl, hP⟩ d_MO_verdict_95
theorem d_MO_left_0 : decode b_MO_left 0 = .ok (.aload_n 0, 1) := by decide +kernel
theorem d_MO_left_1 : decode b_MO_left 1 = .ok (.iconst 0, 1) := by decide +kernel
theorem d_MO_left_2 : decode b_MO_left 2 = .ok (.putfield 24, 3) := by decide +kernel
theorem d_MO_left_5 : decode b_MO_left 5 = .ok (.iconst 0, 1) := by decide +kernel
theorem d_MO_left_6 : decode b_MO_left 6 = .ok (.istore_n 2, 1) := by decide +kernel
theorem d_MO_left_7 : decode b_MO_left 7 = .ok (.iconst 0, 1) := by decide +kernel
theorem d_MO_left_8 : decode b_MO_left 8 = .ok (.istore_n 3, 1) := by decide +kernel
theorem d_MO_left_9 : decode b_MO_left 9 = .ok (.iload_n 3, 1) := by decide +kernel
theorem d_MO_left_10 : decode b_MO_left 10 = .ok (.aload_n 0, 1) := by decide +kernel
theorem d_MO_left_11 : decode b_MO_left 11 = .ok (.getfield 62, 3) := by decide +kernel
theorem d_MO_left_14 : decode b_MO_left 14 = .ok (.if_icmp .ge 31, 3) := by decide +kernel
theorem d_MO_left_17 : decode b_MO_left 17 = .ok (.aload_n 0, 1) := by decide +kernel
theorem d_MO_left_18 : decode b_MO_left 18 = .ok (.getfield 65, 3) := by decide +kernel
theorem d_MO_left_21 : decode b_MO_left 21 = .ok (.iload_n 3, 1) := by decide +kernel
theorem d_MO_left_22 : decode b_MO_left 22 = .ok (.ishr, 1) := by decide +kernel
theorem d_MO_left_23 : decode b_MO_left 23 = .ok (.iconst 1, 1) := by decide +kernel
theorem d_MO_left_24 : decode b_MO_left 24 = .ok (.iand, 1) := by decide +kernel
theorem d_MO_left_25 : decode b_MO_left 25 = .ok (.iconst 1, 1) := by decide +kernel
theorem d_MO_left_26 : decode b_MO_left 26 = .ok (.if_icmp .ne 13, 3) := by decide +kernel
theorem d_MO_left_29 : decode b_MO_left 29 = .ok (.iload_n 2, 1) := by decide +kernel
theorem d_MO_left_30 : decode b_MO_left 30 = .ok (.iload_n 1, 1) := by decide +kernel
theorem d_MO_left_31 : decode b_MO_left 31 = .ok (.if_icmp .ne 5, 3) := by decide +kernel
theorem d_MO_left_34 : decode b_MO_left 34 = .ok (.iload_n 3, 1) := by decide +kernel
theorem d_MO_left_35 : decode b_MO_left 35 = .ok (.ireturn, 1) := by decide +kernel
theorem d_MO_left_36 : decode b_MO_left 36 = .ok (.iinc 2 1, 3) := by decide +kernel
theorem d_MO_left_39 : decode b_MO_left 39 = .ok (.iinc 3 1, 3) := by decide +kernel
theorem d_MO_left_42 : decode b_MO_left 42 = .ok (.goto (-33), 3) := by decide +kernel
theorem d_MO_left_45 : decode b_MO_left 45 = .ok (.iconst (-1), 1) := by decide +kernel
theorem d_MO_left_46 : decode b_MO_left 46 = .ok (.ireturn, 1) := by decide +kernel
abbrev rm_MO_left : Room := { frames := 0, cells := 0, slots := 0, locals := 0 }
set_option maxHeartbeats 4000000 in
set_option maxRecDepth 100000 in
theorem c_MO_left (l : Launch) (D : va_G) (g0 a1 a2 a3 : Nat) (hj : mj g0 a1 a2 a3) (th : Int32) (sd : Int64) (db : Int64) (kd : Int32) (ns : Int32) (vb : Nat → Int32) (vt : Nat → Int32) (ik : Nat → Int32) (n : Nat) (hn : n ≤ 16) (b : Nat) (hbb : b < 2 ^ 16) (i : Int32) : Met l y_MO_left (Cond.code y_MO_left b_MO_left 4 (some .int) :: gw) rm_MO_left (cP D [.ref g0, .int i] (va_P D classes (mo D g0 a1 a2 a3 th sd db (nI n) kd (nI b) ns vb vt ik))) (mV (mA g0 a1 a2 a3) (fun v H => v = some (.int (p_ls b i n 0)) ∧ va_P D classes (mo D g0 a1 a2 a3 0 sd db (nI n) kd (nI b) ns vb vt ik) H)) 0 0 (mA g0 a1 a2 a3) := by
  refine mt_B (by decide) (Nat.le_of_ble_eq_true rfl) ?_
  intro p e s m below meth c ls ⟨hx, hb, hr, hlocks, hin, hml, hown, hg⟩ ⟨hk, hp⟩ hl
  have hown : s.vm.findClass R_MO = some m.cls := hown
  have hS : va_S (mA g0 a1 a2 a3) s.heap s.heap [] := va_S.rf
  have hl : lv_has ls 4 [(0, .ref g0), (1, .int i)] := hl
  have hP : va_P D classes (mo D g0 a1 a2 a3 th sd db (nI n) kd (nI b) ns vb vt ik) s.heap := hp
  have hD : va_D (mA g0 a1 a2 a3) (mo D g0 a1 a2 a3 th sd db (nI n) kd (nI b) ns vb vt ik) := mo_D hj _ _ _ _
  refine lv_aload_n hx hb d_MO_left_0 rfl (lv_at hl 0 rfl) ?_
  refine lv_iconst (v := 0) hx hb d_MO_left_1 (by decide) ?_
  refine va_put (D := D) (ci := 5) (v := .int 0) (ty := .int) (C := R_MO) (T := F_MO) (N := 10) hx hb hg i_MO T_MO k_MO n_MO hown hk.1 hP hD hS 0 rfl rfl 0 (by decide) (hg _ w_305) (fun _ h9 => h9) rfl (by decide +kernel) rfl rfl (Nat.le_of_ble_eq_true rfl) d_MO_left_2 (fun H locs hP hD hS => ?_)
  have hP : va_P D classes (mo D g0 a1 a2 a3 0 sd db (nI n) kd (nI b) ns vb vt ik) H := hP
  have hD : va_D (mA g0 a1 a2 a3) (mo D g0 a1 a2 a3 0 sd db (nI n) kd (nI b) ns vb vt ik) := hD
  refine lv_iconst (v := 0) hx hb d_MO_left_5 (by decide) ?_
  refine lv_istore_n (lv' := [(2, .int 0), (0, .ref g0), (1, .int i)]) hx hb d_MO_left_6 rfl hl (by decide) rfl (fun ls hl => ?_)
  refine lv_iconst (v := 0) hx hb d_MO_left_7 (by decide) ?_
  refine lv_istore_n (lv' := [(3, .int 0), (2, .int 0), (0, .ref g0), (1, .int i)]) hx hb d_MO_left_8 rfl hl (by decide) rfl (fun ls hl => ?_)
  have loop : ∀ (fu : Nat) (j : Nat) (x3 x2 : Int32), j ≤ n → n - j < fu → x3 = nI j → x2 = nI (p_pop b j) → p_ls b i (n - j) j = p_ls b i n 0 → ∀ ls : Array Slot, lv_has ls 4 [(3, .int x3), (2, .int x2), (0, .ref g0), (1, .int i)] → W p l e rm_MO_left s m ([.ref g0, .int i] : List Value).toArray below meth c H locs 0 0 (MQ below (mV (mA g0 a1 a2 a3) (fun v H => v = some (.int (p_ls b i n 0)) ∧ va_P D classes (mo D g0 a1 a2 a3 0 sd db (nI n) kd (nI b) ns vb vt ik) H)) ([.ref g0, .int i] : List Value).toArray s 0 0 (mA g0 a1 a2 a3)) (F0 m 9 ls []) := by
    intro fu
    induction fu with
    | zero => intro j x3 x2 h1 h2 e3 e2 hg2; exact absurd h2 (Nat.not_lt_zero _)
    | succ fu ih =>
      intro j x3 x2 h1 h2 e3 e2 hg2 ls hl
      refine lv_iload_n hx hb d_MO_left_9 rfl (lv_at hl 0 rfl) ?_
      refine lv_aload_n hx hb d_MO_left_10 rfl (lv_at hl 2 rfl) ?_
      refine x_get hx hb hg hown hk (hP 0 _ rfl) rfl i_MO 3 (by decide) w_308 rfl d_MO_left_11 ?_
      refine lv_icmp_ge (tgt := 45) hx hb d_MO_left_14 (by decide) (fun c1 => ?_) (fun c1 => ?_)
      · have hjn : j = n := by have := (q_le rfl e3 (by omega) (by omega)).mp c1; omega
        refine lv_iconst (v := -1) hx hb d_MO_left_45 (by decide) ?_
        exact f_i hx hb hr hlocks hS ⟨by rw [← hg2, hjn, Nat.sub_self]; rfl, hP⟩ d_MO_left_46
      · have hjn : j < n := Nat.not_le.mp (fun h => c1 ((q_le rfl e3 (by omega) (by omega)).mpr h))
        subst e3
        have hs : n - j = (n - (j + 1)) + 1 := by omega
        refine lv_aload_n hx hb d_MO_left_17 rfl (lv_at hl 2 rfl) ?_
        refine x_get hx hb hg hown hk (hP 0 _ rfl) rfl i_MO 5 (by decide) w_310 rfl d_MO_left_18 ?_
        refine lv_iload_n hx hb d_MO_left_21 rfl (lv_at hl 0 rfl) ?_
        refine lv_ishr hx hb d_MO_left_22 ?_
        refine lv_iconst (v := 1) hx hb d_MO_left_23 (by decide) ?_
        refine lv_iand hx hb d_MO_left_24 ?_
        rw [q_bit (by omega) (by omega)]
        refine lv_iconst (v := 1) hx hb d_MO_left_25 (by decide) ?_
        refine lv_icmp_ne (tgt := 39) hx hb d_MO_left_26 (by decide) (fun c2 => ?_) (fun c2 => ?_)
        · obtain ⟨y3, ey3⟩ : ∃ y : Int32, y = (nI j) + 1 := ⟨_, rfl⟩
          refine lv_iinc (v := y3) (lv' := [(3, .int y3), (2, .int x2), (0, .ref g0), (1, .int i)]) hx hb d_MO_left_39 hl (k := 0) rfl (by rw [ey3]; rfl) (by decide) rfl (fun ls hl => ?_)
          refine lv_goto (tgt := 9) hx hb d_MO_left_42 (by decide) ?_
          have hb0 : b / 2 ^ j % 2 = 0 := by have h0 : ¬ b / 2 ^ j % 2 = 1 := fun h => c2 (by rw [h]; rfl); omega
          exact ih (j + 1) y3 x2 hjn (by omega) (by rw [ey3, nI_1]) (by rw [e2, p_pop, hb0]; rfl) (by rw [← hg2, hs, p_ls, if_neg (fun h => by omega)]) ls (lv_sub hl [0, 1, 2, 3] rfl)
        · have hb1 : b / 2 ^ j % 2 = 1 := (q_eq rfl (show (1 : Int32) = nI 1 from rfl) (by omega) (by omega)).mp c2
          refine lv_iload_n hx hb d_MO_left_29 rfl (lv_at hl 1 rfl) ?_
          refine lv_iload_n hx hb d_MO_left_30 rfl (lv_at hl 3 rfl) ?_
          refine lv_icmp_ne (tgt := 36) hx hb d_MO_left_31 (by decide) (fun c3 => ?_) (fun c3 => ?_)
          · obtain ⟨y2, ey2⟩ : ∃ y : Int32, y = x2 + 1 := ⟨_, rfl⟩
            refine lv_iinc (v := y2) (lv' := [(2, .int y2), (3, .int (nI j)), (0, .ref g0), (1, .int i)]) hx hb d_MO_left_36 hl (k := 1) rfl (by rw [ey2]; rfl) (by decide) rfl (fun ls hl => ?_)
            obtain ⟨y3, ey3⟩ : ∃ y : Int32, y = (nI j) + 1 := ⟨_, rfl⟩
            refine lv_iinc (v := y3) (lv' := [(3, .int y3), (2, .int y2), (0, .ref g0), (1, .int i)]) hx hb d_MO_left_39 hl (k := 1) rfl (by rw [ey3]; rfl) (by decide) rfl (fun ls hl => ?_)
            refine lv_goto (tgt := 9) hx hb d_MO_left_42 (by decide) ?_
            exact ih (j + 1) y3 y2 hjn (by omega) (by rw [ey3, nI_1]) (by rw [ey2, e2, p_pop, hb1, nI_1]) (by rw [← hg2, hs, p_ls, if_neg (fun h => c3 (e2.trans h.2))]) ls (lv_sub hl [0, 1, 2, 3] rfl)
          · refine lv_iload_n hx hb d_MO_left_34 rfl (lv_at hl 0 rfl) ?_
            exact f_i hx hb hr hlocks hS ⟨by rw [← hg2, hs, p_ls, if_pos ⟨hb1, e2.symm.trans c3⟩], hP⟩ d_MO_left_35
  exact loop (n + 1) 0 0 0 (Nat.zero_le _) (by omega) nI_0.symm nI_0.symm rfl ls (lv_sub hl [0, 1, 2, 3] rfl)
theorem d_MO_minimal_0 : decode b_MO_minimal 0 = .ok (.aload_n 0, 1) := by decide +kernel
theorem d_MO_minimal_1 : decode b_MO_minimal 1 = .ok (.iconst 0, 1) := by decide +kernel
theorem d_MO_minimal_2 : decode b_MO_minimal 2 = .ok (.putfield 24, 3) := by decide +kernel
theorem d_MO_minimal_5 : decode b_MO_minimal 5 = .ok (.aload_n 0, 1) := by decide +kernel
theorem d_MO_minimal_6 : decode b_MO_minimal 6 = .ok (.getfield 62, 3) := by decide +kernel
theorem d_MO_minimal_9 : decode b_MO_minimal 9 = .ok (.ifCond .le 31, 3) := by decide +kernel
theorem d_MO_minimal_12 : decode b_MO_minimal 12 = .ok (.aload_n 0, 1) := by decide +kernel
theorem d_MO_minimal_13 : decode b_MO_minimal 13 = .ok (.aload_n 0, 1) := by decide +kernel
theorem d_MO_minimal_14 : decode b_MO_minimal 14 = .ok (.getfield 65, 3) := by decide +kernel
theorem d_MO_minimal_17 : decode b_MO_minimal 17 = .ok (.invokevirtual 82, 3) := by decide +kernel
theorem d_MO_minimal_20 : decode b_MO_minimal 20 = .ok (.ifCond .eq 20, 3) := by decide +kernel
theorem d_MO_minimal_23 : decode b_MO_minimal 23 = .ok (.aload_n 0, 1) := by decide +kernel
theorem d_MO_minimal_24 : decode b_MO_minimal 24 = .ok (.aload_n 0, 1) := by decide +kernel
theorem d_MO_minimal_25 : decode b_MO_minimal 25 = .ok (.getfield 65, 3) := by decide +kernel
theorem d_MO_minimal_28 : decode b_MO_minimal 28 = .ok (.iconst 0, 1) := by decide +kernel
theorem d_MO_minimal_29 : decode b_MO_minimal 29 = .ok (.invokevirtual 86, 3) := by decide +kernel
theorem d_MO_minimal_32 : decode b_MO_minimal 32 = .ok (.iconst (-1), 1) := by decide +kernel
theorem d_MO_minimal_33 : decode b_MO_minimal 33 = .ok (.if_icmp .ne 7, 3) := by decide +kernel
theorem d_MO_minimal_36 : decode b_MO_minimal 36 = .ok (.iconst 1, 1) := by decide +kernel
theorem d_MO_minimal_37 : decode b_MO_minimal 37 = .ok (.goto 4, 3) := by decide +kernel
theorem d_MO_minimal_40 : decode b_MO_minimal 40 = .ok (.iconst 0, 1) := by decide +kernel
theorem d_MO_minimal_41 : decode b_MO_minimal 41 = .ok (.ireturn, 1) := by decide +kernel
abbrev rm_MO_minimal : Room := { frames := 3, cells := 0, slots := 0, locals := 69 }
set_option maxHeartbeats 4000000 in
set_option maxRecDepth 100000 in
theorem c_MO_minimal (l : Launch) (D : va_G) (g0 a1 a2 a3 : Nat) (hj : mj g0 a1 a2 a3) (th : Int32) (sd : Int64) (db : Int64) (kd : Int32) (vb : Nat → Int32) (vt : Nat → Int32) (ik : Nat → Int32) (n : Nat) (hn : n ≤ 16) (nv : Nat) (hv : nv ≤ 100) (ht : ∀ i, i < nv → vt i = 0 ∨ vt i = 1) (b : Nat) (hbb : b < 2 ^ 16) : Met l y_MO_minimal (Cond.code y_MO_minimal b_MO_minimal 1 (some .boolean) :: gw) rm_MO_minimal (cP D [.ref g0] (va_P D classes (mo D g0 a1 a2 a3 th sd db (nI n) kd (nI b) (nI nv) vb vt ik))) (mV (mA g0 a1 a2 a3) (fun v H => v = some (.int (p_min (fun x => p_st vb vt nv (nI x)) n b)) ∧ va_P D classes (mo D g0 a1 a2 a3 0 sd db (nI n) kd (nI b) (nI nv) vb vt ik) H)) 0 0 (mA g0 a1 a2 a3) := by
  refine mt_B (by decide) (Nat.le_of_ble_eq_true rfl) ?_
  intro p e s m below meth c ls ⟨hx, hb, hr, hlocks, hin, hml, hown, hg⟩ ⟨hk, hp⟩ hl
  have hown : s.vm.findClass R_MO = some m.cls := hown
  have hS : va_S (mA g0 a1 a2 a3) s.heap s.heap [] := va_S.rf
  have hl : lv_has ls 1 [(0, .ref g0)] := hl
  have hP : va_P D classes (mo D g0 a1 a2 a3 th sd db (nI n) kd (nI b) (nI nv) vb vt ik) s.heap := hp
  have hD : va_D (mA g0 a1 a2 a3) (mo D g0 a1 a2 a3 th sd db (nI n) kd (nI b) (nI nv) vb vt ik) := mo_D hj _ _ _ _
  refine lv_aload_n hx hb d_MO_minimal_0 rfl (lv_at hl 0 rfl) ?_
  refine lv_iconst (v := 0) hx hb d_MO_minimal_1 (by decide) ?_
  refine va_put (D := D) (ci := 5) (v := .int 0) (ty := .int) (C := R_MO) (T := F_MO) (N := 10) hx hb hg i_MO T_MO k_MO n_MO hown hk.1 hP hD hS 0 rfl rfl 0 (by decide) (hg _ w_305) (fun _ h9 => h9) rfl (by decide +kernel) rfl rfl (Nat.le_of_ble_eq_true rfl) d_MO_minimal_2 (fun H locs hP hD hS => ?_)
  have hP : va_P D classes (mo D g0 a1 a2 a3 0 sd db (nI n) kd (nI b) (nI nv) vb vt ik) H := hP
  have hD : va_D (mA g0 a1 a2 a3) (mo D g0 a1 a2 a3 0 sd db (nI n) kd (nI b) (nI nv) vb vt ik) := hD
  refine lv_aload_n hx hb d_MO_minimal_5 rfl (lv_at hl 0 rfl) ?_
  refine x_get hx hb hg hown hk (hP 0 _ rfl) rfl i_MO 3 (by decide) w_308 rfl d_MO_minimal_6 ?_
  refine lv_if_le (tgt := 40) hx hb d_MO_minimal_9 (by decide) (fun c1 => ?_) (fun c1 => ?_)
  · refine lv_iconst (v := 0) hx hb d_MO_minimal_40 (by decide) ?_
    exact f_z hx hb hr hlocks (by decide) hS ⟨by rw [p_min, if_pos (show n = 0 by have := (q_le rfl (show (0 : Int32) = nI 0 from rfl) (by omega) (by omega)).mp c1; omega)], hP⟩ d_MO_minimal_41
  · have hn0 : ¬ n = 0 := fun h => c1 (by rw [h]; exact Int32.le_refl _)
    refine lv_aload_n hx hb d_MO_minimal_12 rfl (lv_at hl 0 rfl) ?_
    refine lv_aload_n hx hb d_MO_minimal_13 rfl (lv_at hl 0 rfl) ?_
    refine x_get hx hb hg hown hk (hP 0 _ rfl) rfl i_MO 5 (by decide) w_310 rfl d_MO_minimal_14 ?_
    refine k_V hx hb hml hown hg hk g0 [.int (nI b)] [] (c_MO_stays l D g0 a1 a2 a3 0 sd db (nI n) kd (nI b) nv hv vb vt ik ht (nI b)) z_MO_stays w_390 w_392 s_MO_stays (rc_ob hk (hP 0 _ rfl) rfl) (hP) d_MO_minimal_17 rfl rfl ⟨Nat.le_of_ble_eq_true rfl, Nat.le_of_ble_eq_true rfl⟩ rfl hl.1 rfl (Nat.le_of_ble_eq_true rfl) ⟨Nat.zero_le _, Nat.zero_le _⟩ ?_
    refine lv_if_eq (tgt := 40) hx hb d_MO_minimal_20 (by decide) (fun c2 => ?_) (fun c2 => ?_)
    · refine lv_iconst (v := 0) hx hb d_MO_minimal_40 (by decide) ?_
      exact f_z hx hb hr hlocks (by decide) hS ⟨by rw [p_min, if_neg hn0, if_pos c2], hP⟩ d_MO_minimal_41
    · refine lv_aload_n hx hb d_MO_minimal_23 rfl (lv_at hl 0 rfl) ?_
      refine lv_aload_n hx hb d_MO_minimal_24 rfl (lv_at hl 0 rfl) ?_
      refine x_get hx hb hg hown hk (hP 0 _ rfl) rfl i_MO 5 (by decide) w_310 rfl d_MO_minimal_25 ?_
      refine lv_iconst (v := 0) hx hb d_MO_minimal_28 (by decide) ?_
      refine k_V hx hb hml hown hg hk g0 [.int (nI b), .int 0] [] (c_MO_without l D g0 a1 a2 a3 0 sd db n hn kd (nI b) nv hv vb vt ik ht b 0 hbb (Nat.zero_le _)) z_MO_without w_394 w_396 s_MO_without (rc_ob hk (hP 0 _ rfl) rfl) (hP) d_MO_minimal_29 rfl rfl ⟨Nat.le_of_ble_eq_true rfl, Nat.le_of_ble_eq_true rfl⟩ rfl hl.1 rfl (Nat.le_of_ble_eq_true rfl) ⟨Nat.zero_le _, Nat.zero_le _⟩ ?_
      refine lv_iconst (v := -1) hx hb d_MO_minimal_32 (by decide) ?_
      refine lv_icmp_ne (tgt := 40) hx hb d_MO_minimal_33 (by decide) (fun c3 => ?_) (fun c3 => ?_)
      · refine lv_iconst (v := 0) hx hb d_MO_minimal_40 (by decide) ?_
        exact f_z hx hb hr hlocks (by decide) hS ⟨by rw [p_min, if_neg hn0, if_neg c2, if_neg (fun h => c3 ((p_min_go (n := n) (by omega)).mpr h))], hP⟩ d_MO_minimal_41
      · refine lv_iconst (v := 1) hx hb d_MO_minimal_36 (by decide) ?_
        refine lv_goto (tgt := 41) hx hb d_MO_minimal_37 (by decide) ?_
        exact f_z hx hb hr hlocks (by decide) hS ⟨by rw [p_min, if_neg hn0, if_neg c2, if_pos ((p_min_go (n := n) (by omega)).mp c3)], hP⟩ d_MO_minimal_41
theorem d_MO_faultless_0 : decode b_MO_faultless 0 = .ok (.aload_n 0, 1) := by decide +kernel
theorem d_MO_faultless_1 : decode b_MO_faultless 1 = .ok (.iconst 0, 1) := by decide +kernel
theorem d_MO_faultless_2 : decode b_MO_faultless 2 = .ok (.putfield 24, 3) := by decide +kernel
theorem d_MO_faultless_5 : decode b_MO_faultless 5 = .ok (.aload_n 0, 1) := by decide +kernel
theorem d_MO_faultless_6 : decode b_MO_faultless 6 = .ok (.getfield 59, 3) := by decide +kernel
theorem d_MO_faultless_9 : decode b_MO_faultless 9 = .ok (.iconst 3, 1) := by decide +kernel
theorem d_MO_faultless_10 : decode b_MO_faultless 10 = .ok (.if_icmp .ne 40, 3) := by decide +kernel
theorem d_MO_faultless_13 : decode b_MO_faultless 13 = .ok (.iload_n 1, 1) := by decide +kernel
theorem d_MO_faultless_14 : decode b_MO_faultless 14 = .ok (.iconst 0, 1) := by decide +kernel
theorem d_MO_faultless_15 : decode b_MO_faultless 15 = .ok (.aload_n 0, 1) := by decide +kernel
theorem d_MO_faultless_16 : decode b_MO_faultless 16 = .ok (.getfield 62, 3) := by decide +kernel
theorem d_MO_faultless_19 : decode b_MO_faultless 19 = .ok (.iconst 1, 1) := by decide +kernel
theorem d_MO_faultless_20 : decode b_MO_faultless 20 = .ok (.isub, 1) := by decide +kernel
theorem d_MO_faultless_21 : decode b_MO_faultless 21 = .ok (.invokestatic 52, 3) := by decide +kernel
theorem d_MO_faultless_24 : decode b_MO_faultless 24 = .ok (.ifCond .eq 26, 3) := by decide +kernel
theorem d_MO_faultless_27 : decode b_MO_faultless 27 = .ok (.aload_n 0, 1) := by decide +kernel
theorem d_MO_faultless_28 : decode b_MO_faultless 28 = .ok (.getfield 56, 3) := by decide +kernel
theorem d_MO_faultless_31 : decode b_MO_faultless 31 = .ok (.aload_n 0, 1) := by decide +kernel
theorem d_MO_faultless_32 : decode b_MO_faultless 32 = .ok (.getfield 59, 3) := by decide +kernel
theorem d_MO_faultless_35 : decode b_MO_faultless 35 = .ok (.aload_n 0, 1) := by decide +kernel
theorem d_MO_faultless_36 : decode b_MO_faultless 36 = .ok (.getfield 62, 3) := by decide +kernel
theorem d_MO_faultless_39 : decode b_MO_faultless 39 = .ok (.iload_n 1, 1) := by decide +kernel
theorem d_MO_faultless_40 : decode b_MO_faultless 40 = .ok (.invokestatic 71, 3) := by decide +kernel
theorem d_MO_faultless_43 : decode b_MO_faultless 43 = .ok (.ifCond .ne 7, 3) := by decide +kernel
theorem d_MO_faultless_46 : decode b_MO_faultless 46 = .ok (.iconst 1, 1) := by decide +kernel
theorem d_MO_faultless_47 : decode b_MO_faultless 47 = .ok (.goto 4, 3) := by decide +kernel
theorem d_MO_faultless_50 : decode b_MO_faultless 50 = .ok (.iconst 0, 1) := by decide +kernel
theorem d_MO_faultless_51 : decode b_MO_faultless 51 = .ok (.ireturn, 1) := by decide +kernel
abbrev rm_MO_faultless : Room := { frames := 2, cells := 0, slots := 0, locals := 55 }
set_option maxHeartbeats 4000000 in
set_option maxRecDepth 100000 in
theorem c_MO_faultless (l : Launch) (D : va_G) (g0 a1 a2 a3 : Nat) (hj : mj g0 a1 a2 a3) (th : Int32) (sd : Int64) (db : Int64) (kd : Int32) (lf : Int32) (ns : Int32) (vb : Nat → Int32) (vt : Nat → Int32) (ik : Nat → Int32) (n : Nat) (hn : n ≤ 16) (i : Int32) : Met l y_MO_faultless (Cond.code y_MO_faultless b_MO_faultless 2 (some .boolean) :: gw) rm_MO_faultless (cP D [.ref g0, .int i] (va_P D classes (mo D g0 a1 a2 a3 th sd db (nI n) kd lf ns vb vt ik))) (mV (mA g0 a1 a2 a3) (fun v H => v = some (.int (p_faultless db kd n i)) ∧ va_P D classes (mo D g0 a1 a2 a3 0 sd db (nI n) kd lf ns vb vt ik) H)) 0 0 (mA g0 a1 a2 a3) := by
  refine mt_B (by decide) (Nat.le_of_ble_eq_true rfl) ?_
  intro p e s m below meth c ls ⟨hx, hb, hr, hlocks, hin, hml, hown, hg⟩ ⟨hk, hp⟩ hl
  have hown : s.vm.findClass R_MO = some m.cls := hown
  have hS : va_S (mA g0 a1 a2 a3) s.heap s.heap [] := va_S.rf
  have hl : lv_has ls 2 [(0, .ref g0), (1, .int i)] := hl
  have hP : va_P D classes (mo D g0 a1 a2 a3 th sd db (nI n) kd lf ns vb vt ik) s.heap := hp
  have hD : va_D (mA g0 a1 a2 a3) (mo D g0 a1 a2 a3 th sd db (nI n) kd lf ns vb vt ik) := mo_D hj _ _ _ _
  refine lv_aload_n hx hb d_MO_faultless_0 rfl (lv_at hl 0 rfl) ?_
  refine lv_iconst (v := 0) hx hb d_MO_faultless_1 (by decide) ?_
  refine va_put (D := D) (ci := 5) (v := .int 0) (ty := .int) (C := R_MO) (T := F_MO) (N := 10) hx hb hg i_MO T_MO k_MO n_MO hown hk.1 hP hD hS 0 rfl rfl 0 (by decide) (hg _ w_305) (fun _ h9 => h9) rfl (by decide +kernel) rfl rfl (Nat.le_of_ble_eq_true rfl) d_MO_faultless_2 (fun H locs hP hD hS => ?_)
  have hP : va_P D classes (mo D g0 a1 a2 a3 0 sd db (nI n) kd lf ns vb vt ik) H := hP
  have hD : va_D (mA g0 a1 a2 a3) (mo D g0 a1 a2 a3 0 sd db (nI n) kd lf ns vb vt ik) := hD
  refine lv_aload_n hx hb d_MO_faultless_5 rfl (lv_at hl 0 rfl) ?_
  refine x_get hx hb hg hown hk (hP 0 _ rfl) rfl i_MO 4 (by decide) w_309 rfl d_MO_faultless_6 ?_
  refine lv_iconst (v := 3) hx hb d_MO_faultless_9 (by decide) ?_
  refine lv_icmp_ne (tgt := 50) hx hb d_MO_faultless_10 (by decide) (fun c1 => ?_) (fun c1 => ?_)
  · refine lv_iconst (v := 0) hx hb d_MO_faultless_50 (by decide) ?_
    exact f_z hx hb hr hlocks (by decide) hS ⟨by rw [p_faultless, if_pos c1], hP⟩ d_MO_faultless_51
  · refine lv_iload_n hx hb d_MO_faultless_13 rfl (lv_at hl 1 rfl) ?_
    refine lv_iconst (v := 0) hx hb d_MO_faultless_14 (by decide) ?_
    refine lv_aload_n hx hb d_MO_faultless_15 rfl (lv_at hl 0 rfl) ?_
    refine x_get hx hb hg hown hk (hP 0 _ rfl) rfl i_MO 3 (by decide) w_308 rfl d_MO_faultless_16 ?_
    refine lv_iconst (v := 1) hx hb d_MO_faultless_19 (by decide) ?_
    refine lv_isub hx hb d_MO_faultless_20 ?_
    refine k_S hx hb hml hown hg hk [.int i, .int 0, .int ((nI n) - 1)] [] (c_MO_in l D i 0 (nI n - 1)) z_MO_in w_346 w_347 (trivial) d_MO_faultless_21 rfl rfl ⟨Nat.le_of_ble_eq_true rfl, Nat.le_of_ble_eq_true rfl⟩ rfl hl.1 rfl (Nat.le_of_ble_eq_true rfl) ⟨Nat.zero_le _, Nat.zero_le _⟩ ?_
    refine lv_if_eq (tgt := 50) hx hb d_MO_faultless_24 (by decide) (fun c2 => ?_) (fun c2 => ?_)
    · refine lv_iconst (v := 0) hx hb d_MO_faultless_50 (by decide) ?_
      exact f_z hx hb hr hlocks (by decide) hS ⟨by rw [p_faultless, if_neg (fun q => q c1), if_pos c2], hP⟩ d_MO_faultless_51
    · have hi := p_in_1 c2
      obtain ⟨j, hj2, rfl⟩ := p_rng (by omega) hi.1 hi.2
      refine lv_aload_n hx hb d_MO_faultless_27 rfl (lv_at hl 0 rfl) ?_
      refine x_get hx hb hg hown hk (hP 0 _ rfl) rfl i_MO 2 (by decide) w_307 rfl d_MO_faultless_28 ?_
      refine lv_aload_n hx hb d_MO_faultless_31 rfl (lv_at hl 0 rfl) ?_
      refine x_get hx hb hg hown hk (hP 0 _ rfl) rfl i_MO 4 (by decide) w_309 rfl d_MO_faultless_32 ?_
      refine lv_aload_n hx hb d_MO_faultless_35 rfl (lv_at hl 0 rfl) ?_
      refine x_get hx hb hg hown hk (hP 0 _ rfl) rfl i_MO 3 (by decide) w_308 rfl d_MO_faultless_36 ?_
      refine lv_iload_n hx hb d_MO_faultless_39 rfl (lv_at hl 1 rfl) ?_
      refine k_S hx hb hml hown hg hk [.long db, .int kd, .int (nI n), .int (nI j)] [] (c_MO_hasFaults l D db kd n j (by omega) (by omega)) z_MO_hasFaults w_353 w_354 (trivial) d_MO_faultless_40 rfl rfl ⟨Nat.le_of_ble_eq_true rfl, Nat.le_of_ble_eq_true rfl⟩ rfl hl.1 rfl (Nat.le_of_ble_eq_true rfl) ⟨Nat.zero_le _, Nat.zero_le _⟩ ?_
      refine lv_if_ne (tgt := 50) hx hb d_MO_faultless_43 (by decide) (fun c3 => ?_) (fun c3 => ?_)
      · refine lv_iconst (v := 0) hx hb d_MO_faultless_50 (by decide) ?_
        exact f_z hx hb hr hlocks (by decide) hS ⟨by rw [p_faultless, if_neg (fun q => q c1), if_neg c2, nI_clamp (by omega), if_neg c3], hP⟩ d_MO_faultless_51
      · refine lv_iconst (v := 1) hx hb d_MO_faultless_46 (by decide) ?_
        refine lv_goto (tgt := 51) hx hb d_MO_faultless_47 (by decide) ?_
        exact f_z hx hb hr hlocks (by decide) hS ⟨by rw [p_faultless, if_neg (fun q => q c1), if_neg c2, nI_clamp (by omega), if_pos c3], hP⟩ d_MO_faultless_51
end
section
/-! MODEL: shorter, same, the constructor (printed by gen/mpub2.py) -/
theorem d_MO_shorter_0 : decode b_MO_shorter 0 = .ok (.aload_n 0, 1) := by decide +kernel
theorem d_MO_shorter_1 : decode b_MO_shorter 1 = .ok (.iconst 0, 1) := by decide +kernel
theorem d_MO_shorter_2 : decode b_MO_shorter 2 = .ok (.putfield 24, 3) := by decide +kernel
theorem d_MO_shorter_5 : decode b_MO_shorter 5 = .ok (.aload_n 0, 1) := by decide +kernel
theorem d_MO_shorter_6 : decode b_MO_shorter 6 = .ok (.getfield 62, 3) := by decide +kernel
theorem d_MO_shorter_9 : decode b_MO_shorter 9 = .ok (.ifCond .ne 6, 3) := by decide +kernel
theorem d_MO_shorter_12 : decode b_MO_shorter 12 = .ok (.bipush (-13), 2) := by decide +kernel
theorem d_MO_shorter_14 : decode b_MO_shorter 14 = .ok (.ireturn, 1) := by decide +kernel
theorem d_MO_shorter_15 : decode b_MO_shorter 15 = .ok (.iconst 1, 1) := by decide +kernel
theorem d_MO_shorter_16 : decode b_MO_shorter 16 = .ok (.aload_n 0, 1) := by decide +kernel
theorem d_MO_shorter_17 : decode b_MO_shorter 17 = .ok (.getfield 62, 3) := by decide +kernel
theorem d_MO_shorter_20 : decode b_MO_shorter 20 = .ok (.ishl, 1) := by decide +kernel
theorem d_MO_shorter_21 : decode b_MO_shorter 21 = .ok (.iconst 1, 1) := by decide +kernel
theorem d_MO_shorter_22 : decode b_MO_shorter 22 = .ok (.isub, 1) := by decide +kernel
theorem d_MO_shorter_23 : decode b_MO_shorter 23 = .ok (.istore_n 1, 1) := by decide +kernel
theorem d_MO_shorter_24 : decode b_MO_shorter 24 = .ok (.aload_n 0, 1) := by decide +kernel
theorem d_MO_shorter_25 : decode b_MO_shorter 25 = .ok (.iload_n 1, 1) := by decide +kernel
theorem d_MO_shorter_26 : decode b_MO_shorter 26 = .ok (.invokevirtual 82, 3) := by decide +kernel
theorem d_MO_shorter_29 : decode b_MO_shorter 29 = .ok (.ifCond .eq 47, 3) := by decide +kernel
theorem d_MO_shorter_32 : decode b_MO_shorter 32 = .ok (.iconst 0, 1) := by decide +kernel
theorem d_MO_shorter_33 : decode b_MO_shorter 33 = .ok (.istore_n 2, 1) := by decide +kernel
theorem d_MO_shorter_34 : decode b_MO_shorter 34 = .ok (.iload_n 2, 1) := by decide +kernel
theorem d_MO_shorter_35 : decode b_MO_shorter 35 = .ok (.ifCond .lt 41, 3) := by decide +kernel
theorem d_MO_shorter_38 : decode b_MO_shorter 38 = .ok (.aload_n 0, 1) := by decide +kernel
theorem d_MO_shorter_39 : decode b_MO_shorter 39 = .ok (.iload_n 1, 1) := by decide +kernel
theorem d_MO_shorter_40 : decode b_MO_shorter 40 = .ok (.iload_n 2, 1) := by decide +kernel
theorem d_MO_shorter_41 : decode b_MO_shorter 41 = .ok (.invokevirtual 86, 3) := by decide +kernel
theorem d_MO_shorter_44 : decode b_MO_shorter 44 = .ok (.istore_n 3, 1) := by decide +kernel
theorem d_MO_shorter_45 : decode b_MO_shorter 45 = .ok (.iload_n 3, 1) := by decide +kernel
theorem d_MO_shorter_46 : decode b_MO_shorter 46 = .ok (.iconst (-1), 1) := by decide +kernel
theorem d_MO_shorter_47 : decode b_MO_shorter 47 = .ok (.if_icmp .eq 16, 3) := by decide +kernel
theorem d_MO_shorter_50 : decode b_MO_shorter 50 = .ok (.iload_n 1, 1) := by decide +kernel
theorem d_MO_shorter_51 : decode b_MO_shorter 51 = .ok (.iconst 1, 1) := by decide +kernel
theorem d_MO_shorter_52 : decode b_MO_shorter 52 = .ok (.iload_n 3, 1) := by decide +kernel
theorem d_MO_shorter_53 : decode b_MO_shorter 53 = .ok (.ishl, 1) := by decide +kernel
theorem d_MO_shorter_54 : decode b_MO_shorter 54 = .ok (.isub, 1) := by decide +kernel
theorem d_MO_shorter_55 : decode b_MO_shorter 55 = .ok (.istore_n 1, 1) := by decide +kernel
theorem d_MO_shorter_56 : decode b_MO_shorter 56 = .ok (.iload_n 3, 1) := by decide +kernel
theorem d_MO_shorter_57 : decode b_MO_shorter 57 = .ok (.iconst 1, 1) := by decide +kernel
theorem d_MO_shorter_58 : decode b_MO_shorter 58 = .ok (.iadd, 1) := by decide +kernel
theorem d_MO_shorter_59 : decode b_MO_shorter 59 = .ok (.istore_n 2, 1) := by decide +kernel
theorem d_MO_shorter_60 : decode b_MO_shorter 60 = .ok (.goto 13, 3) := by decide +kernel
theorem d_MO_shorter_63 : decode b_MO_shorter 63 = .ok (.iload_n 2, 1) := by decide +kernel
theorem d_MO_shorter_64 : decode b_MO_shorter 64 = .ok (.ifCond .le 7, 3) := by decide +kernel
theorem d_MO_shorter_67 : decode b_MO_shorter 67 = .ok (.iconst 0, 1) := by decide +kernel
theorem d_MO_shorter_68 : decode b_MO_shorter 68 = .ok (.goto 4, 3) := by decide +kernel
theorem d_MO_shorter_71 : decode b_MO_shorter 71 = .ok (.iconst (-1), 1) := by decide +kernel
theorem d_MO_shorter_72 : decode b_MO_shorter 72 = .ok (.istore_n 2, 1) := by decide +kernel
theorem d_MO_shorter_73 : decode b_MO_shorter 73 = .ok (.goto (-39), 3) := by decide +kernel
theorem d_MO_shorter_76 : decode b_MO_shorter 76 = .ok (.aload_n 0, 1) := by decide +kernel
theorem d_MO_shorter_77 : decode b_MO_shorter 77 = .ok (.iload_n 1, 1) := by decide +kernel
theorem d_MO_shorter_78 : decode b_MO_shorter 78 = .ok (.putfield 65, 3) := by decide +kernel
theorem d_MO_shorter_81 : decode b_MO_shorter 81 = .ok (.iload_n 1, 1) := by decide +kernel
theorem d_MO_shorter_82 : decode b_MO_shorter 82 = .ok (.invokestatic 90, 3) := by decide +kernel
theorem d_MO_shorter_85 : decode b_MO_shorter 85 = .ok (.ireturn, 1) := by decide +kernel
abbrev rm_MO_shorter : Room := { frames := 3, cells := 0, slots := 0, locals := 69 }
set_option maxHeartbeats 4000000 in
set_option maxRecDepth 100000 in
theorem c_MO_shorter_0 (l : Launch) (D : va_G) (g0 a1 a2 a3 : Nat) (hj : mj g0 a1 a2 a3) (th : Int32) (sd : Int64) (db : Int64) (kd : Int32) (lf : Int32) (ns : Int32) (vb : Nat → Int32) (vt : Nat → Int32) (ik : Nat → Int32)  : Met l y_MO_shorter (Cond.code y_MO_shorter b_MO_shorter 4 (some .int) :: gw) rm_MO_shorter (cP D [.ref g0] (va_P D classes (mo D g0 a1 a2 a3 th sd db 0 kd lf ns vb vt ik))) (mV (mA g0 a1 a2 a3) (fun v H => v = some (.int (-13)) ∧ va_P D classes (mo D g0 a1 a2 a3 0 sd db 0 kd lf ns vb vt ik) H)) 0 0 (mA g0 a1 a2 a3) := by
  refine mt_B (by decide) (Nat.le_of_ble_eq_true rfl) ?_
  intro p e s m below meth c ls ⟨hx, hb, hr, hlocks, hin, hml, hown, hg⟩ ⟨hk, hp⟩ hl
  have hown : s.vm.findClass R_MO = some m.cls := hown
  have hS : va_S (mA g0 a1 a2 a3) s.heap s.heap [] := va_S.rf
  have hl : lv_has ls 4 [(0, .ref g0)] := hl
  have hP : va_P D classes (mo D g0 a1 a2 a3 th sd db 0 kd lf ns vb vt ik) s.heap := hp
  have hD : va_D (mA g0 a1 a2 a3) (mo D g0 a1 a2 a3 th sd db 0 kd lf ns vb vt ik) := mo_D hj _ _ _ _
  refine lv_aload_n hx hb d_MO_shorter_0 rfl (lv_at hl 0 rfl) ?_
  refine lv_iconst (v := 0) hx hb d_MO_shorter_1 (by decide) ?_
  refine va_put (D := D) (ci := 5) (v := .int 0) (ty := .int) (C := R_MO) (T := F_MO) (N := 10) hx hb hg i_MO T_MO k_MO n_MO hown hk.1 hP hD hS 0 rfl rfl 0 (by decide) (hg _ w_305) (fun _ h9 => h9) rfl (by decide +kernel) rfl rfl (Nat.le_of_ble_eq_true rfl) d_MO_shorter_2 (fun H locs hP hD hS => ?_)
  have hP : va_P D classes (mo D g0 a1 a2 a3 0 sd db 0 kd lf ns vb vt ik) H := hP
  have hD : va_D (mA g0 a1 a2 a3) (mo D g0 a1 a2 a3 0 sd db 0 kd lf ns vb vt ik) := hD
  refine lv_aload_n hx hb d_MO_shorter_5 rfl (lv_at hl 0 rfl) ?_
  refine x_get hx hb hg hown hk (hP 0 _ rfl) rfl i_MO 3 (by decide) w_308 rfl d_MO_shorter_6 ?_
  refine lv_if_ne (tgt := 15) hx hb d_MO_shorter_9 (by decide) (fun h => absurd (by decide) h) (fun _ => ?_)
  refine lv_bipush (v := -13) hx hb d_MO_shorter_12 (by decide) ?_
  exact f_i hx hb hr hlocks hS ⟨rfl, hP⟩ d_MO_shorter_14
set_option maxHeartbeats 4000000 in
set_option maxRecDepth 100000 in
theorem c_MO_shorter_1 (l : Launch) (D : va_G) (g0 a1 a2 a3 : Nat) (hj : mj g0 a1 a2 a3) (th : Int32) (sd : Int64) (db : Int64) (kd : Int32) (lf : Int32) (vb : Nat → Int32) (vt : Nat → Int32) (ik : Nat → Int32) (n : Nat) (hn0 : 0 < n) (hn : n ≤ 16) (nv : Nat) (hv : nv ≤ 100) (ht : ∀ i, i < nv → vt i = 0 ∨ vt i = 1)  : Met l y_MO_shorter (Cond.code y_MO_shorter b_MO_shorter 4 (some .int) :: gw) rm_MO_shorter (cP D [.ref g0] (va_P D classes (mo D g0 a1 a2 a3 th sd db (nI n) kd lf (nI nv) vb vt ik))) (mV (mA g0 a1 a2 a3) (fun v H => v = some (.int (nI (p_pop (p_sh (fun x => p_st vb vt nv (nI x)) n) 16))) ∧ va_P D classes (mo D g0 a1 a2 a3 0 sd db (nI n) kd (nI (p_sh (fun x => p_st vb vt nv (nI x)) n)) (nI nv) vb vt ik) H)) 0 0 (mA g0 a1 a2 a3) := by
  refine mt_B (by decide) (Nat.le_of_ble_eq_true rfl) ?_
  intro p e s m below meth c ls ⟨hx, hb, hr, hlocks, hin, hml, hown, hg⟩ ⟨hk, hp⟩ hl
  have hown : s.vm.findClass R_MO = some m.cls := hown
  have hS : va_S (mA g0 a1 a2 a3) s.heap s.heap [] := va_S.rf
  have hl : lv_has ls 4 [(0, .ref g0)] := hl
  have hP : va_P D classes (mo D g0 a1 a2 a3 th sd db (nI n) kd lf (nI nv) vb vt ik) s.heap := hp
  have hD : va_D (mA g0 a1 a2 a3) (mo D g0 a1 a2 a3 th sd db (nI n) kd lf (nI nv) vb vt ik) := mo_D hj _ _ _ _
  refine lv_aload_n hx hb d_MO_shorter_0 rfl (lv_at hl 0 rfl) ?_
  refine lv_iconst (v := 0) hx hb d_MO_shorter_1 (by decide) ?_
  refine va_put (D := D) (ci := 5) (v := .int 0) (ty := .int) (C := R_MO) (T := F_MO) (N := 10) hx hb hg i_MO T_MO k_MO n_MO hown hk.1 hP hD hS 0 rfl rfl 0 (by decide) (hg _ w_305) (fun _ h9 => h9) rfl (by decide +kernel) rfl rfl (Nat.le_of_ble_eq_true rfl) d_MO_shorter_2 (fun H locs hP hD hS => ?_)
  have hP : va_P D classes (mo D g0 a1 a2 a3 0 sd db (nI n) kd lf (nI nv) vb vt ik) H := hP
  have hD : va_D (mA g0 a1 a2 a3) (mo D g0 a1 a2 a3 0 sd db (nI n) kd lf (nI nv) vb vt ik) := hD
  have h2p : 2 ^ n ≤ 2 ^ 16 := Nat.pow_le_pow_right (by decide) hn
  have h2q : 0 < 2 ^ n := Nat.two_pow_pos n
  refine lv_aload_n hx hb d_MO_shorter_5 rfl (lv_at hl 0 rfl) ?_
  refine x_get hx hb hg hown hk (hP 0 _ rfl) rfl i_MO 3 (by decide) w_308 rfl d_MO_shorter_6 ?_
  refine lv_if_ne (tgt := 15) hx hb d_MO_shorter_9 (by decide) (fun c1 => ?_) (fun c1 => absurd c1 (nI_ne0 hn0 (by omega)))
  refine lv_iconst (v := 1) hx hb d_MO_shorter_15 (by decide) ?_
  refine lv_aload_n hx hb d_MO_shorter_16 rfl (lv_at hl 0 rfl) ?_
  refine x_get hx hb hg hown hk (hP 0 _ rfl) rfl i_MO 3 (by decide) w_308 rfl d_MO_shorter_17 ?_
  refine lv_ishl hx hb d_MO_shorter_20 ?_
  refine lv_iconst (v := 1) hx hb d_MO_shorter_21 (by decide) ?_
  refine lv_isub hx hb d_MO_shorter_22 ?_
  rw [q_one (by omega), show (1 : Int32) = nI 1 from rfl, pk_sub (Nat.two_pow_pos _)]
  refine lv_istore_n (lv' := [(1, .int (nI (2 ^ n - 1))), (0, .ref g0)]) hx hb d_MO_shorter_23 rfl hl (by decide) rfl (fun ls hl => ?_)
  refine lv_aload_n hx hb d_MO_shorter_24 rfl (lv_at hl 1 rfl) ?_
  refine lv_iload_n hx hb d_MO_shorter_25 rfl (lv_at hl 0 rfl) ?_
  refine k_V hx hb hml hown hg hk g0 [.int (nI (2 ^ n - 1))] [] (c_MO_stays l D g0 a1 a2 a3 0 sd db (nI n) kd lf nv hv vb vt ik ht (nI (2 ^ n - 1))) z_MO_stays w_390 w_392 s_MO_stays (rc_ob hk (hP 0 _ rfl) rfl) (hP) d_MO_shorter_26 rfl rfl ⟨Nat.le_of_ble_eq_true rfl, Nat.le_of_ble_eq_true rfl⟩ rfl hl.1 rfl (Nat.le_of_ble_eq_true rfl) ⟨Nat.zero_le _, Nat.zero_le _⟩ ?_
  refine lv_if_eq (tgt := 76) hx hb d_MO_shorter_29 (by decide) (fun c2 => ?_) (fun c2 => ?_)
  · rw [show p_sh (fun x => p_st vb vt nv (nI x)) n = 2 ^ n - 1 from if_pos c2]
    refine lv_aload_n hx hb d_MO_shorter_76 rfl (lv_at hl 1 rfl) ?_
    refine lv_iload_n hx hb d_MO_shorter_77 rfl (lv_at hl 0 rfl) ?_
    refine va_put (D := D) (ci := 5) (v := .int (nI (2 ^ n - 1))) (ty := .int) (C := R_MO) (T := F_MO) (N := 10) hx hb hg i_MO T_MO k_MO n_MO hown hk.1 hP hD hS 0 rfl rfl 5 (by decide) (hg _ w_310) (fun _ h9 => h9) rfl (by decide +kernel) rfl rfl (Nat.le_of_ble_eq_true rfl) d_MO_shorter_78 (fun H locs hP hD hS => ?_)
    have hP : va_P D classes (mo D g0 a1 a2 a3 0 sd db (nI n) kd (nI (2 ^ n - 1)) (nI nv) vb vt ik) H := hP
    have hD : va_D (mA g0 a1 a2 a3) (mo D g0 a1 a2 a3 0 sd db (nI n) kd (nI (2 ^ n - 1)) (nI nv) vb vt ik) := hD
    refine lv_iload_n hx hb d_MO_shorter_81 rfl (lv_at hl 0 rfl) ?_
    refine k_S hx hb hml hown hg hk [.int (nI (2 ^ n - 1))] [] (c_MO_countOf l D (2 ^ n - 1) (by omega)) z_MO_countOf w_398 w_399 (trivial) d_MO_shorter_82 rfl rfl ⟨Nat.le_of_ble_eq_true rfl, Nat.le_of_ble_eq_true rfl⟩ rfl hl.1 rfl (Nat.le_of_ble_eq_true rfl) ⟨Nat.zero_le _, Nat.zero_le _⟩ ?_
    exact f_i hx hb hr hlocks hS ⟨rfl, hP⟩ d_MO_shorter_85
  · have hsh : p_sh (fun x => p_st vb vt nv (nI x)) n = p_fix (fun x => p_st vb vt nv (nI x)) n (2 ^ n - 1) := if_neg c2
    refine lv_iconst (v := 0) hx hb d_MO_shorter_32 (by decide) ?_
    refine lv_istore_n (lv' := [(2, .int 0), (1, .int (nI (2 ^ n - 1))), (0, .ref g0)]) hx hb d_MO_shorter_33 rfl hl (by decide) rfl (fun ls hl => ?_)
    have loop : ∀ (fu : Nat) (k0 fr : Nat) (x1 x2 : Int32), fr ≤ n → 2 * p_pas (fun x => p_st vb vt nv (nI x)) (p_it (fun x => p_st vb vt nv (nI x)) n (2 ^ n - 1) k0) fr + (if 0 < fr then 1 else 0) < fu → x1 = nI (p_pas (fun x => p_st vb vt nv (nI x)) (p_it (fun x => p_st vb vt nv (nI x)) n (2 ^ n - 1) k0) fr) → x2 = nI fr → ∀ ls : Array Slot, lv_has ls 4 [(1, .int x1), (2, .int x2), (0, .ref g0)] → W p l e rm_MO_shorter s m ([.ref g0] : List Value).toArray below meth c H locs 0 0 (MQ below (mV (mA g0 a1 a2 a3) (fun v H => v = some (.int (nI (p_pop (p_sh (fun x => p_st vb vt nv (nI x)) n) 16))) ∧ va_P D classes (mo D g0 a1 a2 a3 0 sd db (nI n) kd (nI (p_sh (fun x => p_st vb vt nv (nI x)) n)) (nI nv) vb vt ik) H)) ([.ref g0] : List Value).toArray s 0 0 (mA g0 a1 a2 a3)) (F0 m 34 ls []) := by
      intro fu
      induction fu with
      | zero => intro k0 fr x1 x2 h1 h2 e1 e2; exact absurd h2 (Nat.not_lt_zero _)
      | succ fu ih =>
        intro k0 fr x1 x2 h1 h2 e1 e2 ls hl
        have hle := Nat.le_trans (p_pas_le (fun x => p_st vb vt nv (nI x)) (p_it (fun x => p_st vb vt nv (nI x)) n (2 ^ n - 1) k0) fr) (p_it_le (fun x => p_st vb vt nv (nI x)) n (2 ^ n - 1) k0)
        generalize hbb : p_pas (fun x => p_st vb vt nv (nI x)) (p_it (fun x => p_st vb vt nv (nI x)) n (2 ^ n - 1) k0) fr = bb at e1 h2 hle
        subst e1 e2
        refine lv_iload_n hx hb d_MO_shorter_34 rfl (lv_at hl 1 rfl) ?_
        refine lv_if_lt (tgt := 76) hx hb d_MO_shorter_35 (by decide) (fun c5 => absurd c5 (nI_pos (by omega))) (fun c5 => ?_)
        refine lv_aload_n hx hb d_MO_shorter_38 rfl (lv_at hl 2 rfl) ?_
        refine lv_iload_n hx hb d_MO_shorter_39 rfl (lv_at hl 0 rfl) ?_
        refine lv_iload_n hx hb d_MO_shorter_40 rfl (lv_at hl 1 rfl) ?_
        refine k_V hx hb hml hown hg hk g0 [.int (nI bb), .int (nI fr)] [] (c_MO_without l D g0 a1 a2 a3 0 sd db n hn kd lf nv hv vb vt ik ht bb fr (by omega) h1) z_MO_without w_394 w_396 s_MO_without (rc_ob hk (hP 0 _ rfl) rfl) (hP) d_MO_shorter_41 rfl rfl ⟨Nat.le_of_ble_eq_true rfl, Nat.le_of_ble_eq_true rfl⟩ rfl hl.1 rfl (Nat.le_of_ble_eq_true rfl) ⟨Nat.zero_le _, Nat.zero_le _⟩ ?_
        rcases p_go_is (fun x => p_st vb vt nv (nI x)) bb (n - fr) fr with ⟨g1, g2⟩ | ⟨j, g1, g2, g3, g4, g5, g6, g7⟩
        · rw [g1]
          have hpas : p_pas (fun x => p_st vb vt nv (nI x)) (p_it (fun x => p_st vb vt nv (nI x)) n (2 ^ n - 1) k0) n = bb := by have := p_pas_same (st := (fun x => p_st vb vt nv (nI x))) (b0 := p_it (fun x => p_st vb vt nv (nI x)) n (2 ^ n - 1) k0) (fr := fr) (n - fr) (by rw [hbb]; exact g2); rw [show fr + (n - fr) = n by omega] at this; rw [this, hbb]
          refine lv_istore_n (lv' := [(3, .int (-1)), (1, .int (nI bb)), (2, .int (nI fr)), (0, .ref g0)]) hx hb d_MO_shorter_44 rfl hl (by decide) rfl (fun ls hl => ?_)
          refine lv_iload_n hx hb d_MO_shorter_45 rfl (lv_at hl 0 rfl) ?_
          refine lv_iconst (v := -1) hx hb d_MO_shorter_46 (by decide) ?_
          refine lv_icmp_eq (tgt := 63) hx hb d_MO_shorter_47 (by decide) (fun _ => ?_) (fun h => absurd (by decide) h)
          refine lv_iload_n hx hb d_MO_shorter_63 rfl (lv_at hl 2 rfl) ?_
          refine lv_if_le (tgt := 71) hx hb d_MO_shorter_64 (by decide) (fun c4 => ?_) (fun c4 => ?_)
          · have hf0 : fr = 0 := by have := (q_le rfl (show (0 : Int32) = nI 0 from rfl) (by omega) (by omega)).mp c4; omega
            subst hf0
            have hre : p_re (fun x => p_st vb vt nv (nI x)) n (2 ^ n - 1) bb := ⟨⟨k0, hbb.symm⟩, p_pas_all (fun i hi => g2 i (Nat.zero_le _) (by omega))⟩
            refine lv_iconst (v := -1) hx hb d_MO_shorter_71 (by decide) ?_
            refine lv_istore_n (lv' := [(2, .int (-1)), (3, .int (-1)), (1, .int (nI bb)), (0, .ref g0)]) hx hb d_MO_shorter_72 rfl hl (by decide) rfl (fun ls hl => ?_)
            refine lv_goto (tgt := 34) hx hb d_MO_shorter_73 (by decide) ?_
            refine lv_iload_n hx hb d_MO_shorter_34 rfl (lv_at hl 0 rfl) ?_
            refine lv_if_lt (tgt := 76) hx hb d_MO_shorter_35 (by decide) (fun _ => ?_) (fun h => absurd (by decide) h)
            rw [show p_sh (fun x => p_st vb vt nv (nI x)) n = bb from hsh.trans (p_fix_eq hre)]
            refine lv_aload_n hx hb d_MO_shorter_76 rfl (lv_at hl 3 rfl) ?_
            refine lv_iload_n hx hb d_MO_shorter_77 rfl (lv_at hl 2 rfl) ?_
            refine va_put (D := D) (ci := 5) (v := .int (nI bb)) (ty := .int) (C := R_MO) (T := F_MO) (N := 10) hx hb hg i_MO T_MO k_MO n_MO hown hk.1 hP hD hS 0 rfl rfl 5 (by decide) (hg _ w_310) (fun _ h9 => h9) rfl (by decide +kernel) rfl rfl (Nat.le_of_ble_eq_true rfl) d_MO_shorter_78 (fun H locs hP hD hS => ?_)
            have hP : va_P D classes (mo D g0 a1 a2 a3 0 sd db (nI n) kd (nI bb) (nI nv) vb vt ik) H := hP
            have hD : va_D (mA g0 a1 a2 a3) (mo D g0 a1 a2 a3 0 sd db (nI n) kd (nI bb) (nI nv) vb vt ik) := hD
            refine lv_iload_n hx hb d_MO_shorter_81 rfl (lv_at hl 2 rfl) ?_
            refine k_S hx hb hml hown hg hk [.int (nI bb)] [] (c_MO_countOf l D bb (by omega)) z_MO_countOf w_398 w_399 (trivial) d_MO_shorter_82 rfl rfl ⟨Nat.le_of_ble_eq_true rfl, Nat.le_of_ble_eq_true rfl⟩ rfl hl.1 rfl (Nat.le_of_ble_eq_true rfl) ⟨Nat.zero_le _, Nat.zero_le _⟩ ?_
            exact f_i hx hb hr hlocks hS ⟨rfl, hP⟩ d_MO_shorter_85
          · have hf0 : 0 < fr := Nat.pos_of_ne_zero (fun h => c4 (by rw [h]; exact Int32.le_refl _))
            refine lv_iconst (v := 0) hx hb d_MO_shorter_67 (by decide) ?_
            refine lv_goto (tgt := 72) hx hb d_MO_shorter_68 (by decide) ?_
            refine lv_istore_n (lv' := [(2, .int 0), (3, .int (-1)), (1, .int (nI bb)), (0, .ref g0)]) hx hb d_MO_shorter_72 rfl hl (by decide) rfl (fun ls hl => ?_)
            refine lv_goto (tgt := 34) hx hb d_MO_shorter_73 (by decide) ?_
            exact ih (k0 + 1) 0 (nI bb) 0 (Nat.zero_le _) (by show 2 * p_pas (fun x => p_st vb vt nv (nI x)) (p_it (fun x => p_st vb vt nv (nI x)) n (2 ^ n - 1) k0) n + 0 < _; rw [hpas]; rw [if_pos hf0] at h2; omega) (by show nI bb = nI (p_pas (fun x => p_st vb vt nv (nI x)) (p_it (fun x => p_st vb vt nv (nI x)) n (2 ^ n - 1) k0) n); rw [hpas]) nI_0.symm ls (lv_sub hl [2, 0, 3] rfl)
        · rw [g3]
          have hge := q_bge g5
          have hpj := Nat.two_pow_pos j
          have hpas : p_pas (fun x => p_st vb vt nv (nI x)) (p_it (fun x => p_st vb vt nv (nI x)) n (2 ^ n - 1) k0) (j + 1) = bb - 2 ^ j := by have := p_pas_same (st := (fun x => p_st vb vt nv (nI x))) (b0 := p_it (fun x => p_st vb vt nv (nI x)) n (2 ^ n - 1) k0) (fr := fr) (j - fr) (by rw [hbb]; exact fun i q1 q2 => g4 i q1 (by omega)); rw [show fr + (j - fr) = j by omega, hbb] at this; rw [p_pas, this, p_step, if_pos ⟨g5, g6, g7⟩]
          refine lv_istore_n (lv' := [(3, .int (nI j)), (1, .int (nI bb)), (2, .int (nI fr)), (0, .ref g0)]) hx hb d_MO_shorter_44 rfl hl (by decide) rfl (fun ls hl => ?_)
          refine lv_iload_n hx hb d_MO_shorter_45 rfl (lv_at hl 0 rfl) ?_
          refine lv_iconst (v := -1) hx hb d_MO_shorter_46 (by decide) ?_
          refine lv_icmp_eq (tgt := 63) hx hb d_MO_shorter_47 (by decide) (fun c3 => absurd c3 (p_ne1 (by omega))) (fun c3 => ?_)
          refine lv_iload_n hx hb d_MO_shorter_50 rfl (lv_at hl 1 rfl) ?_
          refine lv_iconst (v := 1) hx hb d_MO_shorter_51 (by decide) ?_
          refine lv_iload_n hx hb d_MO_shorter_52 rfl (lv_at hl 0 rfl) ?_
          refine lv_ishl hx hb d_MO_shorter_53 ?_
          rw [q_one (by omega)]
          refine lv_isub hx hb d_MO_shorter_54 ?_
          rw [pk_sub hge]
          refine lv_istore_n (lv' := [(1, .int (nI (bb - 2 ^ j))), (3, .int (nI j)), (2, .int (nI fr)), (0, .ref g0)]) hx hb d_MO_shorter_55 rfl hl (by decide) rfl (fun ls hl => ?_)
          refine lv_iload_n hx hb d_MO_shorter_56 rfl (lv_at hl 1 rfl) ?_
          refine lv_iconst (v := 1) hx hb d_MO_shorter_57 (by decide) ?_
          refine lv_iadd hx hb d_MO_shorter_58 ?_
          rw [nI_1]
          refine lv_istore_n (lv' := [(2, .int (nI (j + 1))), (1, .int (nI (bb - 2 ^ j))), (3, .int (nI j)), (0, .ref g0)]) hx hb d_MO_shorter_59 rfl hl (by decide) rfl (fun ls hl => ?_)
          refine lv_goto (tgt := 73) hx hb d_MO_shorter_60 (by decide) ?_
          refine lv_goto (tgt := 34) hx hb d_MO_shorter_73 (by decide) ?_
          exact ih k0 (j + 1) (nI (bb - 2 ^ j)) (nI (j + 1)) (by omega) (by rw [hpas]; split at h2 <;> split <;> omega) (by rw [hpas]) rfl ls (lv_sub hl [1, 0, 3] rfl)
    exact loop (2 ^ 18) 0 0 (nI (2 ^ n - 1)) 0 (Nat.zero_le _) (by show 2 * (2 ^ n - 1) + 0 < _; omega) rfl nI_0.symm ls (lv_sub hl [1, 0, 2] rfl)
theorem d_MO_same_0 : decode b_MO_same 0 = .ok (.aload_n 0, 1) := by decide +kernel
theorem d_MO_same_1 : decode b_MO_same 1 = .ok (.iconst 0, 1) := by decide +kernel
theorem d_MO_same_2 : decode b_MO_same 2 = .ok (.putfield 24, 3) := by decide +kernel
theorem d_MO_same_5 : decode b_MO_same 5 = .ok (.iload_n 3, 1) := by decide +kernel
theorem d_MO_same_6 : decode b_MO_same 6 = .ok (.iconst 0, 1) := by decide +kernel
theorem d_MO_same_7 : decode b_MO_same 7 = .ok (.iconst 4, 1) := by decide +kernel
theorem d_MO_same_8 : decode b_MO_same 8 = .ok (.invokestatic 52, 3) := by decide +kernel
theorem d_MO_same_11 : decode b_MO_same 11 = .ok (.ifCond .eq 18, 3) := by decide +kernel
theorem d_MO_same_14 : decode b_MO_same 14 = .ok (.iload 4, 2) := by decide +kernel
theorem d_MO_same_16 : decode b_MO_same 16 = .ok (.iconst 0, 1) := by decide +kernel
theorem d_MO_same_17 : decode b_MO_same 17 = .ok (.bipush 15, 2) := by decide +kernel
theorem d_MO_same_19 : decode b_MO_same 19 = .ok (.invokestatic 52, 3) := by decide +kernel
theorem d_MO_same_22 : decode b_MO_same 22 = .ok (.ifCond .eq 7, 3) := by decide +kernel
theorem d_MO_same_25 : decode b_MO_same 25 = .ok (.iconst 1, 1) := by decide +kernel
theorem d_MO_same_26 : decode b_MO_same 26 = .ok (.goto 4, 3) := by decide +kernel
theorem d_MO_same_29 : decode b_MO_same 29 = .ok (.iconst 0, 1) := by decide +kernel
theorem d_MO_same_30 : decode b_MO_same 30 = .ok (.istore 5, 2) := by decide +kernel
theorem d_MO_same_32 : decode b_MO_same 32 = .ok (.iconst 0, 1) := by decide +kernel
theorem d_MO_same_33 : decode b_MO_same 33 = .ok (.istore 6, 2) := by decide +kernel
theorem d_MO_same_35 : decode b_MO_same 35 = .ok (.iload 5, 2) := by decide +kernel
theorem d_MO_same_37 : decode b_MO_same 37 = .ok (.ifCond .eq 113, 3) := by decide +kernel
theorem d_MO_same_40 : decode b_MO_same 40 = .ok (.iload 6, 2) := by decide +kernel
theorem d_MO_same_42 : decode b_MO_same 42 = .ok (.iload 4, 2) := by decide +kernel
theorem d_MO_same_44 : decode b_MO_same 44 = .ok (.if_icmp .gt 106, 3) := by decide +kernel
theorem d_MO_same_47 : decode b_MO_same 47 = .ok (.iconst 1, 1) := by decide +kernel
theorem d_MO_same_48 : decode b_MO_same 48 = .ok (.istore 7, 2) := by decide +kernel
theorem d_MO_same_50 : decode b_MO_same 50 = .ok (.iload 7, 2) := by decide +kernel
theorem d_MO_same_52 : decode b_MO_same 52 = .ok (.iconst 5, 1) := by decide +kernel
theorem d_MO_same_53 : decode b_MO_same 53 = .ok (.if_icmp .ge 51, 3) := by decide +kernel
theorem d_MO_same_56 : decode b_MO_same 56 = .ok (.iload 5, 2) := by decide +kernel
theorem d_MO_same_58 : decode b_MO_same 58 = .ok (.ifCond .eq 37, 3) := by decide +kernel
theorem d_MO_same_61 : decode b_MO_same 61 = .ok (.lload_n 1, 1) := by decide +kernel
theorem d_MO_same_62 : decode b_MO_same 62 = .ok (.iload_n 3, 1) := by decide +kernel
theorem d_MO_same_63 : decode b_MO_same 63 = .ok (.iload 6, 2) := by decide +kernel
theorem d_MO_same_65 : decode b_MO_same 65 = .ok (.invokestatic 44, 3) := by decide +kernel
theorem d_MO_same_68 : decode b_MO_same 68 = .ok (.iload 7, 2) := by decide +kernel
theorem d_MO_same_70 : decode b_MO_same 70 = .ok (.invokestatic 75, 3) := by decide +kernel
theorem d_MO_same_73 : decode b_MO_same 73 = .ok (.aload_n 0, 1) := by decide +kernel
theorem d_MO_same_74 : decode b_MO_same 74 = .ok (.getfield 20, 3) := by decide +kernel
theorem d_MO_same_77 : decode b_MO_same 77 = .ok (.iload_n 3, 1) := by decide +kernel
theorem d_MO_same_78 : decode b_MO_same 78 = .ok (.iload 6, 2) := by decide +kernel
theorem d_MO_same_80 : decode b_MO_same 80 = .ok (.invokestatic 44, 3) := by decide +kernel
theorem d_MO_same_83 : decode b_MO_same 83 = .ok (.iload 7, 2) := by decide +kernel
theorem d_MO_same_85 : decode b_MO_same 85 = .ok (.invokestatic 75, 3) := by decide +kernel
theorem d_MO_same_88 : decode b_MO_same 88 = .ok (.if_icmp .ne 7, 3) := by decide +kernel
theorem d_MO_same_91 : decode b_MO_same 91 = .ok (.iconst 1, 1) := by decide +kernel
theorem d_MO_same_92 : decode b_MO_same 92 = .ok (.goto 4, 3) := by decide +kernel
theorem d_MO_same_95 : decode b_MO_same 95 = .ok (.iconst 0, 1) := by decide +kernel
theorem d_MO_same_96 : decode b_MO_same 96 = .ok (.istore 5, 2) := by decide +kernel
theorem d_MO_same_98 : decode b_MO_same 98 = .ok (.iinc 7 1, 3) := by decide +kernel
theorem d_MO_same_101 : decode b_MO_same 101 = .ok (.goto (-51), 3) := by decide +kernel
theorem d_MO_same_104 : decode b_MO_same 104 = .ok (.iload 5, 2) := by decide +kernel
theorem d_MO_same_106 : decode b_MO_same 106 = .ok (.ifCond .eq 35, 3) := by decide +kernel
theorem d_MO_same_109 : decode b_MO_same 109 = .ok (.lload_n 1, 1) := by decide +kernel
theorem d_MO_same_110 : decode b_MO_same 110 = .ok (.iload_n 3, 1) := by decide +kernel
theorem d_MO_same_111 : decode b_MO_same 111 = .ok (.iload 4, 2) := by decide +kernel
theorem d_MO_same_113 : decode b_MO_same 113 = .ok (.iconst 1, 1) := by decide +kernel
theorem d_MO_same_114 : decode b_MO_same 114 = .ok (.iadd, 1) := by decide +kernel
theorem d_MO_same_115 : decode b_MO_same 115 = .ok (.iload 6, 2) := by decide +kernel
theorem d_MO_same_117 : decode b_MO_same 117 = .ok (.invokestatic 71, 3) := by decide +kernel
theorem d_MO_same_120 : decode b_MO_same 120 = .ok (.aload_n 0, 1) := by decide +kernel
theorem d_MO_same_121 : decode b_MO_same 121 = .ok (.getfield 20, 3) := by decide +kernel
theorem d_MO_same_124 : decode b_MO_same 124 = .ok (.iload_n 3, 1) := by decide +kernel
theorem d_MO_same_125 : decode b_MO_same 125 = .ok (.iload 4, 2) := by decide +kernel
theorem d_MO_same_127 : decode b_MO_same 127 = .ok (.iconst 1, 1) := by decide +kernel
theorem d_MO_same_128 : decode b_MO_same 128 = .ok (.iadd, 1) := by decide +kernel
theorem d_MO_same_129 : decode b_MO_same 129 = .ok (.iload 6, 2) := by decide +kernel
theorem d_MO_same_131 : decode b_MO_same 131 = .ok (.invokestatic 71, 3) := by decide +kernel
theorem d_MO_same_134 : decode b_MO_same 134 = .ok (.if_icmp .ne 7, 3) := by decide +kernel
theorem d_MO_same_137 : decode b_MO_same 137 = .ok (.iconst 1, 1) := by decide +kernel
theorem d_MO_same_138 : decode b_MO_same 138 = .ok (.goto 4, 3) := by decide +kernel
theorem d_MO_same_141 : decode b_MO_same 141 = .ok (.iconst 0, 1) := by decide +kernel
theorem d_MO_same_142 : decode b_MO_same 142 = .ok (.istore 5, 2) := by decide +kernel
theorem d_MO_same_144 : decode b_MO_same 144 = .ok (.iinc 6 1, 3) := by decide +kernel
theorem d_MO_same_147 : decode b_MO_same 147 = .ok (.goto (-112), 3) := by decide +kernel
theorem d_MO_same_150 : decode b_MO_same 150 = .ok (.iload 5, 2) := by decide +kernel
theorem d_MO_same_152 : decode b_MO_same 152 = .ok (.ireturn, 1) := by decide +kernel
abbrev rm_MO_same : Room := { frames := 2, cells := 0, slots := 0, locals := 55 }
set_option maxHeartbeats 4000000 in
set_option maxRecDepth 100000 in
theorem c_MO_same_no (l : Launch) (D : va_G) (g0 a1 a2 a3 : Nat) (hj : mj g0 a1 a2 a3) (th : Int32) (sd : Int64) (db : Int64) (pr : Int32) (kd : Int32) (lf : Int32) (ns : Int32) (vb : Nat → Int32) (vt : Nat → Int32) (ik : Nat → Int32) (o : Int64) (k z : Int32) (hno : p_in k 0 4 = 0 ∨ p_in z 0 15 = 0) : Met l y_MO_same (Cond.code y_MO_same b_MO_same 8 (some .boolean) :: gw) rm_MO_same (cP D [.ref g0, .long o, .int k, .int z] (va_P D classes (mo D g0 a1 a2 a3 th sd db pr kd lf ns vb vt ik))) (mV (mA g0 a1 a2 a3) (fun v H => v = some (.int 0) ∧ va_P D classes (mo D g0 a1 a2 a3 0 sd db pr kd lf ns vb vt ik) H)) 0 0 (mA g0 a1 a2 a3) := by
  refine mt_B (by decide) (Nat.le_of_ble_eq_true rfl) ?_
  intro p e s m below meth c ls ⟨hx, hb, hr, hlocks, hin, hml, hown, hg⟩ ⟨hk, hp⟩ hl
  have hown : s.vm.findClass R_MO = some m.cls := hown
  have hS : va_S (mA g0 a1 a2 a3) s.heap s.heap [] := va_S.rf
  have hl : lv_has ls 8 [(0, .ref g0), (1, .long o), (3, .int k), (4, .int z)] := hl
  have hP : va_P D classes (mo D g0 a1 a2 a3 th sd db pr kd lf ns vb vt ik) s.heap := hp
  have hD : va_D (mA g0 a1 a2 a3) (mo D g0 a1 a2 a3 th sd db pr kd lf ns vb vt ik) := mo_D hj _ _ _ _
  refine lv_aload_n hx hb d_MO_same_0 rfl (lv_at hl 0 rfl) ?_
  refine lv_iconst (v := 0) hx hb d_MO_same_1 (by decide) ?_
  refine va_put (D := D) (ci := 5) (v := .int 0) (ty := .int) (C := R_MO) (T := F_MO) (N := 10) hx hb hg i_MO T_MO k_MO n_MO hown hk.1 hP hD hS 0 rfl rfl 0 (by decide) (hg _ w_305) (fun _ h9 => h9) rfl (by decide +kernel) rfl rfl (Nat.le_of_ble_eq_true rfl) d_MO_same_2 (fun H locs hP hD hS => ?_)
  have hP : va_P D classes (mo D g0 a1 a2 a3 0 sd db pr kd lf ns vb vt ik) H := hP
  have hD : va_D (mA g0 a1 a2 a3) (mo D g0 a1 a2 a3 0 sd db pr kd lf ns vb vt ik) := hD
  refine lv_iload_n hx hb d_MO_same_5 rfl (lv_at hl 2 rfl) ?_
  refine lv_iconst (v := 0) hx hb d_MO_same_6 (by decide) ?_
  refine lv_iconst (v := 4) hx hb d_MO_same_7 (by decide) ?_
  refine k_S hx hb hml hown hg hk [.int k, .int 0, .int 4] [] (c_MO_in l D k 0 4) z_MO_in w_346 w_347 (trivial) d_MO_same_8 rfl rfl ⟨Nat.le_of_ble_eq_true rfl, Nat.le_of_ble_eq_true rfl⟩ rfl hl.1 rfl (Nat.le_of_ble_eq_true rfl) ⟨Nat.zero_le _, Nat.zero_le _⟩ ?_
  refine lv_if_eq (tgt := 29) hx hb d_MO_same_11 (by decide) (fun c1 => ?_) (fun c1 => ?_)
  · refine lv_iconst (v := 0) hx hb d_MO_same_29 (by decide) ?_
    refine lv_istore (lv' := [(5, .int 0), (0, .ref g0), (1, .long o), (3, .int k), (4, .int z)]) hx hb d_MO_same_30 hl (by decide) rfl (fun ls hl => ?_)
    refine lv_iconst (v := 0) hx hb d_MO_same_32 (by decide) ?_
    refine lv_istore (lv' := [(6, .int 0), (5, .int 0), (0, .ref g0), (1, .long o), (3, .int k), (4, .int z)]) hx hb d_MO_same_33 hl (by decide) rfl (fun ls hl => ?_)
    refine lv_iload hx hb d_MO_same_35 (lv_at hl 1 rfl) ?_
    refine lv_if_eq (tgt := 150) hx hb d_MO_same_37 (by decide) (fun _ => ?_) (fun h => absurd (by decide) h)
    refine lv_iload hx hb d_MO_same_150 (lv_at hl 1 rfl) ?_
    exact f_z hx hb hr hlocks (by decide) hS ⟨rfl, hP⟩ d_MO_same_152
  · refine lv_iload hx hb d_MO_same_14 (lv_at hl 3 rfl) ?_
    refine lv_iconst (v := 0) hx hb d_MO_same_16 (by decide) ?_
    refine lv_bipush (v := 15) hx hb d_MO_same_17 (by decide) ?_
    refine k_S hx hb hml hown hg hk [.int z, .int 0, .int 15] [] (c_MO_in l D z 0 15) z_MO_in w_346 w_347 (trivial) d_MO_same_19 rfl rfl ⟨Nat.le_of_ble_eq_true rfl, Nat.le_of_ble_eq_true rfl⟩ rfl hl.1 rfl (Nat.le_of_ble_eq_true rfl) ⟨Nat.zero_le _, Nat.zero_le _⟩ ?_
    refine lv_if_eq (tgt := 29) hx hb d_MO_same_22 (by decide) (fun c2 => ?_) (fun c2 => absurd (hno.resolve_left c1) c2)
    refine lv_iconst (v := 0) hx hb d_MO_same_29 (by decide) ?_
    refine lv_istore (lv' := [(5, .int 0), (0, .ref g0), (1, .long o), (3, .int k), (4, .int z)]) hx hb d_MO_same_30 hl (by decide) rfl (fun ls hl => ?_)
    refine lv_iconst (v := 0) hx hb d_MO_same_32 (by decide) ?_
    refine lv_istore (lv' := [(6, .int 0), (5, .int 0), (0, .ref g0), (1, .long o), (3, .int k), (4, .int z)]) hx hb d_MO_same_33 hl (by decide) rfl (fun ls hl => ?_)
    refine lv_iload hx hb d_MO_same_35 (lv_at hl 1 rfl) ?_
    refine lv_if_eq (tgt := 150) hx hb d_MO_same_37 (by decide) (fun _ => ?_) (fun h => absurd (by decide) h)
    refine lv_iload hx hb d_MO_same_150 (lv_at hl 1 rfl) ?_
    exact f_z hx hb hr hlocks (by decide) hS ⟨rfl, hP⟩ d_MO_same_152
set_option maxHeartbeats 4000000 in
set_option maxRecDepth 100000 in
theorem c_MO_same_ok (l : Launch) (D : va_G) (g0 a1 a2 a3 : Nat) (hj : mj g0 a1 a2 a3) (th : Int32) (sd : Int64) (db : Int64) (pr : Int32) (kd : Int32) (lf : Int32) (ns : Int32) (vb : Nat → Int32) (vt : Nat → Int32) (ik : Nat → Int32) (o : Int64) (k : Int32) (j : Nat) (hkk : ¬ p_in k 0 4 = 0) (hj2 : j < 16) : Met l y_MO_same (Cond.code y_MO_same b_MO_same 8 (some .boolean) :: gw) rm_MO_same (cP D [.ref g0, .long o, .int k, .int (nI j)] (va_P D classes (mo D g0 a1 a2 a3 th sd db pr kd lf ns vb vt ik))) (mV (mA g0 a1 a2 a3) (fun v H => v = some (.int (p_tf (∀ i, i < j + 1 → p_alike sd o k (j + 1) i))) ∧ va_P D classes (mo D g0 a1 a2 a3 0 sd db pr kd lf ns vb vt ik) H)) 0 0 (mA g0 a1 a2 a3) := by
  refine mt_B (by decide) (Nat.le_of_ble_eq_true rfl) ?_
  intro p e s m below meth c ls ⟨hx, hb, hr, hlocks, hin, hml, hown, hg⟩ ⟨hk, hp⟩ hl
  have hown : s.vm.findClass R_MO = some m.cls := hown
  have hS : va_S (mA g0 a1 a2 a3) s.heap s.heap [] := va_S.rf
  have hl : lv_has ls 8 [(0, .ref g0), (1, .long o), (3, .int k), (4, .int (nI j))] := hl
  have hP : va_P D classes (mo D g0 a1 a2 a3 th sd db pr kd lf ns vb vt ik) s.heap := hp
  have hD : va_D (mA g0 a1 a2 a3) (mo D g0 a1 a2 a3 th sd db pr kd lf ns vb vt ik) := mo_D hj _ _ _ _
  refine lv_aload_n hx hb d_MO_same_0 rfl (lv_at hl 0 rfl) ?_
  refine lv_iconst (v := 0) hx hb d_MO_same_1 (by decide) ?_
  refine va_put (D := D) (ci := 5) (v := .int 0) (ty := .int) (C := R_MO) (T := F_MO) (N := 10) hx hb hg i_MO T_MO k_MO n_MO hown hk.1 hP hD hS 0 rfl rfl 0 (by decide) (hg _ w_305) (fun _ h9 => h9) rfl (by decide +kernel) rfl rfl (Nat.le_of_ble_eq_true rfl) d_MO_same_2 (fun H locs hP hD hS => ?_)
  have hP : va_P D classes (mo D g0 a1 a2 a3 0 sd db pr kd lf ns vb vt ik) H := hP
  have hD : va_D (mA g0 a1 a2 a3) (mo D g0 a1 a2 a3 0 sd db pr kd lf ns vb vt ik) := hD
  have hzz : ¬ p_in (nI j) 0 15 = 0 := fun h => p_in_0 h ⟨nI_pos' (by omega), nI_le (b := 15) (by omega) (by decide)⟩
  refine lv_iload_n hx hb d_MO_same_5 rfl (lv_at hl 2 rfl) ?_
  refine lv_iconst (v := 0) hx hb d_MO_same_6 (by decide) ?_
  refine lv_iconst (v := 4) hx hb d_MO_same_7 (by decide) ?_
  refine k_S hx hb hml hown hg hk [.int k, .int 0, .int 4] [] (c_MO_in l D k 0 4) z_MO_in w_346 w_347 (trivial) d_MO_same_8 rfl rfl ⟨Nat.le_of_ble_eq_true rfl, Nat.le_of_ble_eq_true rfl⟩ rfl hl.1 rfl (Nat.le_of_ble_eq_true rfl) ⟨Nat.zero_le _, Nat.zero_le _⟩ ?_
  refine lv_if_eq (tgt := 29) hx hb d_MO_same_11 (by decide) (fun c1 => absurd c1 hkk) (fun c1 => ?_)
  refine lv_iload hx hb d_MO_same_14 (lv_at hl 3 rfl) ?_
  refine lv_iconst (v := 0) hx hb d_MO_same_16 (by decide) ?_
  refine lv_bipush (v := 15) hx hb d_MO_same_17 (by decide) ?_
  refine k_S hx hb hml hown hg hk [.int (nI j), .int 0, .int 15] [] (c_MO_in l D (nI j) 0 15) z_MO_in w_346 w_347 (trivial) d_MO_same_19 rfl rfl ⟨Nat.le_of_ble_eq_true rfl, Nat.le_of_ble_eq_true rfl⟩ rfl hl.1 rfl (Nat.le_of_ble_eq_true rfl) ⟨Nat.zero_le _, Nat.zero_le _⟩ ?_
  refine lv_if_eq (tgt := 29) hx hb d_MO_same_22 (by decide) (fun c2 => absurd c2 hzz) (fun c2 => ?_)
  refine lv_iconst (v := 1) hx hb d_MO_same_25 (by decide) ?_
  refine lv_goto (tgt := 30) hx hb d_MO_same_26 (by decide) ?_
  refine lv_istore (lv' := [(5, .int 1), (0, .ref g0), (1, .long o), (3, .int k), (4, .int (nI j))]) hx hb d_MO_same_30 hl (by decide) rfl (fun ls hl => ?_)
  refine lv_iconst (v := 0) hx hb d_MO_same_32 (by decide) ?_
  refine lv_istore (lv' := [(6, .int 0), (5, .int 1), (0, .ref g0), (1, .long o), (3, .int k), (4, .int (nI j))]) hx hb d_MO_same_33 hl (by decide) rfl (fun ls hl => ?_)
  have loop : ∀ (fu : Nat) (q : Nat) (x6 x5 : Int32), q ≤ j + 1 → j + 1 - q < fu → x6 = nI q → x5 = p_tf (∀ i, i < q → p_alike sd o k (j + 1) i) → ∀ ls : Array Slot, lv_has ls 8 [(6, .int x6), (5, .int x5), (0, .ref g0), (1, .long o), (3, .int k), (4, .int (nI j))] → W p l e rm_MO_same s m ([.ref g0, .long o, .int k, .int (nI j)] : List Value).toArray below meth c H locs 0 0 (MQ below (mV (mA g0 a1 a2 a3) (fun v H => v = some (.int (p_tf (∀ i, i < j + 1 → p_alike sd o k (j + 1) i))) ∧ va_P D classes (mo D g0 a1 a2 a3 0 sd db pr kd lf ns vb vt ik) H)) ([.ref g0, .long o, .int k, .int (nI j)] : List Value).toArray s 0 0 (mA g0 a1 a2 a3)) (F0 m 35 ls []) := by
    intro fu
    induction fu with
    | zero => intro q x6 x5 h1 h2 e6 e5; exact absurd h2 (Nat.not_lt_zero _)
    | succ fu ih =>
      intro q x6 x5 h1 h2 e6 e5 ls hl
      refine lv_iload hx hb d_MO_same_35 (lv_at hl 1 rfl) ?_
      refine lv_if_eq (tgt := 150) hx hb d_MO_same_37 (by decide) (fun c3 => ?_) (fun c3 => ?_)
      · refine lv_iload hx hb d_MO_same_150 (lv_at hl 1 rfl) ?_
        exact f_z hx hb hr hlocks (e5 ▸ p_tf_01 _) hS ⟨by rw [c3, p_tf_f (fun h => p_tf_n (e5.symm.trans c3) (fun i hi => h i (by omega)))], hP⟩ d_MO_same_152
      · refine lv_iload hx hb d_MO_same_40 (lv_at hl 0 rfl) ?_
        refine lv_iload hx hb d_MO_same_42 (lv_at hl 5 rfl) ?_
        refine lv_icmp_gt (tgt := 150) hx hb d_MO_same_44 (by decide) (fun c4 => ?_) (fun c4 => ?_)
        · have hq : q = j + 1 := by have := (q_lt rfl e6 (by omega) (by omega)).mp c4; omega
          refine lv_iload hx hb d_MO_same_150 (lv_at hl 1 rfl) ?_
          exact f_z hx hb hr hlocks (e5 ▸ p_tf_01 _) hS ⟨by rw [e5, hq], hP⟩ d_MO_same_152
        · have hq : q ≤ j := Nat.not_lt.mp (fun h => c4 ((q_lt rfl e6 (by omega) (by omega)).mpr h))
          have hall := p_tf_y (fun h => c3 (e5.trans h))
          have hx5 : x5 = 1 := e5.trans (p_tf_t hall)
          subst e6
          refine lv_iconst (v := 1) hx hb d_MO_same_47 (by decide) ?_
          refine lv_istore (lv' := [(7, .int 1), (6, .int (nI q)), (5, .int x5), (0, .ref g0), (1, .long o), (3, .int k), (4, .int (nI j))]) hx hb d_MO_same_48 hl (by decide) rfl (fun ls hl => ?_)
          have loop2 : ∀ (fu2 : Nat) (w : Nat) (x7 x5 : Int32), 1 ≤ w → w ≤ 5 → 5 - w < fu2 → x7 = nI w → x5 = p_tf (∀ u, 1 ≤ u → u < w → p_fact (p_mix sd k (nI q)) (nI u) = p_fact (p_mix o k (nI q)) (nI u)) → ∀ ls : Array Slot, lv_has ls 8 [(7, .int x7), (5, .int x5), (6, .int (nI q)), (0, .ref g0), (1, .long o), (3, .int k), (4, .int (nI j))] → W p l e rm_MO_same s m ([.ref g0, .long o, .int k, .int (nI j)] : List Value).toArray below meth c H locs 0 0 (MQ below (mV (mA g0 a1 a2 a3) (fun v H => v = some (.int (p_tf (∀ i, i < j + 1 → p_alike sd o k (j + 1) i))) ∧ va_P D classes (mo D g0 a1 a2 a3 0 sd db pr kd lf ns vb vt ik) H)) ([.ref g0, .long o, .int k, .int (nI j)] : List Value).toArray s 0 0 (mA g0 a1 a2 a3)) (F0 m 50 ls []) := by
            intro fu2
            induction fu2 with
            | zero => intro w x7 x5 h6 h7 h8 e7 f5; exact absurd h8 (Nat.not_lt_zero _)
            | succ fu2 ih2 =>
              intro w x7 x5 h6 h7 h8 e7 f5 ls hl
              refine lv_iload hx hb d_MO_same_50 (lv_at hl 0 rfl) ?_
              refine lv_iconst (v := 5) hx hb d_MO_same_52 (by decide) ?_
              refine lv_icmp_ge (tgt := 104) hx hb d_MO_same_53 (by decide) (fun c5 => ?_) (fun c5 => ?_)
              · have hw : w = 5 := by have := (q_le (show (5 : Int32) = nI 5 from rfl) e7 (by omega) (by omega)).mp c5; omega
                subst hw
                refine lv_iload hx hb d_MO_same_104 (lv_at hl 1 rfl) ?_
                refine lv_if_eq (tgt := 141) hx hb d_MO_same_106 (by decide) (fun c6 => ?_) (fun c6 => ?_)
                · refine lv_iconst (v := 0) hx hb d_MO_same_141 (by decide) ?_
                  refine lv_istore (lv' := [(5, .int 0), (7, .int x7), (6, .int (nI q)), (0, .ref g0), (1, .long o), (3, .int k), (4, .int (nI j))]) hx hb d_MO_same_142 hl (by decide) rfl (fun ls hl => ?_)
                  obtain ⟨y6, ey6⟩ : ∃ y : Int32, y = (nI q) + 1 := ⟨_, rfl⟩
                  refine lv_iinc (v := y6) (lv' := [(6, .int y6), (5, .int 0), (7, .int x7), (0, .ref g0), (1, .long o), (3, .int k), (4, .int (nI j))]) hx hb d_MO_same_144 hl (k := 2) rfl (by rw [ey6]; rfl) (by decide) rfl (fun ls hl => ?_)
                  refine lv_goto (tgt := 35) hx hb d_MO_same_147 (by decide) ?_
                  exact ih (q + 1) y6 0 (by omega) (by omega) (by rw [ey6, nI_1]) ((p_tf_f (fun h => p_tf_n (f5.symm.trans c6) (h q (by omega)).2)).symm) ls (lv_sub hl [0, 1, 3, 4, 5, 6] rfl)
                · have hfc := p_tf_y (fun h => c6 (f5.trans h))
                  refine lv_lload_n hx hb d_MO_same_109 rfl (lv_at hl 4 rfl) ?_
                  refine lv_iload_n hx hb d_MO_same_110 rfl (lv_at hl 5 rfl) ?_
                  refine lv_iload hx hb d_MO_same_111 (lv_at hl 6 rfl) ?_
                  refine lv_iconst (v := 1) hx hb d_MO_same_113 (by decide) ?_
                  refine lv_iadd hx hb d_MO_same_114 ?_
                  rw [nI_1]
                  refine lv_iload hx hb d_MO_same_115 (lv_at hl 2 rfl) ?_
                  refine k_S hx hb hml hown hg hk [.long o, .int k, .int (nI (j + 1)), .int (nI q)] [] (c_MO_hasFaults l D o k (j + 1) q (by omega) (by omega)) z_MO_hasFaults w_353 w_354 (trivial) d_MO_same_117 rfl rfl ⟨Nat.le_of_ble_eq_true rfl, Nat.le_of_ble_eq_true rfl⟩ rfl hl.1 rfl (Nat.le_of_ble_eq_true rfl) ⟨Nat.zero_le _, Nat.zero_le _⟩ ?_
                  refine lv_aload_n hx hb d_MO_same_120 rfl (lv_at hl 3 rfl) ?_
                  refine x_get hx hb hg hown hk (hP 0 _ rfl) rfl i_MO 1 (by decide) w_306 rfl d_MO_same_121 ?_
                  refine lv_iload_n hx hb d_MO_same_124 rfl (lv_at hl 5 rfl) ?_
                  refine lv_iload hx hb d_MO_same_125 (lv_at hl 6 rfl) ?_
                  refine lv_iconst (v := 1) hx hb d_MO_same_127 (by decide) ?_
                  refine lv_iadd hx hb d_MO_same_128 ?_
                  rw [nI_1]
                  refine lv_iload hx hb d_MO_same_129 (lv_at hl 2 rfl) ?_
                  refine k_S hx hb hml hown hg hk [.long sd, .int k, .int (nI (j + 1)), .int (nI q)] [.int (p_flt o k (j + 1) q)] (c_MO_hasFaults l D sd k (j + 1) q (by omega) (by omega)) z_MO_hasFaults w_353 w_354 (trivial) d_MO_same_131 rfl rfl ⟨Nat.le_of_ble_eq_true rfl, Nat.le_of_ble_eq_true rfl⟩ rfl hl.1 rfl (Nat.le_of_ble_eq_true rfl) ⟨Nat.zero_le _, Nat.zero_le _⟩ ?_
                  refine lv_icmp_ne (tgt := 141) hx hb d_MO_same_134 (by decide) (fun c7 => ?_) (fun c7 => ?_)
                  · refine lv_iconst (v := 0) hx hb d_MO_same_141 (by decide) ?_
                    refine lv_istore (lv' := [(5, .int 0), (7, .int x7), (6, .int (nI q)), (0, .ref g0), (1, .long o), (3, .int k), (4, .int (nI j))]) hx hb d_MO_same_142 hl (by decide) rfl (fun ls hl => ?_)
                    obtain ⟨y6, ey6⟩ : ∃ y : Int32, y = (nI q) + 1 := ⟨_, rfl⟩
                    refine lv_iinc (v := y6) (lv' := [(6, .int y6), (5, .int 0), (7, .int x7), (0, .ref g0), (1, .long o), (3, .int k), (4, .int (nI j))]) hx hb d_MO_same_144 hl (k := 2) rfl (by rw [ey6]; rfl) (by decide) rfl (fun ls hl => ?_)
                    refine lv_goto (tgt := 35) hx hb d_MO_same_147 (by decide) ?_
                    exact ih (q + 1) y6 0 (by omega) (by omega) (by rw [ey6, nI_1]) ((p_tf_f (fun h => c7 (h q (by omega)).1.symm)).symm) ls (lv_sub hl [0, 1, 3, 4, 5, 6] rfl)
                  · refine lv_iconst (v := 1) hx hb d_MO_same_137 (by decide) ?_
                    refine lv_goto (tgt := 142) hx hb d_MO_same_138 (by decide) ?_
                    refine lv_istore (lv' := [(5, .int 1), (7, .int x7), (6, .int (nI q)), (0, .ref g0), (1, .long o), (3, .int k), (4, .int (nI j))]) hx hb d_MO_same_142 hl (by decide) rfl (fun ls hl => ?_)
                    obtain ⟨y6, ey6⟩ : ∃ y : Int32, y = (nI q) + 1 := ⟨_, rfl⟩
                    refine lv_iinc (v := y6) (lv' := [(6, .int y6), (5, .int 1), (7, .int x7), (0, .ref g0), (1, .long o), (3, .int k), (4, .int (nI j))]) hx hb d_MO_same_144 hl (k := 2) rfl (by rw [ey6]; rfl) (by decide) rfl (fun ls hl => ?_)
                    refine lv_goto (tgt := 35) hx hb d_MO_same_147 (by decide) ?_
                    exact ih (q + 1) y6 1 (by omega) (by omega) (by rw [ey6, nI_1]) ((p_tf_t (lt_s hall ⟨c7.symm, hfc⟩)).symm) ls (lv_sub hl [0, 1, 3, 4, 5, 6] rfl)
              · have hw : w < 5 := Nat.not_le.mp (fun h => c5 ((q_le (show (5 : Int32) = nI 5 from rfl) e7 (by omega) (by omega)).mpr h))
                subst e7
                refine lv_iload hx hb d_MO_same_56 (lv_at hl 1 rfl) ?_
                refine lv_if_eq (tgt := 95) hx hb d_MO_same_58 (by decide) (fun c6 => ?_) (fun c6 => ?_)
                · refine lv_iconst (v := 0) hx hb d_MO_same_95 (by decide) ?_
                  refine lv_istore (lv' := [(5, .int 0), (7, .int (nI w)), (6, .int (nI q)), (0, .ref g0), (1, .long o), (3, .int k), (4, .int (nI j))]) hx hb d_MO_same_96 hl (by decide) rfl (fun ls hl => ?_)
                  obtain ⟨y7, ey7⟩ : ∃ y : Int32, y = (nI w) + 1 := ⟨_, rfl⟩
                  refine lv_iinc (v := y7) (lv' := [(7, .int y7), (5, .int 0), (6, .int (nI q)), (0, .ref g0), (1, .long o), (3, .int k), (4, .int (nI j))]) hx hb d_MO_same_98 hl (k := 1) rfl (by rw [ey7]; rfl) (by decide) rfl (fun ls hl => ?_)
                  refine lv_goto (tgt := 50) hx hb d_MO_same_101 (by decide) ?_
                  exact ih2 (w + 1) y7 0 (by omega) (by omega) (by omega) (by rw [ey7, nI_1]) ((p_tf_f (fun h => p_tf_n (f5.symm.trans c6) (fun w2 q1 q2 => h w2 q1 (by omega)))).symm) ls (lv_sub hl [0, 1, 2, 3, 4, 5, 6] rfl)
                · have hfc := p_tf_y (fun h => c6 (f5.trans h))
                  refine lv_lload_n hx hb d_MO_same_61 rfl (lv_at hl 4 rfl) ?_
                  refine lv_iload_n hx hb d_MO_same_62 rfl (lv_at hl 5 rfl) ?_
                  refine lv_iload hx hb d_MO_same_63 (lv_at hl 2 rfl) ?_
                  refine k_S hx hb hml hown hg hk [.long o, .int k, .int (nI q)] [] (c_MO_number l D o k (nI q)) z_MO_number w_356 w_357 (trivial) d_MO_same_65 rfl rfl ⟨Nat.le_of_ble_eq_true rfl, Nat.le_of_ble_eq_true rfl⟩ rfl hl.1 rfl (Nat.le_of_ble_eq_true rfl) ⟨Nat.zero_le _, Nat.zero_le _⟩ ?_
                  refine lv_iload hx hb d_MO_same_68 (lv_at hl 0 rfl) ?_
                  refine k_S hx hb hml hown hg hk [.long (p_mix o k (nI q)), .int (nI w)] [] (c_MO_fact l D (p_mix o k (nI q)) (nI w)) z_MO_fact w_367 w_368 (trivial) d_MO_same_70 rfl rfl ⟨Nat.le_of_ble_eq_true rfl, Nat.le_of_ble_eq_true rfl⟩ rfl hl.1 rfl (Nat.le_of_ble_eq_true rfl) ⟨Nat.zero_le _, Nat.zero_le _⟩ ?_
                  refine lv_aload_n hx hb d_MO_same_73 rfl (lv_at hl 3 rfl) ?_
                  refine x_get hx hb hg hown hk (hP 0 _ rfl) rfl i_MO 1 (by decide) w_306 rfl d_MO_same_74 ?_
                  refine lv_iload_n hx hb d_MO_same_77 rfl (lv_at hl 5 rfl) ?_
                  refine lv_iload hx hb d_MO_same_78 (lv_at hl 2 rfl) ?_
                  refine k_S hx hb hml hown hg hk [.long sd, .int k, .int (nI q)] [.int (p_fact (p_mix o k (nI q)) (nI w))] (c_MO_number l D sd k (nI q)) z_MO_number w_356 w_357 (trivial) d_MO_same_80 rfl rfl ⟨Nat.le_of_ble_eq_true rfl, Nat.le_of_ble_eq_true rfl⟩ rfl hl.1 rfl (Nat.le_of_ble_eq_true rfl) ⟨Nat.zero_le _, Nat.zero_le _⟩ ?_
                  refine lv_iload hx hb d_MO_same_83 (lv_at hl 0 rfl) ?_
                  refine k_S hx hb hml hown hg hk [.long (p_mix sd k (nI q)), .int (nI w)] [.int (p_fact (p_mix o k (nI q)) (nI w))] (c_MO_fact l D (p_mix sd k (nI q)) (nI w)) z_MO_fact w_367 w_368 (trivial) d_MO_same_85 rfl rfl ⟨Nat.le_of_ble_eq_true rfl, Nat.le_of_ble_eq_true rfl⟩ rfl hl.1 rfl (Nat.le_of_ble_eq_true rfl) ⟨Nat.zero_le _, Nat.zero_le _⟩ ?_
                  refine lv_icmp_ne (tgt := 95) hx hb d_MO_same_88 (by decide) (fun c7 => ?_) (fun c7 => ?_)
                  · refine lv_iconst (v := 0) hx hb d_MO_same_95 (by decide) ?_
                    refine lv_istore (lv' := [(5, .int 0), (7, .int (nI w)), (6, .int (nI q)), (0, .ref g0), (1, .long o), (3, .int k), (4, .int (nI j))]) hx hb d_MO_same_96 hl (by decide) rfl (fun ls hl => ?_)
                    obtain ⟨y7, ey7⟩ : ∃ y : Int32, y = (nI w) + 1 := ⟨_, rfl⟩
                    refine lv_iinc (v := y7) (lv' := [(7, .int y7), (5, .int 0), (6, .int (nI q)), (0, .ref g0), (1, .long o), (3, .int k), (4, .int (nI j))]) hx hb d_MO_same_98 hl (k := 1) rfl (by rw [ey7]; rfl) (by decide) rfl (fun ls hl => ?_)
                    refine lv_goto (tgt := 50) hx hb d_MO_same_101 (by decide) ?_
                    exact ih2 (w + 1) y7 0 (by omega) (by omega) (by omega) (by rw [ey7, nI_1]) ((p_tf_f (fun h => c7 (h w h6 (by omega)).symm)).symm) ls (lv_sub hl [0, 1, 2, 3, 4, 5, 6] rfl)
                  · refine lv_iconst (v := 1) hx hb d_MO_same_91 (by decide) ?_
                    refine lv_goto (tgt := 96) hx hb d_MO_same_92 (by decide) ?_
                    refine lv_istore (lv' := [(5, .int 1), (7, .int (nI w)), (6, .int (nI q)), (0, .ref g0), (1, .long o), (3, .int k), (4, .int (nI j))]) hx hb d_MO_same_96 hl (by decide) rfl (fun ls hl => ?_)
                    obtain ⟨y7, ey7⟩ : ∃ y : Int32, y = (nI w) + 1 := ⟨_, rfl⟩
                    refine lv_iinc (v := y7) (lv' := [(7, .int y7), (5, .int 1), (6, .int (nI q)), (0, .ref g0), (1, .long o), (3, .int k), (4, .int (nI j))]) hx hb d_MO_same_98 hl (k := 1) rfl (by rw [ey7]; rfl) (by decide) rfl (fun ls hl => ?_)
                    refine lv_goto (tgt := 50) hx hb d_MO_same_101 (by decide) ?_
                    exact ih2 (w + 1) y7 1 (by omega) (by omega) (by omega) (by rw [ey7, nI_1]) ((p_tf_t (fun w2 q1 q2 => (Nat.lt_or_ge w2 w).elim (fun h => hfc w2 q1 h) (fun h => by rw [show w2 = w by omega]; exact c7.symm))).symm) ls (lv_sub hl [0, 1, 2, 3, 4, 5, 6] rfl)
          exact loop2 6 1 1 x5 (Nat.le_refl _) (by omega) (by omega) rfl (by rw [hx5]; exact (p_tf_t (fun w2 q1 q2 => by omega)).symm) ls (lv_sub hl [0, 2, 1, 3, 4, 5, 6] rfl)
  exact loop (j + 2) 0 0 1 (Nat.zero_le _) (by omega) nI_0.symm (p_tf_t (fun i hi => by omega)).symm ls (lv_sub hl [0, 1, 2, 3, 4, 5] rfl)
end
section
/-! MODEL: the constructor; LAW: cell (printed by gen/minit.py) -/
theorem d_MO_init_0 : decode b_MO_init 0 = .ok (.aload_n 0, 1) := by decide +kernel
theorem d_MO_init_1 : decode b_MO_init 1 = .ok (.invokespecial 1, 3) := by decide +kernel
theorem d_MO_init_4 : decode b_MO_init 4 = .ok (.aload_n 0, 1) := by decide +kernel
theorem d_MO_init_5 : decode b_MO_init 5 = .ok (.bipush 100, 2) := by decide +kernel
theorem d_MO_init_7 : decode b_MO_init 7 = .ok (.newarray .int, 2) := by decide +kernel
theorem d_MO_init_9 : decode b_MO_init 9 = .ok (.putfield 7, 3) := by decide +kernel
theorem d_MO_init_12 : decode b_MO_init 12 = .ok (.aload_n 0, 1) := by decide +kernel
theorem d_MO_init_13 : decode b_MO_init 13 = .ok (.bipush 100, 2) := by decide +kernel
theorem d_MO_init_15 : decode b_MO_init 15 = .ok (.newarray .boolean, 2) := by decide +kernel
theorem d_MO_init_17 : decode b_MO_init 17 = .ok (.putfield 13, 3) := by decide +kernel
theorem d_MO_init_20 : decode b_MO_init 20 = .ok (.aload_n 0, 1) := by decide +kernel
theorem d_MO_init_21 : decode b_MO_init 21 = .ok (.bipush 10, 2) := by decide +kernel
theorem d_MO_init_23 : decode b_MO_init 23 = .ok (.newarray .int, 2) := by decide +kernel
theorem d_MO_init_25 : decode b_MO_init 25 = .ok (.putfield 17, 3) := by decide +kernel
theorem d_MO_init_28 : decode b_MO_init 28 = .ok (.aload_n 0, 1) := by decide +kernel
theorem d_MO_init_29 : decode b_MO_init 29 = .ok (.iload_n 1, 1) := by decide +kernel
theorem d_MO_init_30 : decode b_MO_init 30 = .ok (.i2l, 1) := by decide +kernel
theorem d_MO_init_31 : decode b_MO_init 31 = .ok (.putfield 20, 3) := by decide +kernel
theorem d_MO_init_34 : decode b_MO_init 34 = .ok (.aload_n 0, 1) := by decide +kernel
theorem d_MO_init_35 : decode b_MO_init 35 = .ok (.getfield 17, 3) := by decide +kernel
theorem d_MO_init_38 : decode b_MO_init 38 = .ok (.iconst 0, 1) := by decide +kernel
theorem d_MO_init_39 : decode b_MO_init 39 = .ok (.sipush 31599, 3) := by decide +kernel
theorem d_MO_init_42 : decode b_MO_init 42 = .ok (.iastore, 1) := by decide +kernel
theorem d_MO_init_43 : decode b_MO_init 43 = .ok (.aload_n 0, 1) := by decide +kernel
theorem d_MO_init_44 : decode b_MO_init 44 = .ok (.getfield 17, 3) := by decide +kernel
theorem d_MO_init_47 : decode b_MO_init 47 = .ok (.iconst 1, 1) := by decide +kernel
theorem d_MO_init_48 : decode b_MO_init 48 = .ok (.sipush 11415, 3) := by decide +kernel
theorem d_MO_init_51 : decode b_MO_init 51 = .ok (.iastore, 1) := by decide +kernel
theorem d_MO_init_52 : decode b_MO_init 52 = .ok (.aload_n 0, 1) := by decide +kernel
theorem d_MO_init_53 : decode b_MO_init 53 = .ok (.getfield 17, 3) := by decide +kernel
theorem d_MO_init_56 : decode b_MO_init 56 = .ok (.iconst 2, 1) := by decide +kernel
theorem d_MO_init_57 : decode b_MO_init 57 = .ok (.sipush 29671, 3) := by decide +kernel
theorem d_MO_init_60 : decode b_MO_init 60 = .ok (.iastore, 1) := by decide +kernel
theorem d_MO_init_61 : decode b_MO_init 61 = .ok (.aload_n 0, 1) := by decide +kernel
theorem d_MO_init_62 : decode b_MO_init 62 = .ok (.getfield 17, 3) := by decide +kernel
theorem d_MO_init_65 : decode b_MO_init 65 = .ok (.iconst 3, 1) := by decide +kernel
theorem d_MO_init_66 : decode b_MO_init 66 = .ok (.sipush 29647, 3) := by decide +kernel
theorem d_MO_init_69 : decode b_MO_init 69 = .ok (.iastore, 1) := by decide +kernel
theorem d_MO_init_70 : decode b_MO_init 70 = .ok (.aload_n 0, 1) := by decide +kernel
theorem d_MO_init_71 : decode b_MO_init 71 = .ok (.getfield 17, 3) := by decide +kernel
theorem d_MO_init_74 : decode b_MO_init 74 = .ok (.iconst 4, 1) := by decide +kernel
theorem d_MO_init_75 : decode b_MO_init 75 = .ok (.sipush 23497, 3) := by decide +kernel
theorem d_MO_init_78 : decode b_MO_init 78 = .ok (.iastore, 1) := by decide +kernel
theorem d_MO_init_79 : decode b_MO_init 79 = .ok (.aload_n 0, 1) := by decide +kernel
theorem d_MO_init_80 : decode b_MO_init 80 = .ok (.getfield 17, 3) := by decide +kernel
theorem d_MO_init_83 : decode b_MO_init 83 = .ok (.iconst 5, 1) := by decide +kernel
theorem d_MO_init_84 : decode b_MO_init 84 = .ok (.sipush 31183, 3) := by decide +kernel
theorem d_MO_init_87 : decode b_MO_init 87 = .ok (.iastore, 1) := by decide +kernel
theorem d_MO_init_88 : decode b_MO_init 88 = .ok (.aload_n 0, 1) := by decide +kernel
theorem d_MO_init_89 : decode b_MO_init 89 = .ok (.getfield 17, 3) := by decide +kernel
theorem d_MO_init_92 : decode b_MO_init 92 = .ok (.bipush 6, 2) := by decide +kernel
theorem d_MO_init_94 : decode b_MO_init 94 = .ok (.sipush 31215, 3) := by decide +kernel
theorem d_MO_init_97 : decode b_MO_init 97 = .ok (.iastore, 1) := by decide +kernel
theorem d_MO_init_98 : decode b_MO_init 98 = .ok (.aload_n 0, 1) := by decide +kernel
theorem d_MO_init_99 : decode b_MO_init 99 = .ok (.getfield 17, 3) := by decide +kernel
theorem d_MO_init_102 : decode b_MO_init 102 = .ok (.bipush 7, 2) := by decide +kernel
theorem d_MO_init_104 : decode b_MO_init 104 = .ok (.sipush 29257, 3) := by decide +kernel
theorem d_MO_init_107 : decode b_MO_init 107 = .ok (.iastore, 1) := by decide +kernel
theorem d_MO_init_108 : decode b_MO_init 108 = .ok (.aload_n 0, 1) := by decide +kernel
theorem d_MO_init_109 : decode b_MO_init 109 = .ok (.getfield 17, 3) := by decide +kernel
theorem d_MO_init_112 : decode b_MO_init 112 = .ok (.bipush 8, 2) := by decide +kernel
theorem d_MO_init_114 : decode b_MO_init 114 = .ok (.sipush 31727, 3) := by decide +kernel
theorem d_MO_init_117 : decode b_MO_init 117 = .ok (.iastore, 1) := by decide +kernel
theorem d_MO_init_118 : decode b_MO_init 118 = .ok (.aload_n 0, 1) := by decide +kernel
theorem d_MO_init_119 : decode b_MO_init 119 = .ok (.getfield 17, 3) := by decide +kernel
theorem d_MO_init_122 : decode b_MO_init 122 = .ok (.bipush 9, 2) := by decide +kernel
theorem d_MO_init_124 : decode b_MO_init 124 = .ok (.sipush 31695, 3) := by decide +kernel
theorem d_MO_init_127 : decode b_MO_init 127 = .ok (.iastore, 1) := by decide +kernel
theorem d_MO_init_128 : decode b_MO_init 128 = .ok (.return_, 1) := by decide +kernel
abbrev rm_MO_init : Room := { frames := 1, cells := 3, slots := 210, locals := 14 }
set_option maxHeartbeats 4000000 in
set_option maxRecDepth 100000 in
theorem c_MO_init (l : Launch) (D : va_G) (g0 sz : Nat) (sd : Int32) : Met l y_MO_init (Cond.code y_MO_init b_MO_init 2 none :: gw) rm_MO_init (cP D [.ref g0, .int sd] (fun H => H.size = sz ∧ ob D 5 g0 [.int 0, .long 0, .long 0, .int 0, .int 0, .int 0, .int 0, .null, .null, .null] H)) (mV (fun q => q = g0 ∨ sz ≤ q) (fun v H => v = none ∧ ∃ (a1 a2 a3 : Nat) (ik : Nat → Int32), mj g0 a1 a2 a3 ∧ sz ≤ a1 ∧ sz ≤ a2 ∧ sz ≤ a3 ∧ (∀ j, j < 10 → ik j = p_sign j) ∧ va_P D classes (mo D g0 a1 a2 a3 0 sd.toInt64 0 0 0 0 0 (fun _ => 0) (fun _ => 0) ik) H)) 3 210 (fun q => q = g0 ∨ sz ≤ q) := by
  refine mt_B (by decide) (Nat.le_of_ble_eq_true rfl) ?_
  intro p e s m below meth c ls ⟨hx, hb, hr, hlocks, hin, hml, hown, hg⟩ ⟨hk, hp⟩ hl
  have hown : s.vm.findClass R_MO = some m.cls := hown
  have hS : va_S (fun q => q = g0 ∨ sz ≤ q) s.heap s.heap [] := va_S.rf
  have hl : lv_has ls 2 [(0, .ref g0), (1, .int sd)] := hl
  obtain ⟨hsz, hp⟩ := hp
  have hA : ∀ q : Nat, s.heap.size ≤ q → (fun q => q = g0 ∨ sz ≤ q) q := fun q h => Or.inr (by omega)
  have hP : va_P D classes [(g0, .inr (5, [.int 0, .long 0, .long 0, .int 0, .int 0, .int 0, .int 0, .null, .null, .null]))] s.heap := p_1 hp
  have hD : va_D (fun q => q = g0 ∨ sz ≤ q) [(g0, .inr (5, [.int 0, .long 0, .long 0, .int 0, .int 0, .int 0, .int 0, .null, .null, .null]))] := dd_1 (Or.inl rfl)
  refine lv_aload_n hx hb d_MO_init_0 rfl (lv_at hl 0 rfl) ?_
  refine o_I hx hb hml hown hg w_304 hl.1 d_MO_init_1 (Nat.le_of_ble_eq_true rfl) (Nat.le_of_ble_eq_true rfl) ?_
  refine lv_aload_n hx hb d_MO_init_4 rfl (lv_at hl 0 rfl) ?_
  refine lv_bipush (v := 100) hx hb d_MO_init_5 (by decide) ?_
  refine va_newa (atype := .int) (n := 100) (N' := 100) (a0 := (100, .inl (fun _ => 0))) hx hb (hg _ w_336) (ty := .int) rfl hk.1 hP hD hS hA (fun _ => rfl) (by decide) (by decide) (by decide) (Nat.le_of_ble_eq_true rfl) (Nat.le_of_ble_eq_true rfl) d_MO_init_7 (fun a1 cA H hK2 hP hD hS => ?_)
  obtain rfl : D.1 7 = cA := Option.some.inj ((hk.1.2 1 _ rfl).2.symm.trans (hK2.2 3 _ rfl).2)
  have hP : va_P D classes [(g0, .inr (5, [.int 0, .long 0, .long 0, .int 0, .int 0, .int 0, .int 0, .null, .null, .null])), (a1, .inl (D.1 7, 100, .inl (fun _ => 0)))] H := hP
  have hD : va_D (fun q => q = g0 ∨ sz ≤ q) [(g0, .inr (5, [.int 0, .long 0, .long 0, .int 0, .int 0, .int 0, .int 0, .null, .null, .null])), (a1, .inl (D.1 7, 100, .inl (fun _ => 0)))] := hD
  refine va_putF (D := D) (ci := 5) (v := .ref a1) (ty := T_MO 7) (C := R_MO) (T := F_MO) (N := 10) hx hb hg i_MO T_MO k_MO n_MO hown hk.1 hP hD hS 0 rfl rfl 7 (by decide) (hg _ w_312) (fun _ h9 => h9) rfl hin rfl (by decide +kernel) rfl rfl (Nat.le_of_ble_eq_true rfl) d_MO_init_9 (fun H locs hP hD hS => ?_)
  have hP : va_P D classes [(g0, .inr (5, [.int 0, .long 0, .long 0, .int 0, .int 0, .int 0, .int 0, .ref a1, .null, .null])), (a1, .inl (D.1 7, 100, .inl (fun _ => 0)))] H := hP
  have hD : va_D (fun q => q = g0 ∨ sz ≤ q) [(g0, .inr (5, [.int 0, .long 0, .long 0, .int 0, .int 0, .int 0, .int 0, .ref a1, .null, .null])), (a1, .inl (D.1 7, 100, .inl (fun _ => 0)))] := hD
  refine lv_aload_n hx hb d_MO_init_12 rfl (lv_at hl 0 rfl) ?_
  refine lv_bipush (v := 100) hx hb d_MO_init_13 (by decide) ?_
  refine va_newa (atype := .boolean) (n := 100) (N' := 100) (a0 := (100, .inl (fun _ => 0))) hx hb (hg _ w_337) (ty := .boolean) rfl hk.1 hP hD hS hA (fun _ => rfl) (by decide) (by decide) (by decide) (Nat.le_of_ble_eq_true rfl) (Nat.le_of_ble_eq_true rfl) d_MO_init_15 (fun a2 cA H hK2 hP hD hS => ?_)
  obtain rfl : D.1 8 = cA := Option.some.inj ((hk.1.2 2 _ rfl).2.symm.trans (hK2.2 3 _ rfl).2)
  have hP : va_P D classes [(g0, .inr (5, [.int 0, .long 0, .long 0, .int 0, .int 0, .int 0, .int 0, .ref a1, .null, .null])), (a1, .inl (D.1 7, 100, .inl (fun _ => 0))), (a2, .inl (D.1 8, 100, .inl (fun _ => 0)))] H := hP
  have hD : va_D (fun q => q = g0 ∨ sz ≤ q) [(g0, .inr (5, [.int 0, .long 0, .long 0, .int 0, .int 0, .int 0, .int 0, .ref a1, .null, .null])), (a1, .inl (D.1 7, 100, .inl (fun _ => 0))), (a2, .inl (D.1 8, 100, .inl (fun _ => 0)))] := hD
  refine va_putF (D := D) (ci := 5) (v := .ref a2) (ty := T_MO 8) (C := R_MO) (T := F_MO) (N := 10) hx hb hg i_MO T_MO k_MO n_MO hown hk.1 hP hD hS 0 rfl rfl 8 (by decide) (hg _ w_313) (fun _ h9 => h9) rfl hin rfl (by decide +kernel) rfl rfl (Nat.le_of_ble_eq_true rfl) d_MO_init_17 (fun H locs hP hD hS => ?_)
  have hP : va_P D classes [(g0, .inr (5, [.int 0, .long 0, .long 0, .int 0, .int 0, .int 0, .int 0, .ref a1, .ref a2, .null])), (a1, .inl (D.1 7, 100, .inl (fun _ => 0))), (a2, .inl (D.1 8, 100, .inl (fun _ => 0)))] H := hP
  have hD : va_D (fun q => q = g0 ∨ sz ≤ q) [(g0, .inr (5, [.int 0, .long 0, .long 0, .int 0, .int 0, .int 0, .int 0, .ref a1, .ref a2, .null])), (a1, .inl (D.1 7, 100, .inl (fun _ => 0))), (a2, .inl (D.1 8, 100, .inl (fun _ => 0)))] := hD
  refine lv_aload_n hx hb d_MO_init_20 rfl (lv_at hl 0 rfl) ?_
  refine lv_bipush (v := 10) hx hb d_MO_init_21 (by decide) ?_
  refine va_newa (atype := .int) (n := 10) (N' := 10) (a0 := (10, .inl (fun _ => 0))) hx hb (hg _ w_336) (ty := .int) rfl hk.1 hP hD hS hA (fun _ => rfl) (by decide) (by decide) (by decide) (Nat.le_of_ble_eq_true rfl) (Nat.le_of_ble_eq_true rfl) d_MO_init_23 (fun a3 cA H hK2 hP hD hS => ?_)
  obtain rfl : D.1 7 = cA := Option.some.inj ((hk.1.2 1 _ rfl).2.symm.trans (hK2.2 3 _ rfl).2)
  have hP : va_P D classes [(g0, .inr (5, [.int 0, .long 0, .long 0, .int 0, .int 0, .int 0, .int 0, .ref a1, .ref a2, .null])), (a1, .inl (D.1 7, 100, .inl (fun _ => 0))), (a2, .inl (D.1 8, 100, .inl (fun _ => 0))), (a3, .inl (D.1 7, 10, .inl (fun _ => 0)))] H := hP
  have hD : va_D (fun q => q = g0 ∨ sz ≤ q) [(g0, .inr (5, [.int 0, .long 0, .long 0, .int 0, .int 0, .int 0, .int 0, .ref a1, .ref a2, .null])), (a1, .inl (D.1 7, 100, .inl (fun _ => 0))), (a2, .inl (D.1 8, 100, .inl (fun _ => 0))), (a3, .inl (D.1 7, 10, .inl (fun _ => 0)))] := hD
  refine va_putF (D := D) (ci := 5) (v := .ref a3) (ty := T_MO 9) (C := R_MO) (T := F_MO) (N := 10) hx hb hg i_MO T_MO k_MO n_MO hown hk.1 hP hD hS 0 rfl rfl 9 (by decide) (hg _ w_314) (fun _ h9 => h9) rfl hin rfl (by decide +kernel) rfl rfl (Nat.le_of_ble_eq_true rfl) d_MO_init_25 (fun H locs hP hD hS => ?_)
  have hP : va_P D classes [(g0, .inr (5, [.int 0, .long 0, .long 0, .int 0, .int 0, .int 0, .int 0, .ref a1, .ref a2, .ref a3])), (a1, .inl (D.1 7, 100, .inl (fun _ => 0))), (a2, .inl (D.1 8, 100, .inl (fun _ => 0))), (a3, .inl (D.1 7, 10, .inl (fun _ => 0)))] H := hP
  have hD : va_D (fun q => q = g0 ∨ sz ≤ q) [(g0, .inr (5, [.int 0, .long 0, .long 0, .int 0, .int 0, .int 0, .int 0, .ref a1, .ref a2, .ref a3])), (a1, .inl (D.1 7, 100, .inl (fun _ => 0))), (a2, .inl (D.1 8, 100, .inl (fun _ => 0))), (a3, .inl (D.1 7, 10, .inl (fun _ => 0)))] := hD
  refine lv_aload_n hx hb d_MO_init_28 rfl (lv_at hl 0 rfl) ?_
  refine lv_iload_n hx hb d_MO_init_29 rfl (lv_at hl 1 rfl) ?_
  refine lv_i2l (v := sd.toInt64) hx hb d_MO_init_30 rfl ?_
  refine va_put (D := D) (ci := 5) (v := .long sd.toInt64) (ty := .long) (C := R_MO) (T := F_MO) (N := 10) hx hb hg i_MO T_MO k_MO n_MO hown hk.1 hP hD hS 0 rfl rfl 1 (by decide) (hg _ w_306) (fun _ h9 => h9) rfl (by decide +kernel) rfl rfl (Nat.le_of_ble_eq_true rfl) d_MO_init_31 (fun H locs hP hD hS => ?_)
  have hP : va_P D classes [(g0, .inr (5, [.int 0, .long sd.toInt64, .long 0, .int 0, .int 0, .int 0, .int 0, .ref a1, .ref a2, .ref a3])), (a1, .inl (D.1 7, 100, .inl (fun _ => 0))), (a2, .inl (D.1 8, 100, .inl (fun _ => 0))), (a3, .inl (D.1 7, 10, .inl (fun _ => 0)))] H := hP
  have hD : va_D (fun q => q = g0 ∨ sz ≤ q) [(g0, .inr (5, [.int 0, .long sd.toInt64, .long 0, .int 0, .int 0, .int 0, .int 0, .ref a1, .ref a2, .ref a3])), (a1, .inl (D.1 7, 100, .inl (fun _ => 0))), (a2, .inl (D.1 8, 100, .inl (fun _ => 0))), (a3, .inl (D.1 7, 10, .inl (fun _ => 0)))] := hD
  refine lv_aload_n hx hb d_MO_init_34 rfl (lv_at hl 0 rfl) ?_
  refine x_get hx hb hg hown hk (hP 0 _ rfl) rfl i_MO 9 (by decide) w_314 rfl d_MO_init_35 ?_
  refine lv_iconst (v := 0) hx hb d_MO_init_38 (by decide) ?_
  refine lv_sipush (v := 31599) hx hb d_MO_init_39 (by decide) ?_
  refine va_iast hx hb hk.1 hP hD hS 3 1 rfl rfl (vp_in_nI (n := 0) (by decide) (by decide)) d_MO_init_42 (fun H locs hP hD hS => ?_)
  have hP : va_P D classes [(g0, .inr (5, [.int 0, .long sd.toInt64, .long 0, .int 0, .int 0, .int 0, .int 0, .ref a1, .ref a2, .ref a3])), (a1, .inl (D.1 7, 100, .inl (fun _ => 0))), (a2, .inl (D.1 8, 100, .inl (fun _ => 0))), (a3, .inl (D.1 7, 10, .inl (upd (fun _ => 0) (0 : Int32).toNatClampNeg 31599)))] H := hP
  have hD : va_D (fun q => q = g0 ∨ sz ≤ q) [(g0, .inr (5, [.int 0, .long sd.toInt64, .long 0, .int 0, .int 0, .int 0, .int 0, .ref a1, .ref a2, .ref a3])), (a1, .inl (D.1 7, 100, .inl (fun _ => 0))), (a2, .inl (D.1 8, 100, .inl (fun _ => 0))), (a3, .inl (D.1 7, 10, .inl (upd (fun _ => 0) (0 : Int32).toNatClampNeg 31599)))] := hD
  refine lv_aload_n hx hb d_MO_init_43 rfl (lv_at hl 0 rfl) ?_
  refine x_get hx hb hg hown hk (hP 0 _ rfl) rfl i_MO 9 (by decide) w_314 rfl d_MO_init_44 ?_
  refine lv_iconst (v := 1) hx hb d_MO_init_47 (by decide) ?_
  refine lv_sipush (v := 11415) hx hb d_MO_init_48 (by decide) ?_
  refine va_iast hx hb hk.1 hP hD hS 3 1 rfl rfl (vp_in_nI (n := 1) (by decide) (by decide)) d_MO_init_51 (fun H locs hP hD hS => ?_)
  have hP : va_P D classes [(g0, .inr (5, [.int 0, .long sd.toInt64, .long 0, .int 0, .int 0, .int 0, .int 0, .ref a1, .ref a2, .ref a3])), (a1, .inl (D.1 7, 100, .inl (fun _ => 0))), (a2, .inl (D.1 8, 100, .inl (fun _ => 0))), (a3, .inl (D.1 7, 10, .inl (upd (upd (fun _ => 0) (0 : Int32).toNatClampNeg 31599) (1 : Int32).toNatClampNeg 11415)))] H := hP
  have hD : va_D (fun q => q = g0 ∨ sz ≤ q) [(g0, .inr (5, [.int 0, .long sd.toInt64, .long 0, .int 0, .int 0, .int 0, .int 0, .ref a1, .ref a2, .ref a3])), (a1, .inl (D.1 7, 100, .inl (fun _ => 0))), (a2, .inl (D.1 8, 100, .inl (fun _ => 0))), (a3, .inl (D.1 7, 10, .inl (upd (upd (fun _ => 0) (0 : Int32).toNatClampNeg 31599) (1 : Int32).toNatClampNeg 11415)))] := hD
  refine lv_aload_n hx hb d_MO_init_52 rfl (lv_at hl 0 rfl) ?_
  refine x_get hx hb hg hown hk (hP 0 _ rfl) rfl i_MO 9 (by decide) w_314 rfl d_MO_init_53 ?_
  refine lv_iconst (v := 2) hx hb d_MO_init_56 (by decide) ?_
  refine lv_sipush (v := 29671) hx hb d_MO_init_57 (by decide) ?_
  refine va_iast hx hb hk.1 hP hD hS 3 1 rfl rfl (vp_in_nI (n := 2) (by decide) (by decide)) d_MO_init_60 (fun H locs hP hD hS => ?_)
  have hP : va_P D classes [(g0, .inr (5, [.int 0, .long sd.toInt64, .long 0, .int 0, .int 0, .int 0, .int 0, .ref a1, .ref a2, .ref a3])), (a1, .inl (D.1 7, 100, .inl (fun _ => 0))), (a2, .inl (D.1 8, 100, .inl (fun _ => 0))), (a3, .inl (D.1 7, 10, .inl (upd (upd (upd (fun _ => 0) (0 : Int32).toNatClampNeg 31599) (1 : Int32).toNatClampNeg 11415) (2 : Int32).toNatClampNeg 29671)))] H := hP
  have hD : va_D (fun q => q = g0 ∨ sz ≤ q) [(g0, .inr (5, [.int 0, .long sd.toInt64, .long 0, .int 0, .int 0, .int 0, .int 0, .ref a1, .ref a2, .ref a3])), (a1, .inl (D.1 7, 100, .inl (fun _ => 0))), (a2, .inl (D.1 8, 100, .inl (fun _ => 0))), (a3, .inl (D.1 7, 10, .inl (upd (upd (upd (fun _ => 0) (0 : Int32).toNatClampNeg 31599) (1 : Int32).toNatClampNeg 11415) (2 : Int32).toNatClampNeg 29671)))] := hD
  refine lv_aload_n hx hb d_MO_init_61 rfl (lv_at hl 0 rfl) ?_
  refine x_get hx hb hg hown hk (hP 0 _ rfl) rfl i_MO 9 (by decide) w_314 rfl d_MO_init_62 ?_
  refine lv_iconst (v := 3) hx hb d_MO_init_65 (by decide) ?_
  refine lv_sipush (v := 29647) hx hb d_MO_init_66 (by decide) ?_
  refine va_iast hx hb hk.1 hP hD hS 3 1 rfl rfl (vp_in_nI (n := 3) (by decide) (by decide)) d_MO_init_69 (fun H locs hP hD hS => ?_)
  have hP : va_P D classes [(g0, .inr (5, [.int 0, .long sd.toInt64, .long 0, .int 0, .int 0, .int 0, .int 0, .ref a1, .ref a2, .ref a3])), (a1, .inl (D.1 7, 100, .inl (fun _ => 0))), (a2, .inl (D.1 8, 100, .inl (fun _ => 0))), (a3, .inl (D.1 7, 10, .inl (upd (upd (upd (upd (fun _ => 0) (0 : Int32).toNatClampNeg 31599) (1 : Int32).toNatClampNeg 11415) (2 : Int32).toNatClampNeg 29671) (3 : Int32).toNatClampNeg 29647)))] H := hP
  have hD : va_D (fun q => q = g0 ∨ sz ≤ q) [(g0, .inr (5, [.int 0, .long sd.toInt64, .long 0, .int 0, .int 0, .int 0, .int 0, .ref a1, .ref a2, .ref a3])), (a1, .inl (D.1 7, 100, .inl (fun _ => 0))), (a2, .inl (D.1 8, 100, .inl (fun _ => 0))), (a3, .inl (D.1 7, 10, .inl (upd (upd (upd (upd (fun _ => 0) (0 : Int32).toNatClampNeg 31599) (1 : Int32).toNatClampNeg 11415) (2 : Int32).toNatClampNeg 29671) (3 : Int32).toNatClampNeg 29647)))] := hD
  refine lv_aload_n hx hb d_MO_init_70 rfl (lv_at hl 0 rfl) ?_
  refine x_get hx hb hg hown hk (hP 0 _ rfl) rfl i_MO 9 (by decide) w_314 rfl d_MO_init_71 ?_
  refine lv_iconst (v := 4) hx hb d_MO_init_74 (by decide) ?_
  refine lv_sipush (v := 23497) hx hb d_MO_init_75 (by decide) ?_
  refine va_iast hx hb hk.1 hP hD hS 3 1 rfl rfl (vp_in_nI (n := 4) (by decide) (by decide)) d_MO_init_78 (fun H locs hP hD hS => ?_)
  have hP : va_P D classes [(g0, .inr (5, [.int 0, .long sd.toInt64, .long 0, .int 0, .int 0, .int 0, .int 0, .ref a1, .ref a2, .ref a3])), (a1, .inl (D.1 7, 100, .inl (fun _ => 0))), (a2, .inl (D.1 8, 100, .inl (fun _ => 0))), (a3, .inl (D.1 7, 10, .inl (upd (upd (upd (upd (upd (fun _ => 0) (0 : Int32).toNatClampNeg 31599) (1 : Int32).toNatClampNeg 11415) (2 : Int32).toNatClampNeg 29671) (3 : Int32).toNatClampNeg 29647) (4 : Int32).toNatClampNeg 23497)))] H := hP
  have hD : va_D (fun q => q = g0 ∨ sz ≤ q) [(g0, .inr (5, [.int 0, .long sd.toInt64, .long 0, .int 0, .int 0, .int 0, .int 0, .ref a1, .ref a2, .ref a3])), (a1, .inl (D.1 7, 100, .inl (fun _ => 0))), (a2, .inl (D.1 8, 100, .inl (fun _ => 0))), (a3, .inl (D.1 7, 10, .inl (upd (upd (upd (upd (upd (fun _ => 0) (0 : Int32).toNatClampNeg 31599) (1 : Int32).toNatClampNeg 11415) (2 : Int32).toNatClampNeg 29671) (3 : Int32).toNatClampNeg 29647) (4 : Int32).toNatClampNeg 23497)))] := hD
  refine lv_aload_n hx hb d_MO_init_79 rfl (lv_at hl 0 rfl) ?_
  refine x_get hx hb hg hown hk (hP 0 _ rfl) rfl i_MO 9 (by decide) w_314 rfl d_MO_init_80 ?_
  refine lv_iconst (v := 5) hx hb d_MO_init_83 (by decide) ?_
  refine lv_sipush (v := 31183) hx hb d_MO_init_84 (by decide) ?_
  refine va_iast hx hb hk.1 hP hD hS 3 1 rfl rfl (vp_in_nI (n := 5) (by decide) (by decide)) d_MO_init_87 (fun H locs hP hD hS => ?_)
  have hP : va_P D classes [(g0, .inr (5, [.int 0, .long sd.toInt64, .long 0, .int 0, .int 0, .int 0, .int 0, .ref a1, .ref a2, .ref a3])), (a1, .inl (D.1 7, 100, .inl (fun _ => 0))), (a2, .inl (D.1 8, 100, .inl (fun _ => 0))), (a3, .inl (D.1 7, 10, .inl (upd (upd (upd (upd (upd (upd (fun _ => 0) (0 : Int32).toNatClampNeg 31599) (1 : Int32).toNatClampNeg 11415) (2 : Int32).toNatClampNeg 29671) (3 : Int32).toNatClampNeg 29647) (4 : Int32).toNatClampNeg 23497) (5 : Int32).toNatClampNeg 31183)))] H := hP
  have hD : va_D (fun q => q = g0 ∨ sz ≤ q) [(g0, .inr (5, [.int 0, .long sd.toInt64, .long 0, .int 0, .int 0, .int 0, .int 0, .ref a1, .ref a2, .ref a3])), (a1, .inl (D.1 7, 100, .inl (fun _ => 0))), (a2, .inl (D.1 8, 100, .inl (fun _ => 0))), (a3, .inl (D.1 7, 10, .inl (upd (upd (upd (upd (upd (upd (fun _ => 0) (0 : Int32).toNatClampNeg 31599) (1 : Int32).toNatClampNeg 11415) (2 : Int32).toNatClampNeg 29671) (3 : Int32).toNatClampNeg 29647) (4 : Int32).toNatClampNeg 23497) (5 : Int32).toNatClampNeg 31183)))] := hD
  refine lv_aload_n hx hb d_MO_init_88 rfl (lv_at hl 0 rfl) ?_
  refine x_get hx hb hg hown hk (hP 0 _ rfl) rfl i_MO 9 (by decide) w_314 rfl d_MO_init_89 ?_
  refine lv_bipush (v := 6) hx hb d_MO_init_92 (by decide) ?_
  refine lv_sipush (v := 31215) hx hb d_MO_init_94 (by decide) ?_
  refine va_iast hx hb hk.1 hP hD hS 3 1 rfl rfl (vp_in_nI (n := 6) (by decide) (by decide)) d_MO_init_97 (fun H locs hP hD hS => ?_)
  have hP : va_P D classes [(g0, .inr (5, [.int 0, .long sd.toInt64, .long 0, .int 0, .int 0, .int 0, .int 0, .ref a1, .ref a2, .ref a3])), (a1, .inl (D.1 7, 100, .inl (fun _ => 0))), (a2, .inl (D.1 8, 100, .inl (fun _ => 0))), (a3, .inl (D.1 7, 10, .inl (upd (upd (upd (upd (upd (upd (upd (fun _ => 0) (0 : Int32).toNatClampNeg 31599) (1 : Int32).toNatClampNeg 11415) (2 : Int32).toNatClampNeg 29671) (3 : Int32).toNatClampNeg 29647) (4 : Int32).toNatClampNeg 23497) (5 : Int32).toNatClampNeg 31183) (6 : Int32).toNatClampNeg 31215)))] H := hP
  have hD : va_D (fun q => q = g0 ∨ sz ≤ q) [(g0, .inr (5, [.int 0, .long sd.toInt64, .long 0, .int 0, .int 0, .int 0, .int 0, .ref a1, .ref a2, .ref a3])), (a1, .inl (D.1 7, 100, .inl (fun _ => 0))), (a2, .inl (D.1 8, 100, .inl (fun _ => 0))), (a3, .inl (D.1 7, 10, .inl (upd (upd (upd (upd (upd (upd (upd (fun _ => 0) (0 : Int32).toNatClampNeg 31599) (1 : Int32).toNatClampNeg 11415) (2 : Int32).toNatClampNeg 29671) (3 : Int32).toNatClampNeg 29647) (4 : Int32).toNatClampNeg 23497) (5 : Int32).toNatClampNeg 31183) (6 : Int32).toNatClampNeg 31215)))] := hD
  refine lv_aload_n hx hb d_MO_init_98 rfl (lv_at hl 0 rfl) ?_
  refine x_get hx hb hg hown hk (hP 0 _ rfl) rfl i_MO 9 (by decide) w_314 rfl d_MO_init_99 ?_
  refine lv_bipush (v := 7) hx hb d_MO_init_102 (by decide) ?_
  refine lv_sipush (v := 29257) hx hb d_MO_init_104 (by decide) ?_
  refine va_iast hx hb hk.1 hP hD hS 3 1 rfl rfl (vp_in_nI (n := 7) (by decide) (by decide)) d_MO_init_107 (fun H locs hP hD hS => ?_)
  have hP : va_P D classes [(g0, .inr (5, [.int 0, .long sd.toInt64, .long 0, .int 0, .int 0, .int 0, .int 0, .ref a1, .ref a2, .ref a3])), (a1, .inl (D.1 7, 100, .inl (fun _ => 0))), (a2, .inl (D.1 8, 100, .inl (fun _ => 0))), (a3, .inl (D.1 7, 10, .inl (upd (upd (upd (upd (upd (upd (upd (upd (fun _ => 0) (0 : Int32).toNatClampNeg 31599) (1 : Int32).toNatClampNeg 11415) (2 : Int32).toNatClampNeg 29671) (3 : Int32).toNatClampNeg 29647) (4 : Int32).toNatClampNeg 23497) (5 : Int32).toNatClampNeg 31183) (6 : Int32).toNatClampNeg 31215) (7 : Int32).toNatClampNeg 29257)))] H := hP
  have hD : va_D (fun q => q = g0 ∨ sz ≤ q) [(g0, .inr (5, [.int 0, .long sd.toInt64, .long 0, .int 0, .int 0, .int 0, .int 0, .ref a1, .ref a2, .ref a3])), (a1, .inl (D.1 7, 100, .inl (fun _ => 0))), (a2, .inl (D.1 8, 100, .inl (fun _ => 0))), (a3, .inl (D.1 7, 10, .inl (upd (upd (upd (upd (upd (upd (upd (upd (fun _ => 0) (0 : Int32).toNatClampNeg 31599) (1 : Int32).toNatClampNeg 11415) (2 : Int32).toNatClampNeg 29671) (3 : Int32).toNatClampNeg 29647) (4 : Int32).toNatClampNeg 23497) (5 : Int32).toNatClampNeg 31183) (6 : Int32).toNatClampNeg 31215) (7 : Int32).toNatClampNeg 29257)))] := hD
  refine lv_aload_n hx hb d_MO_init_108 rfl (lv_at hl 0 rfl) ?_
  refine x_get hx hb hg hown hk (hP 0 _ rfl) rfl i_MO 9 (by decide) w_314 rfl d_MO_init_109 ?_
  refine lv_bipush (v := 8) hx hb d_MO_init_112 (by decide) ?_
  refine lv_sipush (v := 31727) hx hb d_MO_init_114 (by decide) ?_
  refine va_iast hx hb hk.1 hP hD hS 3 1 rfl rfl (vp_in_nI (n := 8) (by decide) (by decide)) d_MO_init_117 (fun H locs hP hD hS => ?_)
  have hP : va_P D classes [(g0, .inr (5, [.int 0, .long sd.toInt64, .long 0, .int 0, .int 0, .int 0, .int 0, .ref a1, .ref a2, .ref a3])), (a1, .inl (D.1 7, 100, .inl (fun _ => 0))), (a2, .inl (D.1 8, 100, .inl (fun _ => 0))), (a3, .inl (D.1 7, 10, .inl (upd (upd (upd (upd (upd (upd (upd (upd (upd (fun _ => 0) (0 : Int32).toNatClampNeg 31599) (1 : Int32).toNatClampNeg 11415) (2 : Int32).toNatClampNeg 29671) (3 : Int32).toNatClampNeg 29647) (4 : Int32).toNatClampNeg 23497) (5 : Int32).toNatClampNeg 31183) (6 : Int32).toNatClampNeg 31215) (7 : Int32).toNatClampNeg 29257) (8 : Int32).toNatClampNeg 31727)))] H := hP
  have hD : va_D (fun q => q = g0 ∨ sz ≤ q) [(g0, .inr (5, [.int 0, .long sd.toInt64, .long 0, .int 0, .int 0, .int 0, .int 0, .ref a1, .ref a2, .ref a3])), (a1, .inl (D.1 7, 100, .inl (fun _ => 0))), (a2, .inl (D.1 8, 100, .inl (fun _ => 0))), (a3, .inl (D.1 7, 10, .inl (upd (upd (upd (upd (upd (upd (upd (upd (upd (fun _ => 0) (0 : Int32).toNatClampNeg 31599) (1 : Int32).toNatClampNeg 11415) (2 : Int32).toNatClampNeg 29671) (3 : Int32).toNatClampNeg 29647) (4 : Int32).toNatClampNeg 23497) (5 : Int32).toNatClampNeg 31183) (6 : Int32).toNatClampNeg 31215) (7 : Int32).toNatClampNeg 29257) (8 : Int32).toNatClampNeg 31727)))] := hD
  refine lv_aload_n hx hb d_MO_init_118 rfl (lv_at hl 0 rfl) ?_
  refine x_get hx hb hg hown hk (hP 0 _ rfl) rfl i_MO 9 (by decide) w_314 rfl d_MO_init_119 ?_
  refine lv_bipush (v := 9) hx hb d_MO_init_122 (by decide) ?_
  refine lv_sipush (v := 31695) hx hb d_MO_init_124 (by decide) ?_
  refine va_iast hx hb hk.1 hP hD hS 3 1 rfl rfl (vp_in_nI (n := 9) (by decide) (by decide)) d_MO_init_127 (fun H locs hP hD hS => ?_)
  have hP : va_P D classes [(g0, .inr (5, [.int 0, .long sd.toInt64, .long 0, .int 0, .int 0, .int 0, .int 0, .ref a1, .ref a2, .ref a3])), (a1, .inl (D.1 7, 100, .inl (fun _ => 0))), (a2, .inl (D.1 8, 100, .inl (fun _ => 0))), (a3, .inl (D.1 7, 10, .inl (upd (upd (upd (upd (upd (upd (upd (upd (upd (upd (fun _ => 0) (0 : Int32).toNatClampNeg 31599) (1 : Int32).toNatClampNeg 11415) (2 : Int32).toNatClampNeg 29671) (3 : Int32).toNatClampNeg 29647) (4 : Int32).toNatClampNeg 23497) (5 : Int32).toNatClampNeg 31183) (6 : Int32).toNatClampNeg 31215) (7 : Int32).toNatClampNeg 29257) (8 : Int32).toNatClampNeg 31727) (9 : Int32).toNatClampNeg 31695)))] H := hP
  have hD : va_D (fun q => q = g0 ∨ sz ≤ q) [(g0, .inr (5, [.int 0, .long sd.toInt64, .long 0, .int 0, .int 0, .int 0, .int 0, .ref a1, .ref a2, .ref a3])), (a1, .inl (D.1 7, 100, .inl (fun _ => 0))), (a2, .inl (D.1 8, 100, .inl (fun _ => 0))), (a3, .inl (D.1 7, 10, .inl (upd (upd (upd (upd (upd (upd (upd (upd (upd (upd (fun _ => 0) (0 : Int32).toNatClampNeg 31599) (1 : Int32).toNatClampNeg 11415) (2 : Int32).toNatClampNeg 29671) (3 : Int32).toNatClampNeg 29647) (4 : Int32).toNatClampNeg 23497) (5 : Int32).toNatClampNeg 31183) (6 : Int32).toNatClampNeg 31215) (7 : Int32).toNatClampNeg 29257) (8 : Int32).toNatClampNeg 31727) (9 : Int32).toNatClampNeg 31695)))] := hD
  have hq : ∀ (i j : Nat), i ≠ j → ∀ (x y : Nat × va_E), ([(g0, .inr (5, [.int 0, .long sd.toInt64, .long 0, .int 0, .int 0, .int 0, .int 0, .ref a1, .ref a2, .ref a3])), (a1, .inl (D.1 7, 100, .inl (fun _ => 0))), (a2, .inl (D.1 8, 100, .inl (fun _ => 0))), (a3, .inl (D.1 7, 10, .inl (upd (upd (upd (upd (upd (upd (upd (upd (upd (upd (fun _ => 0) (0 : Int32).toNatClampNeg 31599) (1 : Int32).toNatClampNeg 11415) (2 : Int32).toNatClampNeg 29671) (3 : Int32).toNatClampNeg 29647) (4 : Int32).toNatClampNeg 23497) (5 : Int32).toNatClampNeg 31183) (6 : Int32).toNatClampNeg 31215) (7 : Int32).toNatClampNeg 29257) (8 : Int32).toNatClampNeg 31727) (9 : Int32).toNatClampNeg 31695)))] : va_W)[i]? = some x → ([(g0, .inr (5, [.int 0, .long sd.toInt64, .long 0, .int 0, .int 0, .int 0, .int 0, .ref a1, .ref a2, .ref a3])), (a1, .inl (D.1 7, 100, .inl (fun _ => 0))), (a2, .inl (D.1 8, 100, .inl (fun _ => 0))), (a3, .inl (D.1 7, 10, .inl (upd (upd (upd (upd (upd (upd (upd (upd (upd (upd (fun _ => 0) (0 : Int32).toNatClampNeg 31599) (1 : Int32).toNatClampNeg 11415) (2 : Int32).toNatClampNeg 29671) (3 : Int32).toNatClampNeg 29647) (4 : Int32).toNatClampNeg 23497) (5 : Int32).toNatClampNeg 31183) (6 : Int32).toNatClampNeg 31215) (7 : Int32).toNatClampNeg 29257) (8 : Int32).toNatClampNeg 31727) (9 : Int32).toNatClampNeg 31695)))] : va_W)[j]? = some y → x.1 ≠ y.1 := fun i j hij x y h1 h2 e9 => hij (hD.1 i j x y h1 h2 e9)
  have hge : ∀ (i : Nat) (x : Nat × va_E), i ≠ 0 → ([(g0, .inr (5, [.int 0, .long sd.toInt64, .long 0, .int 0, .int 0, .int 0, .int 0, .ref a1, .ref a2, .ref a3])), (a1, .inl (D.1 7, 100, .inl (fun _ => 0))), (a2, .inl (D.1 8, 100, .inl (fun _ => 0))), (a3, .inl (D.1 7, 10, .inl (upd (upd (upd (upd (upd (upd (upd (upd (upd (upd (fun _ => 0) (0 : Int32).toNatClampNeg 31599) (1 : Int32).toNatClampNeg 11415) (2 : Int32).toNatClampNeg 29671) (3 : Int32).toNatClampNeg 29647) (4 : Int32).toNatClampNeg 23497) (5 : Int32).toNatClampNeg 31183) (6 : Int32).toNatClampNeg 31215) (7 : Int32).toNatClampNeg 29257) (8 : Int32).toNatClampNeg 31727) (9 : Int32).toNatClampNeg 31695)))] : va_W)[i]? = some x → sz ≤ x.1 := fun i x h1 h2 => (hD.2 i x h2).resolve_left (hq i 0 h1 x _ h2 rfl)
  exact f_v hx hb hr hlocks hS ⟨rfl, a1, a2, a3, _, ⟨hq 0 1 (by decide) _ _ rfl rfl, hq 0 2 (by decide) _ _ rfl rfl, hq 0 3 (by decide) _ _ rfl rfl, hq 1 2 (by decide) _ _ rfl rfl, hq 1 3 (by decide) _ _ rfl rfl, hq 2 3 (by decide) _ _ rfl rfl⟩, hge 1 _ (by decide) rfl, hge 2 _ (by decide) rfl, hge 3 _ (by decide) rfl, (by intro j hj; rcases (show j = 0 ∨ j = 1 ∨ j = 2 ∨ j = 3 ∨ j = 4 ∨ j = 5 ∨ j = 6 ∨ j = 7 ∨ j = 8 ∨ j = 9 by omega) with rfl | rfl | rfl | rfl | rfl | rfl | rfl | rfl | rfl | rfl <;> decide +kernel), hP⟩ d_MO_init_128
theorem d_LW_cell_0 : decode b_LW_cell 0 = .ok (.iload_n 1, 1) := by decide +kernel
theorem d_LW_cell_1 : decode b_LW_cell 1 = .ok (.aload_n 0, 1) := by decide +kernel
theorem d_LW_cell_2 : decode b_LW_cell 2 = .ok (.arraylength, 1) := by decide +kernel
theorem d_LW_cell_3 : decode b_LW_cell 3 = .ok (.if_icmp .ge 9, 3) := by decide +kernel
theorem d_LW_cell_6 : decode b_LW_cell 6 = .ok (.aload_n 0, 1) := by decide +kernel
theorem d_LW_cell_7 : decode b_LW_cell 7 = .ok (.iload_n 1, 1) := by decide +kernel
theorem d_LW_cell_8 : decode b_LW_cell 8 = .ok (.iaload, 1) := by decide +kernel
theorem d_LW_cell_9 : decode b_LW_cell 9 = .ok (.goto 4, 3) := by decide +kernel
theorem d_LW_cell_12 : decode b_LW_cell 12 = .ok (.iconst 0, 1) := by decide +kernel
theorem d_LW_cell_13 : decode b_LW_cell 13 = .ok (.ireturn, 1) := by decide +kernel
abbrev rm_LW_cell : Room := { frames := 0, cells := 0, slots := 0, locals := 0 }
set_option maxHeartbeats 4000000 in
set_option maxRecDepth 100000 in
theorem c_LW_cell (l : Launch) (b L : Nat) (xs : Nat → Int32) (hL : L < 2 ^ 31) : Met l y_LW_cell (Cond.code y_LW_cell b_LW_cell 2 (some .int) :: gw) rm_LW_cell (va_Pc [.ref b, .int 0] (fun U => b < U.heap.size ∧ va_X b L xs U U.heap)) (mV (fun _ => False) (fun v _ => v = some (.int (if 0 < L then xs 0 else 0)))) 0 0 (fun _ => False) := by
  refine mt_B (by decide) (Nat.le_of_ble_eq_true rfl) ?_
  intro p e s m below meth c ls ⟨hx, hb, hr, hlocks, hin, hml, hown, hg⟩ ⟨hbl, hX⟩ hl
  have hS : va_S (fun _ => False) s.heap s.heap [] := va_S.rf
  have hl : lv_has ls 2 [(0, .ref b), (1, .int 0)] := hl
  refine lv_iload_n hx hb d_LW_cell_0 rfl (lv_at hl 1 rfl) ?_
  refine lv_aload_n hx hb d_LW_cell_1 rfl (lv_at hl 0 rfl) ?_
  refine va_slen hx hb hX hbl (fun h => h) hS d_LW_cell_2 ?_
  refine lv_icmp_ge (tgt := 12) hx hb d_LW_cell_3 (by decide) (fun c1 => ?_) (fun c1 => ?_)
  · refine lv_iconst (v := 0) hx hb d_LW_cell_12 (by decide) ?_
    exact f_i hx hb hr hlocks hS (by rw [if_neg (fun h => absurd (show nI L ≤ nI 0 from c1) (nI_ge h hL))]) d_LW_cell_13
  · have h0 : 0 < L := Nat.pos_of_ne_zero (fun h => c1 (by rw [h]; exact Int32.le_refl _))
    refine lv_aload_n hx hb d_LW_cell_6 rfl (lv_at hl 0 rfl) ?_
    refine lv_iload_n hx hb d_LW_cell_7 rfl (lv_at hl 1 rfl) ?_
    refine va_sld hx hb hX hbl (fun h => h) hS (vp_in_nI (n := 0) h0 hL) d_LW_cell_8 ?_
    refine lv_goto (tgt := 13) hx hb d_LW_cell_9 (by decide) ?_
    exact f_i hx hb hr hlocks hS (by rw [if_pos h0]; rfl) d_LW_cell_13
end
section
/-! LISTS: ArrayList and what it calls (printed by gen/alist.py) -/
theorem d_AC_init_0 : decode b_AC_init 0 = .ok (.aload_n 0, 1) := by decide +kernel
theorem d_AC_init_1 : decode b_AC_init 1 = .ok (.invokespecial 1, 3) := by decide +kernel
theorem d_AC_init_4 : decode b_AC_init 4 = .ok (.return_, 1) := by decide +kernel
abbrev rm_AC_init : Room := { frames := 1, cells := 0, slots := 0, locals := 12 }
set_option maxHeartbeats 4000000 in
set_option maxRecDepth 100000 in
theorem c_AC_init (l : Launch) (D : va_G) (a : Nat) : Met l y_AC_init (Cond.code y_AC_init b_AC_init 1 none :: gw) rm_AC_init (cP D [.ref a] (fun _ => True)) (mV (fun _ => False) (fun v H => v = none)) 0 0 (fun _ => False) := by
  refine mt_B (by decide) (Nat.le_of_ble_eq_true rfl) ?_
  intro p e s m below meth c ls ⟨hx, hb, hr, hlocks, hin, hml, hown, hg⟩ ⟨hk, hp⟩ hl
  have hown : s.vm.findClass R_AC = some m.cls := hown
  have hS : va_S (fun _ => False) s.heap s.heap [] := va_S.rf
  have hl : lv_has ls 1 [(0, .ref a)] := hl
  refine lv_aload_n hx hb d_AC_init_0 rfl (lv_at hl 0 rfl) ?_
  refine o_I hx hb hml hown hg w_34 hl.1 d_AC_init_1 (Nat.le_of_ble_eq_true rfl) (Nat.le_of_ble_eq_true rfl) ?_
  exact f_v hx hb hr hlocks hS rfl d_AC_init_4
theorem d_AB_init_0 : decode b_AB_init 0 = .ok (.aload_n 0, 1) := by decide +kernel
theorem d_AB_init_1 : decode b_AB_init 1 = .ok (.invokespecial 1, 3) := by decide +kernel
theorem d_AB_init_4 : decode b_AB_init 4 = .ok (.aload_n 0, 1) := by decide +kernel
theorem d_AB_init_5 : decode b_AB_init 5 = .ok (.iconst 0, 1) := by decide +kernel
theorem d_AB_init_6 : decode b_AB_init 6 = .ok (.putfield 7, 3) := by decide +kernel
theorem d_AB_init_9 : decode b_AB_init 9 = .ok (.return_, 1) := by decide +kernel
abbrev rm_AB_init : Room := { frames := 2, cells := 0, slots := 0, locals := 32 }
set_option maxHeartbeats 4000000 in
set_option maxRecDepth 100000 in
theorem c_AB_init (l : Launch) (D : va_G) (a : Nat) (f0 f1 f2 : Value) : Met l y_AB_init (Cond.code y_AB_init b_AB_init 1 none :: gw) rm_AB_init (cP D [.ref a] (fun H => ob D 4 a [f0, f1, f2] H)) (mV (fun q => q = a) (fun v H => v = none ∧ ob D 4 a [f0, f1, .int 0] H)) 0 0 (fun q => q = a) := by
  refine mt_B (by decide) (Nat.le_of_ble_eq_true rfl) ?_
  intro p e s m below meth c ls ⟨hx, hb, hr, hlocks, hin, hml, hown, hg⟩ ⟨hk, hp⟩ hl
  have hown : s.vm.findClass R_AB = some m.cls := hown
  have hS : va_S (fun q => q = a) s.heap s.heap [] := va_S.rf
  have hl : lv_has ls 1 [(0, .ref a)] := hl
  refine lv_aload_n hx hb d_AB_init_0 rfl (lv_at hl 0 rfl) ?_
  refine m_I hx hb hml hown hg a [] [] (c_AC_init l D a) z_AC_init w_31 w_32 rfl (pre_P hk trivial) d_AB_init_1 rfl rfl ⟨Nat.le_of_ble_eq_true rfl, Nat.le_of_ble_eq_true rfl⟩ rfl hl.1 rfl (Nat.le_of_ble_eq_true rfl) ⟨Nat.le_of_ble_eq_true rfl, Nat.le_of_ble_eq_true rfl⟩ hS (fun q h => h.elim) (fun v H locs hp1 hz1 hk1 hS => ?_)
  subst hp1
  have ho : ob D 4 a [f0, f1, f2] H := va_at.kept hp (hk1 a (ob_lt hp) (fun h => h))
  show W p l e rm_AB_init s m _ below meth c H locs 0 0 _ (F0 m 4 ls [])
  refine lv_aload_n hx hb d_AB_init_4 rfl (lv_at hl 0 rfl) ?_
  refine lv_iconst (v := 0) hx hb d_AB_init_5 (by decide) ?_
  refine x_put hx hb hg hown hk ho hS rfl rfl i_AL T_AL k_AL n_AL 2 (by decide) w_39 (fun _ h => h) rfl (by decide +kernel) (ty := .int) rfl rfl (Nat.le_of_ble_eq_true rfl) d_AB_init_6 (fun H locs ho hz1 ho1 hS => ?_)
  exact f_v hx hb hr hlocks hS ⟨rfl, ho⟩ d_AB_init_9
theorem d_AL_init_0 : decode b_AL_init 0 = .ok (.aload_n 0, 1) := by decide +kernel
theorem d_AL_init_1 : decode b_AL_init 1 = .ok (.invokespecial 1, 3) := by decide +kernel
theorem d_AL_init_4 : decode b_AL_init 4 = .ok (.aload_n 0, 1) := by decide +kernel
theorem d_AL_init_5 : decode b_AL_init 5 = .ok (.getstatic 39, 3) := by decide +kernel
theorem d_AL_init_8 : decode b_AL_init 8 = .ok (.putfield 9, 3) := by decide +kernel
theorem d_AL_init_11 : decode b_AL_init 11 = .ok (.return_, 1) := by decide +kernel
abbrev rm_AL_init : Room := { frames := 3, cells := 0, slots := 0, locals := 52 }
set_option maxHeartbeats 4000000 in
set_option maxRecDepth 100000 in
theorem c_AL_init (l : Launch) (D : va_G) (a t0 : Nat) : Met l y_AL_init (Cond.code y_AL_init b_AL_init 1 none :: gw) rm_AL_init (cZ D t0 (fun q => q = a) [.ref a] (fun H => ob D 4 a [.null, .int 0, .int 0] H)) (mV (fun q => q = a) (fun v H => v = none ∧ ob D 4 a [.ref t0, .int 0, .int 0] H)) 0 0 (fun q => q = a) := by
  refine mt_B (by decide) (Nat.le_of_ble_eq_true rfl) ?_
  intro p e s m below meth c ls ⟨hx, hb, hr, hlocks, hin, hml, hown, hg⟩ ⟨hk, hz, hp⟩ hl
  have hown : s.vm.findClass R_AL = some m.cls := hown
  have hS : va_S (fun q => q = a) s.heap s.heap [] := va_S.rf
  have hl : lv_has ls 1 [(0, .ref a)] := hl
  refine lv_aload_n hx hb d_AL_init_0 rfl (lv_at hl 0 rfl) ?_
  refine m_I hx hb hml hown hg a [] [] (c_AB_init l D a .null (.int 0) (.int 0)) z_AB_init w_28 w_29 rfl (pre_P hk hp) d_AL_init_1 rfl rfl ⟨Nat.le_of_ble_eq_true rfl, Nat.le_of_ble_eq_true rfl⟩ rfl hl.1 rfl (Nat.le_of_ble_eq_true rfl) ⟨Nat.le_of_ble_eq_true rfl, Nat.le_of_ble_eq_true rfl⟩ hS (fun q h => h) (fun v H locs hp1 hz1 hk1 hS => ?_)
  obtain ⟨rfl, ho⟩ := hp1
  show W p l e rm_AL_init s m _ below meth c H locs 0 0 _ (F0 m 4 ls [])
  refine lv_aload_n hx hb d_AL_init_4 rfl (lv_at hl 0 rfl) ?_
  refine va_gets hx hb hz.1 hS hown (hg _ w_35) (fun _ h => h) d_AL_init_5 ?_
  refine x_put hx hb hg hown hk ho hS rfl rfl i_AL T_AL k_AL n_AL 0 (by decide) w_37 (fun _ h => h) rfl (by decide +kernel) (ty := T_AL 0) rfl rfl (Nat.le_of_ble_eq_true rfl) d_AL_init_8 (fun H locs ho hz1 ho1 hS => ?_)
  exact f_v hx hb hr hlocks hS ⟨rfl, ho⟩ d_AL_init_11
theorem d_AR_copyOf2_0 : decode b_AR_copyOf2 0 = .ok (.aload_n 2, 1) := by decide +kernel
theorem d_AR_copyOf2_1 : decode b_AR_copyOf2 1 = .ok (.ldc 110, 2) := by decide +kernel
theorem d_AR_copyOf2_3 : decode b_AR_copyOf2 3 = .ok (.if_acmp .ne 10, 3) := by decide +kernel
theorem d_AR_copyOf2_6 : decode b_AR_copyOf2 6 = .ok (.iload_n 1, 1) := by decide +kernel
theorem d_AR_copyOf2_7 : decode b_AR_copyOf2 7 = .ok (.anewarray 2, 3) := by decide +kernel
theorem d_AR_copyOf2_10 : decode b_AR_copyOf2 10 = .ok (.goto 14, 3) := by decide +kernel
theorem d_AR_copyOf2_13 : decode b_AR_copyOf2 13 = .ok (.aload_n 2, 1) := by decide +kernel
theorem d_AR_copyOf2_14 : decode b_AR_copyOf2 14 = .ok (.invokevirtual 90, 3) := by decide +kernel
theorem d_AR_copyOf2_17 : decode b_AR_copyOf2 17 = .ok (.iload_n 1, 1) := by decide +kernel
theorem d_AR_copyOf2_18 : decode b_AR_copyOf2 18 = .ok (.invokestatic 95, 3) := by decide +kernel
theorem d_AR_copyOf2_21 : decode b_AR_copyOf2 21 = .ok (.checkcast 110, 3) := by decide +kernel
theorem d_AR_copyOf2_24 : decode b_AR_copyOf2 24 = .ok (.astore_n 3, 1) := by decide +kernel
theorem d_AR_copyOf2_25 : decode b_AR_copyOf2 25 = .ok (.aload_n 0, 1) := by decide +kernel
theorem d_AR_copyOf2_26 : decode b_AR_copyOf2 26 = .ok (.iconst 0, 1) := by decide +kernel
theorem d_AR_copyOf2_27 : decode b_AR_copyOf2 27 = .ok (.aload_n 3, 1) := by decide +kernel
theorem d_AR_copyOf2_28 : decode b_AR_copyOf2 28 = .ok (.iconst 0, 1) := by decide +kernel
theorem d_AR_copyOf2_29 : decode b_AR_copyOf2 29 = .ok (.aload_n 0, 1) := by decide +kernel
theorem d_AR_copyOf2_30 : decode b_AR_copyOf2 30 = .ok (.arraylength, 1) := by decide +kernel
theorem d_AR_copyOf2_31 : decode b_AR_copyOf2 31 = .ok (.iload_n 1, 1) := by decide +kernel
theorem d_AR_copyOf2_32 : decode b_AR_copyOf2 32 = .ok (.invokestatic 304, 3) := by decide +kernel
theorem d_AR_copyOf2_35 : decode b_AR_copyOf2 35 = .ok (.invokestatic 150, 3) := by decide +kernel
theorem d_AR_copyOf2_38 : decode b_AR_copyOf2 38 = .ok (.aload_n 3, 1) := by decide +kernel
theorem d_AR_copyOf2_39 : decode b_AR_copyOf2 39 = .ok (.areturn, 1) := by decide +kernel
abbrev rm_AR_copyOf2 : Room := { frames := 1, cells := 1, slots := 150, locals := 60 }
set_option maxHeartbeats 4000000 in
set_option maxRecDepth 100000 in
theorem c_AR_copyOf2 (l : Launch) (D : va_G) (src mi n nl sz : Nat) (f : Nat → Option Nat) (hn : n ≤ nl) (hnl : nl ≤ 150) : Met l y_AR_copyOf2 (Cond.code y_AR_copyOf2 b_AR_copyOf2 4 (some (.array (.object "java/lang/Object"))) :: gw) rm_AR_copyOf2 (cM D mi [.ref src, .int (nI nl), .ref mi] (fun H => H.size = sz ∧ aq D src n f H ∧ ∀ i, i < n → ∀ y, f i = some y → el_ok D H y)) (mV (fun q => q = src ∨ sz ≤ q) (fun v H => ∃ q, v = some (.ref q) ∧ sz ≤ q ∧ ∃ f2 : Nat → Option Nat, aq D q nl f2 H ∧ ∀ i, i < n → f2 i = f i)) 1 150 (fun q => q = src ∨ sz ≤ q) := by
  refine mt_B (by decide) (Nat.le_of_ble_eq_true rfl) ?_
  intro p e s m below meth c ls ⟨hx, hb, hr, hlocks, hin, hml, hown, hg⟩ ⟨hk, hM, hsz, hp, hel⟩ hl
  have hown : s.vm.findClass R_AR = some m.cls := hown
  have hS : va_S (fun q => q = src ∨ sz ≤ q) s.heap s.heap [] := va_S.rf
  have hl : lv_has ls 4 [(0, .ref src), (1, .int (nI nl)), (2, .ref mi)] := hl
  have hA : ∀ q : Nat, s.heap.size ≤ q → (fun q => q = src ∨ sz ≤ q) q := fun q h => Or.inr (by omega)
  have hD : va_D (fun q => q = src ∨ sz ≤ q) [(src, .inl (D.1 6, n, .inr (.inr (.inr (.inr f)))))] := dd_1 (Or.inl rfl)
  refine lv_aload_n hx hb d_AR_copyOf2_0 rfl (lv_at hl 2 rfl) ?_
  refine va_ldcM hx hb hown (hg _ w_149) hM d_AR_copyOf2_1 ?_
  refine lv_acmp_ne (rx := some mi) (ry := some mi) (tgt := 13) hx hb d_AR_copyOf2_3 (by decide) (fun h => absurd rfl h) (fun _ => ?_)
  refine lv_iload_n hx hb d_AR_copyOf2_6 rfl (lv_at hl 1 rfl) ?_
  refine va_newq hx hb hown (hg _ w_151) hk.2.2.2.1 hk.1 (p_1 hp) hD hS hA (nI_pos (by omega)) (nI_clamp (by omega)) (by omega) (Nat.le_of_ble_eq_true rfl) (by show 0 + nl ≤ 150; omega) d_AR_copyOf2_7 (fun q cA H hK2 hP hD hS => ?_)
  obtain rfl := aq_cls (k := 3) hk hK2 rfl
  have hP : va_P D classes [(src, .inl (D.1 6, n, .inr (.inr (.inr (.inr f))))), (q, .inl (D.1 6, nl, .inr (.inr (.inr (.inr (fun _ => none))))))] H := hP
  have hD : va_D (fun q => q = src ∨ sz ≤ q) [(src, .inl (D.1 6, n, .inr (.inr (.inr (.inr f))))), (q, .inl (D.1 6, nl, .inr (.inr (.inr (.inr (fun _ => none))))))] := hD
  refine W.widen (k := 1) (n := 150) (Nat.le_of_ble_eq_true rfl) (by omega) ?_
  have hqs : sz ≤ q := (hD.2 1 _ rfl).resolve_left (fun e9 => absurd (hD.1 1 0 _ _ rfl rfl e9) (by decide))
  have hel : ∀ i, i < n → ∀ y, f i = some y → el_ok D H y := fun i hi y hy => el_kept (hel i hi y hy) (hS.2.1 y (by have := el_lt (hel i hi y hy); omega) (fun h => by rcases h with h | h; exact el_ne hk (hel i hi y hy) (kd_aq hp) (by decide) (by decide) (by decide) h; have := el_lt (hel i hi y hy); omega))
  refine lv_goto (tgt := 24) hx hb d_AR_copyOf2_10 (by decide) ?_
  refine lv_astore_n (lv' := [(3, .ref q), (0, .ref src), (1, .int (nI nl)), (2, .ref mi)]) hx hb d_AR_copyOf2_24 rfl hl (by decide) rfl (fun ls hl => ?_)
  refine lv_aload_n hx hb d_AR_copyOf2_25 rfl (lv_at hl 1 rfl) ?_
  refine lv_iconst (v := 0) hx hb d_AR_copyOf2_26 (by decide) ?_
  refine lv_aload_n hx hb d_AR_copyOf2_27 rfl (lv_at hl 0 rfl) ?_
  refine lv_iconst (v := 0) hx hb d_AR_copyOf2_28 (by decide) ?_
  refine lv_aload_n hx hb d_AR_copyOf2_29 rfl (lv_at hl 1 rfl) ?_
  refine va_alen hx hb hk.1 hP 0 0 rfl rfl (v := nI n) rfl d_AR_copyOf2_30 ?_
  refine lv_iload_n hx hb d_AR_copyOf2_31 rfl (lv_at hl 2 rfl) ?_
  refine va_mmin hx hb (hml.trans hl.1.symm) hown (hg _ w_152) (hg _ w_153) (hg _ w_9) (hg _ w_154) (Nat.le_of_ble_eq_true rfl) (Nat.le_of_ble_eq_true rfl) (Nat.le_of_ble_eq_true rfl) (Nat.le_of_ble_eq_true rfl) d_AR_copyOf2_32 ?_
  rw [if_neg (nI_nlt hn (by omega))]
  refine va_copyM hx hb (hml.trans hl.1.symm) hown (hg _ w_155) (hg _ w_157) (hg _ w_156) (hg _ w_11) hk.1 hP hD hS 0 1 0 0 rfl rfl rfl rfl (by decide) (by decide) (nI_pos (by omega)) (by rw [nI_clamp (by omega)]; show 0 + n ≤ n; omega) (by rw [nI_clamp (by omega)]; show 0 + n ≤ nl; omega) (fun i hi y hy => el_any hk (hel i (by rw [nI_clamp (by omega)] at hi; exact hi) y (by rw [← hy]; exact congrArg f (Nat.zero_add i).symm))) (Nat.le_of_ble_eq_true rfl) (Nat.le_of_ble_eq_true rfl) d_AR_copyOf2_35 (fun H locs hP hD hS => ?_)
  refine lv_aload_n hx hb d_AR_copyOf2_38 rfl (lv_at hl 0 rfl) ?_
  exact f_r hx hb hr (Or.inr ⟨_, rfl⟩) hlocks hS ⟨q, rfl, hqs, _, hP 1 _ rfl, fun i hi => by rw [nI_clamp (by omega), sb_cl0, pk_cpy_in (Nat.zero_le _) (by omega)]; exact congrArg f (by omega)⟩ d_AR_copyOf2_39
theorem d_AR_copyOf_0 : decode b_AR_copyOf 0 = .ok (.aload_n 0, 1) := by decide +kernel
theorem d_AR_copyOf_1 : decode b_AR_copyOf 1 = .ok (.iload_n 1, 1) := by decide +kernel
theorem d_AR_copyOf_2 : decode b_AR_copyOf 2 = .ok (.aload_n 0, 1) := by decide +kernel
theorem d_AR_copyOf_3 : decode b_AR_copyOf 3 = .ok (.invokevirtual 86, 3) := by decide +kernel
theorem d_AR_copyOf_6 : decode b_AR_copyOf 6 = .ok (.invokestatic 300, 3) := by decide +kernel
theorem d_AR_copyOf_9 : decode b_AR_copyOf 9 = .ok (.areturn, 1) := by decide +kernel
abbrev rm_AR_copyOf : Room := { frames := 2, cells := 1, slots := 150, locals := 83 }
set_option maxHeartbeats 4000000 in
set_option maxRecDepth 100000 in
theorem c_AR_copyOf (l : Launch) (D : va_G) (src n nl sz : Nat) (f : Nat → Option Nat) (hn : n ≤ nl) (hnl : nl ≤ 150) : Met l y_AR_copyOf (Cond.code y_AR_copyOf b_AR_copyOf 2 (some (.array (.object "java/lang/Object"))) :: gw) rm_AR_copyOf (cP D [.ref src, .int (nI nl)] (fun H => H.size = sz ∧ aq D src n f H ∧ ∀ i, i < n → ∀ y, f i = some y → el_ok D H y)) (mV (fun q => q = src ∨ sz ≤ q) (fun v H => ∃ q, v = some (.ref q) ∧ sz ≤ q ∧ ∃ f2 : Nat → Option Nat, aq D q nl f2 H ∧ ∀ i, i < n → f2 i = f i)) 1 150 (fun q => q = src ∨ sz ≤ q) := by
  refine mt_B (by decide) (Nat.le_of_ble_eq_true rfl) ?_
  intro p e s m below meth c ls ⟨hx, hb, hr, hlocks, hin, hml, hown, hg⟩ ⟨hk, hp⟩ hl
  have hown : s.vm.findClass R_AR = some m.cls := hown
  have hS : va_S (fun q => q = src ∨ sz ≤ q) s.heap s.heap [] := va_S.rf
  have hl : lv_has ls 2 [(0, .ref src), (1, .int (nI nl))] := hl
  obtain ⟨mi, hM⟩ := hk.2.2.2.2
  refine lv_aload_n hx hb d_AR_copyOf_0 rfl (lv_at hl 0 rfl) ?_
  refine lv_iload_n hx hb d_AR_copyOf_1 rfl (lv_at hl 1 rfl) ?_
  refine lv_aload_n hx hb d_AR_copyOf_2 rfl (lv_at hl 0 rfl) ?_
  refine va_getC hx hb (hml.trans hl.1.symm) hown (hg _ w_136) (hk.n 14 rfl _) (hg _ w_421) (hg _ w_137) (hg _ w_145) hM (aq_recv hk hp.2.1) (Nat.le_of_ble_eq_true rfl) (Nat.le_of_ble_eq_true rfl) d_AR_copyOf_3 ?_
  refine m_S hx hb hml hown hg [.ref src, .int (nI nl), .ref mi] [] (c_AR_copyOf2 l D src mi n nl sz f hn hnl) z_AR_copyOf2 w_146 w_147 (pre_M hk hM hp) d_AR_copyOf_6 rfl rfl ⟨Nat.le_of_ble_eq_true rfl, Nat.le_of_ble_eq_true rfl⟩ rfl hl.1 rfl (Nat.le_of_ble_eq_true rfl) ⟨Nat.le_of_ble_eq_true rfl, Nat.le_of_ble_eq_true rfl⟩ hS (fun q h => h) (fun v H locs hp1 hz1 hk1 hS => ?_)
  obtain ⟨q, rfl, hq⟩ := hp1
  exact f_r hx hb hr (Or.inr ⟨_, rfl⟩) hlocks hS ⟨q, rfl, hq⟩ d_AR_copyOf_9
theorem d_AL_grow2_0 : decode b_AL_grow2 0 = .ok (.aload_n 0, 1) := by decide +kernel
theorem d_AL_grow2_1 : decode b_AL_grow2 1 = .ok (.getfield 9, 3) := by decide +kernel
theorem d_AL_grow2_4 : decode b_AL_grow2 4 = .ok (.arraylength, 1) := by decide +kernel
theorem d_AL_grow2_5 : decode b_AL_grow2 5 = .ok (.istore_n 2, 1) := by decide +kernel
theorem d_AL_grow2_6 : decode b_AL_grow2 6 = .ok (.iload_n 2, 1) := by decide +kernel
theorem d_AL_grow2_7 : decode b_AL_grow2 7 = .ok (.ifCond .gt 13, 3) := by decide +kernel
theorem d_AL_grow2_10 : decode b_AL_grow2 10 = .ok (.aload_n 0, 1) := by decide +kernel
theorem d_AL_grow2_11 : decode b_AL_grow2 11 = .ok (.getfield 9, 3) := by decide +kernel
theorem d_AL_grow2_14 : decode b_AL_grow2 14 = .ok (.getstatic 39, 3) := by decide +kernel
theorem d_AL_grow2_17 : decode b_AL_grow2 17 = .ok (.if_acmp .eq 28, 3) := by decide +kernel
theorem d_AL_grow2_20 : decode b_AL_grow2 20 = .ok (.iload_n 2, 1) := by decide +kernel
theorem d_AL_grow2_21 : decode b_AL_grow2 21 = .ok (.iload_n 1, 1) := by decide +kernel
theorem d_AL_grow2_22 : decode b_AL_grow2 22 = .ok (.iload_n 2, 1) := by decide +kernel
theorem d_AL_grow2_23 : decode b_AL_grow2 23 = .ok (.isub, 1) := by decide +kernel
theorem d_AL_grow2_24 : decode b_AL_grow2 24 = .ok (.iload_n 2, 1) := by decide +kernel
theorem d_AL_grow2_25 : decode b_AL_grow2 25 = .ok (.iconst 1, 1) := by decide +kernel
theorem d_AL_grow2_26 : decode b_AL_grow2 26 = .ok (.ishr, 1) := by decide +kernel
theorem d_AL_grow2_27 : decode b_AL_grow2 27 = .ok (.invokestatic 73, 3) := by decide +kernel
theorem d_AL_grow2_30 : decode b_AL_grow2 30 = .ok (.istore_n 3, 1) := by decide +kernel
theorem d_AL_grow2_31 : decode b_AL_grow2 31 = .ok (.aload_n 0, 1) := by decide +kernel
theorem d_AL_grow2_32 : decode b_AL_grow2 32 = .ok (.aload_n 0, 1) := by decide +kernel
theorem d_AL_grow2_33 : decode b_AL_grow2 33 = .ok (.getfield 9, 3) := by decide +kernel
theorem d_AL_grow2_36 : decode b_AL_grow2 36 = .ok (.iload_n 3, 1) := by decide +kernel
theorem d_AL_grow2_37 : decode b_AL_grow2 37 = .ok (.invokestatic 66, 3) := by decide +kernel
theorem d_AL_grow2_40 : decode b_AL_grow2 40 = .ok (.dup_x1, 1) := by decide +kernel
theorem d_AL_grow2_41 : decode b_AL_grow2 41 = .ok (.putfield 9, 3) := by decide +kernel
theorem d_AL_grow2_44 : decode b_AL_grow2 44 = .ok (.areturn, 1) := by decide +kernel
theorem d_AL_grow2_45 : decode b_AL_grow2 45 = .ok (.aload_n 0, 1) := by decide +kernel
theorem d_AL_grow2_46 : decode b_AL_grow2 46 = .ok (.bipush 10, 2) := by decide +kernel
theorem d_AL_grow2_48 : decode b_AL_grow2 48 = .ok (.iload_n 1, 1) := by decide +kernel
theorem d_AL_grow2_49 : decode b_AL_grow2 49 = .ok (.invokestatic 79, 3) := by decide +kernel
theorem d_AL_grow2_52 : decode b_AL_grow2 52 = .ok (.anewarray 7, 3) := by decide +kernel
theorem d_AL_grow2_55 : decode b_AL_grow2 55 = .ok (.dup_x1, 1) := by decide +kernel
theorem d_AL_grow2_56 : decode b_AL_grow2 56 = .ok (.putfield 9, 3) := by decide +kernel
theorem d_AL_grow2_59 : decode b_AL_grow2 59 = .ok (.areturn, 1) := by decide +kernel
abbrev rm_AL_grow2 : Room := { frames := 3, cells := 1, slots := 150, locals := 110 }
set_option maxHeartbeats 4000000 in
set_option maxRecDepth 100000 in
theorem c_AL_grow2 (l : Launch) (D : va_G) (a arr t0 n sz : Nat) (mc : Int32) (el : Nat → Nat) (hn : n < 100) : Met l y_AL_grow2 (Cond.code y_AL_grow2 b_AL_grow2 4 (some (.array (.object "java/lang/Object"))) :: gw) rm_AL_grow2 (cZ D t0 (alA a arr t0 sz) [.ref a, .int (nI (n + 1))] (fun H => H.size = sz ∧ ob D 4 a [.ref arr, .int (nI n), .int mc] H ∧ ((arr = t0 ∧ n = 0) ∨ (¬ arr = t0 ∧ 1 ≤ n ∧ ∃ f, aq D arr n f H ∧ ∀ i, i < n → f i = some (el i))) ∧ ∀ i, i < n → el_ok D H (el i))) (mV (alA a arr t0 sz) (fun v H => ∃ q, v = some (.ref q) ∧ sz ≤ q ∧ ob D 4 a [.ref q, .int (nI n), .int mc] H ∧ ∃ (cap : Nat) (f2 : Nat → Option Nat), aq D q cap f2 H ∧ n < cap ∧ cap ≤ 150 ∧ ∀ i, i < n → f2 i = some (el i))) 1 150 (alA a arr t0 sz) := by
  refine mt_B (by decide) (Nat.le_of_ble_eq_true rfl) ?_
  intro p e s m below meth c ls ⟨hx, hb, hr, hlocks, hin, hml, hown, hg⟩ ⟨hk, hz, hp⟩ hl
  have hown : s.vm.findClass R_AL = some m.cls := hown
  have hS : va_S (alA a arr t0 sz) s.heap s.heap [] := va_S.rf
  have hl : lv_has ls 4 [(0, .ref a), (1, .int (nI (n + 1)))] := hl
  obtain ⟨hsz, ho, hcase, hel⟩ := hp
  have hA : ∀ q : Nat, s.heap.size ≤ q → (alA a arr t0 sz) q := fun q h => Or.inr (Or.inr (by omega))
  rcases hcase with ⟨rfl, rfl⟩ | ⟨hne, hn1, f, haq, hf⟩
  · refine lv_aload_n hx hb d_AL_grow2_0 rfl (lv_at hl 0 rfl) ?_
    refine x_get hx hb hg hown hk ho rfl i_AL 0 (by decide) w_37 rfl d_AL_grow2_1 ?_
    refine va_tlen hx hb hz.2 hS (v := 0) rfl d_AL_grow2_4 ?_
    refine lv_istore_n (lv' := [(2, .int 0), (0, .ref a), (1, .int (nI (0 + 1)))]) hx hb d_AL_grow2_5 rfl hl (by decide) rfl (fun ls hl => ?_)
    refine lv_iload_n hx hb d_AL_grow2_6 rfl (lv_at hl 0 rfl) ?_
    refine lv_if_gt (tgt := 20) hx hb d_AL_grow2_7 (by decide) (fun h => absurd h (by decide)) (fun _ => ?_)
    refine lv_aload_n hx hb d_AL_grow2_10 rfl (lv_at hl 1 rfl) ?_
    refine x_get hx hb hg hown hk ho rfl i_AL 0 (by decide) w_37 rfl d_AL_grow2_11 ?_
    refine va_gets hx hb hz.1 hS hown (hg _ w_35) (fun _ h => h) d_AL_grow2_14 ?_
    refine lv_acmp_eq (rx := some arr) (ry := some arr) (tgt := 45) hx hb d_AL_grow2_17 (by decide) (fun _ => ?_) (fun h => absurd rfl h)
    refine lv_aload_n hx hb d_AL_grow2_45 rfl (lv_at hl 1 rfl) ?_
    refine lv_bipush (v := 10) hx hb d_AL_grow2_46 (by decide) ?_
    refine lv_iload_n hx hb d_AL_grow2_48 rfl (lv_at hl 2 rfl) ?_
    refine va_mmax hx hb (hml.trans hl.1.symm) hown (hg _ w_158) (hg _ w_127) (hg _ w_9) (hg _ w_128) (Nat.le_of_ble_eq_true rfl) (Nat.le_of_ble_eq_true rfl) (Nat.le_of_ble_eq_true rfl) (Nat.le_of_ble_eq_true rfl) d_AL_grow2_49 ?_
    rw [if_neg (show ¬ (10 : Int32) < nI (0 + 1) by decide)]
    refine va_newq (N' := 10) hx hb hown (hg _ w_159) hk.2.2.2.1 hk.1 (p_1 ho) (dd_1 (Or.inl rfl)) hS hA (by decide) (by decide) (by decide) (Nat.le_of_ble_eq_true rfl) (Nat.le_of_ble_eq_true rfl) d_AL_grow2_52 (fun q cA H hK2 hP hD hS => ?_)
    obtain rfl := aq_cls (k := 3) hk hK2 rfl
    have hP : va_P D classes [(a, .inr (4, [.ref arr, .int (nI 0), .int mc])), (q, .inl (D.1 6, 10, .inr (.inr (.inr (.inr (fun _ => none))))))] H := hP
    have hD : va_D (alA a arr arr sz) [(a, .inr (4, [.ref arr, .int (nI 0), .int mc])), (q, .inl (D.1 6, 10, .inr (.inr (.inr (.inr (fun _ => none))))))] := hD
    have hqs : sz ≤ q := ((hD.2 1 _ rfl).resolve_left (fun e9 => absurd (hD.1 1 0 _ _ rfl rfl e9) (by decide))).resolve_left (fun e9 => e9.2 rfl)
    refine W.widen (k := 1) (n := 150) (Nat.le_of_ble_eq_true rfl) (Nat.le_of_ble_eq_true rfl) ?_
    refine lv_dup_x1 hx hb d_AL_grow2_55 rfl rfl ?_
    refine va_put (D := D) (ci := 4) (v := .ref q) (ty := T_AL 0) (C := R_AL) (T := F_AL) (N := 3) hx hb hg i_AL T_AL k_AL n_AL hown hk.1 hP hD hS 0 rfl rfl 0 (by decide) (hg _ w_37) (fun _ h9 => h9) rfl (by decide +kernel) rfl rfl (Nat.le_of_ble_eq_true rfl) d_AL_grow2_56 (fun H locs hP hD hS => ?_)
    have hP : va_P D classes [(a, .inr (4, [.ref q, .int (nI 0), .int mc])), (q, .inl (D.1 6, 10, .inr (.inr (.inr (.inr (fun _ => none))))))] H := hP
    exact f_r hx hb hr (Or.inr ⟨_, rfl⟩) hlocks hS ⟨q, rfl, hqs, hP 0 _ rfl, 10, _, hP 1 _ rfl, by decide, by decide, fun i hi => absurd hi (Nat.not_lt_zero _)⟩ d_AL_grow2_59
  · refine lv_aload_n hx hb d_AL_grow2_0 rfl (lv_at hl 0 rfl) ?_
    refine x_get hx hb hg hown hk ho rfl i_AL 0 (by decide) w_37 rfl d_AL_grow2_1 ?_
    refine va_alen hx hb hk.1 (p_1 haq) 0 0 rfl rfl (v := nI n) rfl d_AL_grow2_4 ?_
    refine lv_istore_n (lv' := [(2, .int (nI n)), (0, .ref a), (1, .int (nI (n + 1)))]) hx hb d_AL_grow2_5 rfl hl (by decide) rfl (fun ls hl => ?_)
    refine lv_iload_n hx hb d_AL_grow2_6 rfl (lv_at hl 0 rfl) ?_
    refine lv_if_gt (tgt := 20) hx hb d_AL_grow2_7 (by decide) (fun c1 => ?_) (fun c1 => absurd (nI_lt (a := 0) hn1 (by omega)) c1)
    refine lv_iload_n hx hb d_AL_grow2_20 rfl (lv_at hl 0 rfl) ?_
    refine lv_iload_n hx hb d_AL_grow2_21 rfl (lv_at hl 2 rfl) ?_
    refine lv_iload_n hx hb d_AL_grow2_22 rfl (lv_at hl 0 rfl) ?_
    refine lv_isub hx hb d_AL_grow2_23 ?_
    rw [pk_sub (Nat.le_succ n), show n + 1 - n = 1 by omega]
    refine lv_iload_n hx hb d_AL_grow2_24 rfl (lv_at hl 0 rfl) ?_
    refine lv_iconst (v := 1) hx hb d_AL_grow2_25 (by decide) ?_
    refine lv_ishr hx hb d_AL_grow2_26 ?_
    rw [show nI n >>> ((1 : Int32) &&& 31) = nI (n / 2) from pk_shrN (by omega) _ 1 (by decide)]
    refine k_S hx hb hml hown hg hk [.int (nI n), .int (nI 1), .int (nI (n / 2))] [] (c_AS_newLength l D n 1 (n / 2) (by omega) (by omega)) z_AS_newLength w_123 w_124 (trivial) d_AL_grow2_27 rfl rfl ⟨Nat.le_of_ble_eq_true rfl, Nat.le_of_ble_eq_true rfl⟩ rfl hl.1 rfl (Nat.le_of_ble_eq_true rfl) ⟨Nat.zero_le _, Nat.zero_le _⟩ ?_
    have hnl : n + max 1 (n / 2) ≤ 150 := by omega
    have hnl2 : n < n + max 1 (n / 2) := by omega
    refine lv_istore_n (lv' := [(3, .int (nI (n + max 1 (n / 2)))), (2, .int (nI n)), (0, .ref a), (1, .int (nI (n + 1)))]) hx hb d_AL_grow2_30 rfl hl (by decide) rfl (fun ls hl => ?_)
    refine lv_aload_n hx hb d_AL_grow2_31 rfl (lv_at hl 2 rfl) ?_
    refine lv_aload_n hx hb d_AL_grow2_32 rfl (lv_at hl 2 rfl) ?_
    refine x_get hx hb hg hown hk ho rfl i_AL 0 (by decide) w_37 rfl d_AL_grow2_33 ?_
    refine lv_iload_n hx hb d_AL_grow2_36 rfl (lv_at hl 0 rfl) ?_
    refine m_S hx hb hml hown hg [.ref arr, .int (nI (n + max 1 (n / 2)))] [.ref a] (c_AR_copyOf l D arr n (n + max 1 (n / 2)) sz f (Nat.le_of_lt hnl2) hnl) z_AR_copyOf w_133 w_134 (pre_P hk ⟨hsz, haq, fun i hi y hy => by cases (hf i hi).symm.trans hy; exact hel i hi⟩) d_AL_grow2_37 rfl rfl ⟨Nat.le_of_ble_eq_true rfl, Nat.le_of_ble_eq_true rfl⟩ rfl hl.1 rfl (Nat.le_of_ble_eq_true rfl) ⟨Nat.le_of_ble_eq_true rfl, Nat.le_of_ble_eq_true rfl⟩ hS (fun q h => h.elim (fun e9 => Or.inr (Or.inl ⟨e9, hne⟩)) (fun e9 => Or.inr (Or.inr e9))) (fun v H locs hp1 hz1 hk1 hS => ?_)
    obtain ⟨q, rfl, hqs, f2, haq2, hf2⟩ := hp1
    have hane : a ≠ arr := kd_ne hk (kd_ob ho) (kd_aq haq) (by decide) (by decide) (by decide)
    have hal := ob_lt ho
    have ho : ob D 4 a [.ref arr, .int (nI n), .int mc] H := va_at.kept ho (hk1 a hal (fun h => h.elim hane (fun e9 => by omega)))
    show W p l e rm_AL_grow2 s m _ below meth c H locs (0 + 1) (0 + 150) _ (F0 m 40 ls [.ref q, .ref a])
    refine lv_dup_x1 hx hb d_AL_grow2_40 rfl rfl ?_
    refine x_put hx hb hg hown hk ho hS (Or.inl rfl) rfl i_AL T_AL k_AL n_AL 0 (by decide) w_37 (fun _ h => h) rfl (by decide +kernel) (ty := T_AL 0) rfl rfl (Nat.le_of_ble_eq_true rfl) d_AL_grow2_41 (fun H1 locs ho hz2 ho1 hS => ?_)
    have haq2 : aq D q (n + max 1 (n / 2)) f2 H1 := va_at.kept haq2 (ho1 q (by omega))
    exact f_r hx hb hr (Or.inr ⟨_, rfl⟩) hlocks hS ⟨q, rfl, hqs, ho, _, f2, haq2, hnl2, hnl, fun i hi => (hf2 i hi).trans (hf i hi)⟩ d_AL_grow2_44
theorem d_AL_grow_0 : decode b_AL_grow 0 = .ok (.aload_n 0, 1) := by decide +kernel
theorem d_AL_grow_1 : decode b_AL_grow 1 = .ok (.aload_n 0, 1) := by decide +kernel
theorem d_AL_grow_2 : decode b_AL_grow 2 = .ok (.getfield 48, 3) := by decide +kernel
theorem d_AL_grow_5 : decode b_AL_grow 5 = .ok (.iconst 1, 1) := by decide +kernel
theorem d_AL_grow_6 : decode b_AL_grow 6 = .ok (.iadd, 1) := by decide +kernel
theorem d_AL_grow_7 : decode b_AL_grow 7 = .ok (.invokevirtual 69, 3) := by decide +kernel
theorem d_AL_grow_10 : decode b_AL_grow 10 = .ok (.areturn, 1) := by decide +kernel
abbrev rm_AL_grow : Room := { frames := 4, cells := 1, slots := 150, locals := 133 }
set_option maxHeartbeats 4000000 in
set_option maxRecDepth 100000 in
theorem c_AL_grow (l : Launch) (D : va_G) (a arr t0 n sz : Nat) (mc : Int32) (el : Nat → Nat) (hn : n < 100) : Met l y_AL_grow (Cond.code y_AL_grow b_AL_grow 1 (some (.array (.object "java/lang/Object"))) :: gw) rm_AL_grow (cZ D t0 (alA a arr t0 sz) [.ref a] (fun H => H.size = sz ∧ ob D 4 a [.ref arr, .int (nI n), .int mc] H ∧ ((arr = t0 ∧ n = 0) ∨ (¬ arr = t0 ∧ 1 ≤ n ∧ ∃ f, aq D arr n f H ∧ ∀ i, i < n → f i = some (el i))) ∧ ∀ i, i < n → el_ok D H (el i))) (mV (alA a arr t0 sz) (fun v H => ∃ q, v = some (.ref q) ∧ sz ≤ q ∧ ob D 4 a [.ref q, .int (nI n), .int mc] H ∧ ∃ (cap : Nat) (f2 : Nat → Option Nat), aq D q cap f2 H ∧ n < cap ∧ cap ≤ 150 ∧ ∀ i, i < n → f2 i = some (el i))) 1 150 (alA a arr t0 sz) := by
  refine mt_B (by decide) (Nat.le_of_ble_eq_true rfl) ?_
  intro p e s m below meth c ls ⟨hx, hb, hr, hlocks, hin, hml, hown, hg⟩ ⟨hk, hz, hp⟩ hl
  have hown : s.vm.findClass R_AL = some m.cls := hown
  have hS : va_S (alA a arr t0 sz) s.heap s.heap [] := va_S.rf
  have hl : lv_has ls 1 [(0, .ref a)] := hl
  refine lv_aload_n hx hb d_AL_grow_0 rfl (lv_at hl 0 rfl) ?_
  refine lv_aload_n hx hb d_AL_grow_1 rfl (lv_at hl 0 rfl) ?_
  refine x_get hx hb hg hown hk hp.2.1 rfl i_AL 1 (by decide) w_38 rfl d_AL_grow_2 ?_
  refine lv_iconst (v := 1) hx hb d_AL_grow_5 (by decide) ?_
  refine lv_iadd hx hb d_AL_grow_6 ?_
  rw [nI_1]
  refine m_V hx hb hml hown hg a [.int (nI (n + 1))] [] (c_AL_grow2 l D a arr t0 n sz mc el hn) z_AL_grow2 w_119 w_121 s_AL_grow2 (rc_ob hk hp.2.1 rfl) (pre_Z hk hz hp) d_AL_grow_7 rfl rfl ⟨Nat.le_of_ble_eq_true rfl, Nat.le_of_ble_eq_true rfl⟩ rfl hl.1 rfl (Nat.le_of_ble_eq_true rfl) ⟨Nat.le_of_ble_eq_true rfl, Nat.le_of_ble_eq_true rfl⟩ hS (fun q h => h) (fun v H locs hp1 hz1 hk1 hS => ?_)
  obtain ⟨q, rfl, hq⟩ := hp1
  exact f_r hx hb hr (Or.inr ⟨_, rfl⟩) hlocks hS ⟨q, rfl, hq⟩ d_AL_grow_10
theorem d_AL_add2_0 : decode b_AL_add2 0 = .ok (.iload_n 3, 1) := by decide +kernel
theorem d_AL_add2_1 : decode b_AL_add2 1 = .ok (.aload_n 2, 1) := by decide +kernel
theorem d_AL_add2_2 : decode b_AL_add2 2 = .ok (.arraylength, 1) := by decide +kernel
theorem d_AL_add2_3 : decode b_AL_add2 3 = .ok (.if_icmp .ne 8, 3) := by decide +kernel
theorem d_AL_add2_6 : decode b_AL_add2 6 = .ok (.aload_n 0, 1) := by decide +kernel
theorem d_AL_add2_7 : decode b_AL_add2 7 = .ok (.invokevirtual 129, 3) := by decide +kernel
theorem d_AL_add2_10 : decode b_AL_add2 10 = .ok (.astore_n 2, 1) := by decide +kernel
theorem d_AL_add2_11 : decode b_AL_add2 11 = .ok (.aload_n 2, 1) := by decide +kernel
theorem d_AL_add2_12 : decode b_AL_add2 12 = .ok (.iload_n 3, 1) := by decide +kernel
theorem d_AL_add2_13 : decode b_AL_add2 13 = .ok (.aload_n 1, 1) := by decide +kernel
theorem d_AL_add2_14 : decode b_AL_add2 14 = .ok (.aastore, 1) := by decide +kernel
theorem d_AL_add2_15 : decode b_AL_add2 15 = .ok (.aload_n 0, 1) := by decide +kernel
theorem d_AL_add2_16 : decode b_AL_add2 16 = .ok (.iload_n 3, 1) := by decide +kernel
theorem d_AL_add2_17 : decode b_AL_add2 17 = .ok (.iconst 1, 1) := by decide +kernel
theorem d_AL_add2_18 : decode b_AL_add2 18 = .ok (.iadd, 1) := by decide +kernel
theorem d_AL_add2_19 : decode b_AL_add2 19 = .ok (.putfield 48, 3) := by decide +kernel
theorem d_AL_add2_22 : decode b_AL_add2 22 = .ok (.return_, 1) := by decide +kernel
abbrev rm_AL_add2 : Room := { frames := 5, cells := 1, slots := 150, locals := 153 }
set_option maxHeartbeats 4000000 in
set_option maxRecDepth 100000 in
theorem c_AL_add2 (l : Launch) (D : va_G) (a arr t0 n v sz : Nat) (mc : Int32) (el : Nat → Nat) (hn : n < 100) : Met l y_AL_add2 (Cond.code y_AL_add2 b_AL_add2 4 none :: gw) rm_AL_add2 (cZ D t0 (alA a arr t0 sz) [.ref a, .ref v, .ref arr, .int (nI n)] (fun H => H.size = sz ∧ ob D 4 a [.ref arr, .int (nI n), .int mc] H ∧ ((arr = t0 ∧ n = 0) ∨ (¬ arr = t0 ∧ ∃ (cap : Nat) (f : Nat → Option Nat), aq D arr cap f H ∧ n ≤ cap ∧ 1 ≤ cap ∧ cap ≤ 150 ∧ ∀ i, i < n → f i = some (el i))) ∧ (∀ i, i < n → el_ok D H (el i)) ∧ el_ok D H v)) (mV (alA a arr t0 sz) (fun r H => r = none ∧ ∃ q, (q = arr ∨ sz ≤ q) ∧ ¬ q = t0 ∧ al D t0 a q (n + 1) (va_up el n v) H)) 1 150 (alA a arr t0 sz) := by
  refine mt_B (by decide) (Nat.le_of_ble_eq_true rfl) ?_
  intro p e s m below meth c ls ⟨hx, hb, hr, hlocks, hin, hml, hown, hg⟩ ⟨hk, hz, hp⟩ hl
  have hown : s.vm.findClass R_AL = some m.cls := hown
  have hS : va_S (alA a arr t0 sz) s.heap s.heap [] := va_S.rf
  have hl : lv_has ls 4 [(0, .ref a), (1, .ref v), (2, .ref arr), (3, .int (nI n))] := hl
  obtain ⟨hsz, ho, hcase, hel, hev⟩ := hp
  have ht0 := zz_lt hz
  have tail : ∀ (q cap : Nat) (f : Nat → Option Nat) (H : Heap) (locs : List Loc) (ls : Array Slot), va_S (alA a arr t0 sz) s.heap H locs → (q = arr ∨ sz ≤ q) → ¬ q = t0 → (alA a arr t0 sz) q → ob D 4 a [.ref q, .int (nI n), .int mc] H → aq D q cap f H → n < cap → cap ≤ 150 → (∀ i, i < n → f i = some (el i)) → el_ok D H v → lv_has ls 4 [(2, .ref q), (0, .ref a), (1, .ref v), (3, .int (nI n))] → W p l e rm_AL_add2 s m ([.ref a, .ref v, .ref arr, .int (nI n)] : List Value).toArray below meth c H locs 1 150 (MQ below (mV (alA a arr t0 sz) (fun r H => r = none ∧ ∃ q, (q = arr ∨ sz ≤ q) ∧ ¬ q = t0 ∧ al D t0 a q (n + 1) (va_up el n v) H)) ([.ref a, .ref v, .ref arr, .int (nI n)] : List Value).toArray s 1 150 (alA a arr t0 sz)) (F0 m 11 ls []) := by
    intro q cap f H locs ls hS hq1 hq2 hq3 ho haq hnc hc2 hf hev hl
    have hane : a ≠ q := kd_ne hk (kd_ob ho) (kd_aq haq) (by decide) (by decide) (by decide)
    have hP : va_P D classes [(a, .inr (4, [.ref q, .int (nI n), .int mc])), (q, .inl (D.1 6, cap, .inr (.inr (.inr (.inr (f))))))] H := p_c ho (p_1 haq)
    have hD : va_D (alA a arr t0 sz) [(a, .inr (4, [.ref q, .int (nI n), .int mc])), (q, .inl (D.1 6, cap, .inr (.inr (.inr (.inr (f))))))] := dd_c (Or.inl rfl) (dd_1 hq3) (fun x hx => by simp at hx; rw [hx]; exact hane)
    refine lv_aload_n hx hb d_AL_add2_11 rfl (lv_at hl 0 rfl) ?_
    refine lv_iload_n hx hb d_AL_add2_12 rfl (lv_at hl 3 rfl) ?_
    refine lv_aload_n hx hb d_AL_add2_13 rfl (lv_at hl 2 rfl) ?_
    refine va_astqM hx hb hk.1 hP hD hS 1 0 rfl rfl (el_any hk hev) (vp_in_nI hnc (by omega)) d_AL_add2_14 (fun H locs hP hD hS => ?_)
    rw [nI_clamp (by omega)] at hP hD
    have hP : va_P D classes [(a, .inr (4, [.ref q, .int (nI n), .int mc])), (q, .inl (D.1 6, cap, .inr (.inr (.inr (.inr (va_up f n (some v)))))))] H := hP
    have hD : va_D (alA a arr t0 sz) [(a, .inr (4, [.ref q, .int (nI n), .int mc])), (q, .inl (D.1 6, cap, .inr (.inr (.inr (.inr (va_up f n (some v)))))))] := hD
    refine lv_aload_n hx hb d_AL_add2_15 rfl (lv_at hl 1 rfl) ?_
    refine lv_iload_n hx hb d_AL_add2_16 rfl (lv_at hl 3 rfl) ?_
    refine lv_iconst (v := 1) hx hb d_AL_add2_17 (by decide) ?_
    refine lv_iadd hx hb d_AL_add2_18 ?_
    rw [nI_1]
    refine va_put (D := D) (ci := 4) (v := .int (nI (n + 1))) (ty := .int) (C := R_AL) (T := F_AL) (N := 3) hx hb hg i_AL T_AL k_AL n_AL hown hk.1 hP hD hS 0 rfl rfl 1 (by decide) (hg _ w_38) (fun _ h9 => h9) rfl (by decide +kernel) rfl rfl (Nat.le_of_ble_eq_true rfl) d_AL_add2_19 (fun H locs hP hD hS => ?_)
    have hP : va_P D classes [(a, .inr (4, [.ref q, .int (nI (n + 1)), .int mc])), (q, .inl (D.1 6, cap, .inr (.inr (.inr (.inr (va_up f n (some v)))))))] H := hP
    refine f_v hx hb hr hlocks hS ⟨rfl, q, hq1, hq2, mc, hP 0 _ rfl, Or.inr ⟨hq2, cap, _, hP 1 _ rfl, hnc, by omega, hc2, fun i hi => ?_⟩⟩ d_AL_add2_22
    by_cases hin2 : i = n
    · rw [hin2, va_up_self, va_up_self]
    · rw [va_up_ne _ _ hin2, va_up_ne _ _ hin2]; exact hf i (by omega)
  refine lv_iload_n hx hb d_AL_add2_0 rfl (lv_at hl 3 rfl) ?_
  refine lv_aload_n hx hb d_AL_add2_1 rfl (lv_at hl 2 rfl) ?_
  have grow : (arr = t0 ∧ n = 0) ∨ (¬ arr = t0 ∧ 1 ≤ n ∧ ∃ f, aq D arr n f s.heap ∧ ∀ i, i < n → f i = some (el i)) → W p l e rm_AL_add2 s m ([.ref a, .ref v, .ref arr, .int (nI n)] : List Value).toArray below meth c s.heap [] 0 0 (MQ below (mV (alA a arr t0 sz) (fun r H => r = none ∧ ∃ q, (q = arr ∨ sz ≤ q) ∧ ¬ q = t0 ∧ al D t0 a q (n + 1) (va_up el n v) H)) ([.ref a, .ref v, .ref arr, .int (nI n)] : List Value).toArray s 1 150 (alA a arr t0 sz)) (F0 m 6 ls []) := by
    intro hcase
    refine lv_aload_n hx hb d_AL_add2_6 rfl (lv_at hl 0 rfl) ?_
    refine m_V hx hb hml hown hg a [] [] (c_AL_grow l D a arr t0 n sz mc el hn) z_AL_grow w_115 w_117 s_AL_grow (rc_ob hk ho rfl) (pre_Z hk hz ⟨hsz, ho, hcase, hel⟩) d_AL_add2_7 rfl rfl ⟨Nat.le_of_ble_eq_true rfl, Nat.le_of_ble_eq_true rfl⟩ rfl hl.1 rfl (Nat.le_of_ble_eq_true rfl) ⟨Nat.le_of_ble_eq_true rfl, Nat.le_of_ble_eq_true rfl⟩ hS (fun q h => h) (fun r H locs hp1 hz1 hk1 hS => ?_)
    obtain ⟨q, rfl, hqs, ho2, cap, f2, haq2, hnc, hc2, hf2⟩ := hp1
    have hvl := el_lt hev
    have hev2 : el_ok D H v := el_kept hev (hk1 v hvl (fun h => by rcases h with h | h | h; exact el_ne hk hev (kd_ob ho) (by decide) (by decide) (by decide) h; exact hcase.elim (fun e9 => h.2 e9.1) (fun e9 => by obtain ⟨_, _, f, g1, _⟩ := e9; exact el_ne hk hev (kd_aq g1) (by decide) (by decide) (by decide) h.1); omega))
    show W p l e rm_AL_add2 s m _ below meth c H locs 1 150 _ (F0 m 10 ls [.ref q])
    refine lv_astore_n (lv' := [(2, .ref q), (0, .ref a), (1, .ref v), (3, .int (nI n))]) hx hb d_AL_add2_10 rfl hl (by decide) rfl (fun ls hl => ?_)
    exact tail q cap f2 H locs ls hS (Or.inr hqs) (by omega) (Or.inr (Or.inr hqs)) ho2 haq2 hnc hc2 hf2 hev2 (lv_sub hl [0, 1, 2, 3] rfl)
  rcases hcase with ⟨e1, e2⟩ | ⟨hne, cap, f, haq, hnc, hc1, hc2, hf⟩
  · subst e1 e2
    refine va_tlen hx hb hz.2 hS (v := 0) rfl d_AL_add2_2 ?_
    refine lv_icmp_ne (tgt := 11) hx hb d_AL_add2_3 (by decide) (fun c1 => absurd nI_0 c1) (fun c1 => ?_)
    exact grow (Or.inl ⟨rfl, rfl⟩)
  · refine va_alen hx hb hk.1 (p_1 haq) 0 0 rfl rfl (v := nI cap) rfl d_AL_add2_2 ?_
    refine lv_icmp_ne (tgt := 11) hx hb d_AL_add2_3 (by decide) (fun c1 => ?_) (fun c1 => ?_)
    · refine W.widen (k := 1) (n := 150) (Nat.le_of_ble_eq_true rfl) (Nat.le_of_ble_eq_true rfl) ?_
      exact tail arr cap f s.heap [] ls hS (Or.inl rfl) hne (Or.inr (Or.inl ⟨rfl, hne⟩)) ho haq (Nat.lt_of_le_of_ne hnc (fun h => c1 (by rw [h]))) hc2 hf hev (lv_sub hl [2, 0, 1, 3] rfl)
    · have hcn : n = cap := (nI_eq (by omega) (by omega)).mp c1
      subst hcn
      exact grow (Or.inr ⟨hne, hc1, f, haq, hf⟩)
theorem d_AL_add_0 : decode b_AL_add 0 = .ok (.aload_n 0, 1) := by decide +kernel
theorem d_AL_add_1 : decode b_AL_add 1 = .ok (.dup, 1) := by decide +kernel
theorem d_AL_add_2 : decode b_AL_add 2 = .ok (.getfield 63, 3) := by decide +kernel
theorem d_AL_add_5 : decode b_AL_add 5 = .ok (.iconst 1, 1) := by decide +kernel
theorem d_AL_add_6 : decode b_AL_add 6 = .ok (.iadd, 1) := by decide +kernel
theorem d_AL_add_7 : decode b_AL_add 7 = .ok (.putfield 63, 3) := by decide +kernel
theorem d_AL_add_10 : decode b_AL_add 10 = .ok (.aload_n 0, 1) := by decide +kernel
theorem d_AL_add_11 : decode b_AL_add 11 = .ok (.aload_n 1, 1) := by decide +kernel
theorem d_AL_add_12 : decode b_AL_add 12 = .ok (.aload_n 0, 1) := by decide +kernel
theorem d_AL_add_13 : decode b_AL_add 13 = .ok (.getfield 9, 3) := by decide +kernel
theorem d_AL_add_16 : decode b_AL_add 16 = .ok (.aload_n 0, 1) := by decide +kernel
theorem d_AL_add_17 : decode b_AL_add 17 = .ok (.getfield 48, 3) := by decide +kernel
theorem d_AL_add_20 : decode b_AL_add 20 = .ok (.invokevirtual 131, 3) := by decide +kernel
theorem d_AL_add_23 : decode b_AL_add 23 = .ok (.iconst 1, 1) := by decide +kernel
theorem d_AL_add_24 : decode b_AL_add 24 = .ok (.ireturn, 1) := by decide +kernel
abbrev rm_AL_add : Room := { frames := 6, cells := 1, slots := 150, locals := 176 }
set_option maxHeartbeats 4000000 in
set_option maxRecDepth 100000 in
theorem c_AL_add (l : Launch) (D : va_G) (a arr t0 n v sz : Nat) (el : Nat → Nat) (hn : n < 100) : Met l y_AL_add (Cond.code y_AL_add b_AL_add 2 (some .boolean) :: gw) rm_AL_add (cZ D t0 (alA a arr t0 sz) [.ref a, .ref v] (fun H => H.size = sz ∧ al D t0 a arr n el H ∧ (∀ i, i < n → el_ok D H (el i)) ∧ el_ok D H v)) (mV (alA a arr t0 sz) (fun r H => r = some (.int 1) ∧ ∃ q, (q = arr ∨ sz ≤ q) ∧ ¬ q = t0 ∧ al D t0 a q (n + 1) (va_up el n v) H)) 1 150 (alA a arr t0 sz) := by
  refine mt_B (by decide) (Nat.le_of_ble_eq_true rfl) ?_
  intro p e s m below meth c ls ⟨hx, hb, hr, hlocks, hin, hml, hown, hg⟩ ⟨hk, hz, hp⟩ hl
  have hown : s.vm.findClass R_AL = some m.cls := hown
  have hS : va_S (alA a arr t0 sz) s.heap s.heap [] := va_S.rf
  have hl : lv_has ls 2 [(0, .ref a), (1, .ref v)] := hl
  obtain ⟨hsz, ⟨mc, ho, hcase⟩, hel, hev⟩ := hp
  refine lv_aload_n hx hb d_AL_add_0 rfl (lv_at hl 0 rfl) ?_
  refine lv_dup hx hb d_AL_add_1 rfl ?_
  refine x_getM hx hb hg hown hk ho rfl d_AL_add_2 ?_
  refine lv_iconst (v := 1) hx hb d_AL_add_5 (by decide) ?_
  refine lv_iadd hx hb d_AL_add_6 ?_
  refine lv_topi (fun mc2 emc2 => ?_)
  refine x_put hx hb hg hown hk ho hS (Or.inl rfl) rfl i_AL T_AL k_AL n_AL 2 (by decide) w_40 (fun x9 h9 => u_same (hg _ w_41) x9 h9) rfl (by decide +kernel) (ty := .int) rfl rfl (Nat.le_of_ble_eq_true rfl) d_AL_add_7 (fun H locs ho2 hz2 ho1 hS => ?_)
  have hel2 : ∀ i, i < n → el_ok D H (el i) := fun i hi => el_kept (hel i hi) (ho1 _ (el_ne hk (hel i hi) (kd_ob ho) (by decide) (by decide) (by decide)))
  have hev2 : el_ok D H v := el_kept hev (ho1 _ (el_ne hk hev (kd_ob ho) (by decide) (by decide) (by decide)))
  have hcase2 : (arr = t0 ∧ n = 0) ∨ (¬ arr = t0 ∧ ∃ (cap : Nat) (f : Nat → Option Nat), aq D arr cap f H ∧ n ≤ cap ∧ 1 ≤ cap ∧ cap ≤ 150 ∧ ∀ i, i < n → f i = some (el i)) := hcase.imp id (fun e9 => by obtain ⟨g1, cap, f, g2, g3⟩ := e9; exact ⟨g1, cap, f, va_at.kept g2 (ho1 _ (kd_ne hk (kd_aq g2) (kd_ob ho) (by decide) (by decide) (by decide))), g3⟩)
  refine lv_aload_n hx hb d_AL_add_10 rfl (lv_at hl 0 rfl) ?_
  refine lv_aload_n hx hb d_AL_add_11 rfl (lv_at hl 1 rfl) ?_
  refine lv_aload_n hx hb d_AL_add_12 rfl (lv_at hl 0 rfl) ?_
  refine x_get hx hb hg hown hk ho2 rfl i_AL 0 (by decide) w_37 rfl d_AL_add_13 ?_
  refine lv_aload_n hx hb d_AL_add_16 rfl (lv_at hl 0 rfl) ?_
  refine x_get hx hb hg hown hk ho2 rfl i_AL 1 (by decide) w_38 rfl d_AL_add_17 ?_
  refine m_V hx hb hml hown hg a [.ref v, .ref arr, .int (nI n)] [] (c_AL_add2 l D a arr t0 n v sz mc2 el hn) z_AL_add2 w_111 w_113 s_AL_add2 (rc_ob hk ho2 rfl) (pre_Z hk (hz.at hS (fun q h => h)) ⟨hz2.trans hsz, ho2, hcase2, hel2, hev2⟩) d_AL_add_20 rfl rfl ⟨Nat.le_of_ble_eq_true rfl, Nat.le_of_ble_eq_true rfl⟩ rfl hl.1 rfl (Nat.le_of_ble_eq_true rfl) ⟨Nat.le_of_ble_eq_true rfl, Nat.le_of_ble_eq_true rfl⟩ hS (fun q h => h) (fun r H locs hp1 hz1 hk1 hS => ?_)
  obtain ⟨rfl, hq⟩ := hp1
  show W p l e rm_AL_add s m _ below meth c H locs 1 150 _ (F0 m 23 ls [])
  refine lv_iconst (v := 1) hx hb d_AL_add_23 (by decide) ?_
  exact f_z hx hb hr hlocks (Or.inr rfl) hS ⟨rfl, hq⟩ d_AL_add_24
theorem d_AL_clear_0 : decode b_AL_clear 0 = .ok (.aload_n 0, 1) := by decide +kernel
theorem d_AL_clear_1 : decode b_AL_clear 1 = .ok (.dup, 1) := by decide +kernel
theorem d_AL_clear_2 : decode b_AL_clear 2 = .ok (.getfield 63, 3) := by decide +kernel
theorem d_AL_clear_5 : decode b_AL_clear 5 = .ok (.iconst 1, 1) := by decide +kernel
theorem d_AL_clear_6 : decode b_AL_clear 6 = .ok (.iadd, 1) := by decide +kernel
theorem d_AL_clear_7 : decode b_AL_clear 7 = .ok (.putfield 63, 3) := by decide +kernel
theorem d_AL_clear_10 : decode b_AL_clear 10 = .ok (.aload_n 0, 1) := by decide +kernel
theorem d_AL_clear_11 : decode b_AL_clear 11 = .ok (.getfield 9, 3) := by decide +kernel
theorem d_AL_clear_14 : decode b_AL_clear 14 = .ok (.astore_n 1, 1) := by decide +kernel
theorem d_AL_clear_15 : decode b_AL_clear 15 = .ok (.aload_n 0, 1) := by decide +kernel
theorem d_AL_clear_16 : decode b_AL_clear 16 = .ok (.getfield 48, 3) := by decide +kernel
theorem d_AL_clear_19 : decode b_AL_clear 19 = .ok (.istore_n 2, 1) := by decide +kernel
theorem d_AL_clear_20 : decode b_AL_clear 20 = .ok (.aload_n 0, 1) := by decide +kernel
theorem d_AL_clear_21 : decode b_AL_clear 21 = .ok (.iconst 0, 1) := by decide +kernel
theorem d_AL_clear_22 : decode b_AL_clear 22 = .ok (.dup_x1, 1) := by decide +kernel
theorem d_AL_clear_23 : decode b_AL_clear 23 = .ok (.putfield 48, 3) := by decide +kernel
theorem d_AL_clear_26 : decode b_AL_clear 26 = .ok (.istore_n 3, 1) := by decide +kernel
theorem d_AL_clear_27 : decode b_AL_clear 27 = .ok (.iload_n 3, 1) := by decide +kernel
theorem d_AL_clear_28 : decode b_AL_clear 28 = .ok (.iload_n 2, 1) := by decide +kernel
theorem d_AL_clear_29 : decode b_AL_clear 29 = .ok (.if_icmp .ge 13, 3) := by decide +kernel
theorem d_AL_clear_32 : decode b_AL_clear 32 = .ok (.aload_n 1, 1) := by decide +kernel
theorem d_AL_clear_33 : decode b_AL_clear 33 = .ok (.iload_n 3, 1) := by decide +kernel
theorem d_AL_clear_34 : decode b_AL_clear 34 = .ok (.aconst_null, 1) := by decide +kernel
theorem d_AL_clear_35 : decode b_AL_clear 35 = .ok (.aastore, 1) := by decide +kernel
theorem d_AL_clear_36 : decode b_AL_clear 36 = .ok (.iinc 3 1, 3) := by decide +kernel
theorem d_AL_clear_39 : decode b_AL_clear 39 = .ok (.goto (-12), 3) := by decide +kernel
theorem d_AL_clear_42 : decode b_AL_clear 42 = .ok (.return_, 1) := by decide +kernel
abbrev rm_AL_clear : Room := { frames := 0, cells := 0, slots := 0, locals := 0 }
set_option maxHeartbeats 4000000 in
set_option maxRecDepth 100000 in
theorem c_AL_clear (l : Launch) (D : va_G) (a arr t0 n : Nat) (el : Nat → Nat) (hn : n ≤ 100) : Met l y_AL_clear (Cond.code y_AL_clear b_AL_clear 4 none :: gw) rm_AL_clear (cP D [.ref a] (fun H => al D t0 a arr n el H)) (mV (clA a arr t0) (fun r H => r = none ∧ ∀ el2, al D t0 a arr 0 el2 H)) 0 0 (clA a arr t0) := by
  refine mt_B (by decide) (Nat.le_of_ble_eq_true rfl) ?_
  intro p e s m below meth c ls ⟨hx, hb, hr, hlocks, hin, hml, hown, hg⟩ ⟨hk, hp⟩ hl
  have hown : s.vm.findClass R_AL = some m.cls := hown
  have hS : va_S (clA a arr t0) s.heap s.heap [] := va_S.rf
  have hl : lv_has ls 4 [(0, .ref a)] := hl
  obtain ⟨mc, ho, hcase⟩ := hp
  refine lv_aload_n hx hb d_AL_clear_0 rfl (lv_at hl 0 rfl) ?_
  refine lv_dup hx hb d_AL_clear_1 rfl ?_
  refine x_getM hx hb hg hown hk ho rfl d_AL_clear_2 ?_
  refine lv_iconst (v := 1) hx hb d_AL_clear_5 (by decide) ?_
  refine lv_iadd hx hb d_AL_clear_6 ?_
  refine lv_topi (fun mc2 emc2 => ?_)
  refine x_put hx hb hg hown hk ho hS (Or.inl rfl) rfl i_AL T_AL k_AL n_AL 2 (by decide) w_40 (fun x9 h9 => u_same (hg _ w_41) x9 h9) rfl (by decide +kernel) (ty := .int) rfl rfl (Nat.le_of_ble_eq_true rfl) d_AL_clear_7 (fun H1 locs ho2 hz2 ho1 hS => ?_)
  refine lv_aload_n hx hb d_AL_clear_10 rfl (lv_at hl 0 rfl) ?_
  refine x_get hx hb hg hown hk ho2 rfl i_AL 0 (by decide) w_37 rfl d_AL_clear_11 ?_
  refine lv_astore_n (lv' := [(1, .ref arr), (0, .ref a)]) hx hb d_AL_clear_14 rfl hl (by decide) rfl (fun ls hl => ?_)
  refine lv_aload_n hx hb d_AL_clear_15 rfl (lv_at hl 1 rfl) ?_
  refine x_get hx hb hg hown hk ho2 rfl i_AL 1 (by decide) w_38 rfl d_AL_clear_16 ?_
  refine lv_istore_n (lv' := [(2, .int (nI n)), (1, .ref arr), (0, .ref a)]) hx hb d_AL_clear_19 rfl hl (by decide) rfl (fun ls hl => ?_)
  refine lv_aload_n hx hb d_AL_clear_20 rfl (lv_at hl 2 rfl) ?_
  refine lv_iconst (v := 0) hx hb d_AL_clear_21 (by decide) ?_
  refine lv_dup_x1 hx hb d_AL_clear_22 rfl rfl ?_
  refine x_put hx hb hg hown hk ho2 hS (Or.inl rfl) rfl i_AL T_AL k_AL n_AL 1 (by decide) w_38 (fun _ h => h) rfl (by decide +kernel) (ty := .int) rfl rfl (Nat.le_of_ble_eq_true rfl) d_AL_clear_23 (fun H locs ho3 hz3 ho4 hS => ?_)
  have ho3 : ob D 4 a [.ref arr, .int 0, .int mc2] H := ho3
  have hcase2 : (arr = t0 ∧ n = 0) ∨ (¬ arr = t0 ∧ ∃ (cap : Nat) (f : Nat → Option Nat), aq D arr cap f H ∧ n ≤ cap ∧ 1 ≤ cap ∧ cap ≤ 150) := hcase.imp id (fun e9 => by obtain ⟨g1, cap, f, g2, g3, g4, g5, -⟩ := e9; have hne9 := kd_ne hk (kd_aq g2) (kd_ob ho) (by decide) (by decide) (by decide); exact ⟨g1, cap, f, va_at.kept g2 ((ho4 _ hne9).trans (ho1 _ hne9)), g3, g4, g5⟩)
  refine lv_istore_n (lv' := [(3, .int 0), (2, .int (nI n)), (1, .ref arr), (0, .ref a)]) hx hb d_AL_clear_26 rfl hl (by decide) rfl (fun ls hl => ?_)
  rcases hcase2 with ⟨e1, e2⟩ | ⟨hne, cap, f, haq, hnc, hc1, hc2⟩
  · subst e2
    refine lv_iload_n hx hb d_AL_clear_27 rfl (lv_at hl 0 rfl) ?_
    refine lv_iload_n hx hb d_AL_clear_28 rfl (lv_at hl 1 rfl) ?_
    refine lv_icmp_ge (tgt := 42) hx hb d_AL_clear_29 (by decide) (fun c1 => ?_) (fun c1 => absurd (Int32.le_refl _) c1)
    exact f_v hx hb hr hlocks hS ⟨rfl, fun el2 => ⟨mc2, ho3, Or.inl ⟨e1, rfl⟩⟩⟩ d_AL_clear_42
  · have hane : a ≠ arr := kd_ne hk (kd_ob ho3) (kd_aq haq) (by decide) (by decide) (by decide)
    have hD : ∀ g : Nat → Option Nat, va_D (clA a arr t0) [(a, .inr (4, [.ref arr, .int 0, .int mc2])), (arr, .inl (D.1 6, cap, .inr (.inr (.inr (.inr (g))))))] := fun g => dd_c (Or.inl rfl) (dd_1 (Or.inr ⟨rfl, hne⟩)) (fun x hx => by simp at hx; rw [hx]; exact hane)
    have loop : ∀ (fu : Nat) (j : Nat) (x3 : Int32) (H : Heap) (locs : List Loc) (g : Nat → Option Nat), j ≤ n → n - j < fu → x3 = nI j → va_P D classes [(a, .inr (4, [.ref arr, .int 0, .int mc2])), (arr, .inl (D.1 6, cap, .inr (.inr (.inr (.inr (g))))))] H → va_S (clA a arr t0) s.heap H locs → ∀ ls : Array Slot, lv_has ls 4 [(3, .int x3), (2, .int (nI n)), (1, .ref arr), (0, .ref a)] → W p l e rm_AL_clear s m ([.ref a] : List Value).toArray below meth c H locs 0 0 (MQ below (mV (clA a arr t0) (fun r H => r = none ∧ ∀ el2, al D t0 a arr 0 el2 H)) ([.ref a] : List Value).toArray s 0 0 (clA a arr t0)) (F0 m 27 ls []) := by
      intro fu
      induction fu with
      | zero => intro j x3 H locs g h1 h2 e3 hP hS; exact absurd h2 (Nat.not_lt_zero _)
      | succ fu ih =>
        intro j x3 H locs g h1 h2 e3 hP hS ls hl
        refine lv_iload_n hx hb d_AL_clear_27 rfl (lv_at hl 0 rfl) ?_
        refine lv_iload_n hx hb d_AL_clear_28 rfl (lv_at hl 1 rfl) ?_
        refine lv_icmp_ge (tgt := 42) hx hb d_AL_clear_29 (by decide) (fun c1 => ?_) (fun c1 => ?_)
        · exact f_v hx hb hr hlocks hS ⟨rfl, fun el2 => ⟨mc2, hP 0 _ rfl, Or.inr ⟨hne, cap, g, hP 1 _ rfl, Nat.zero_le _, hc1, hc2, fun i hi => absurd hi (Nat.not_lt_zero _)⟩⟩⟩ d_AL_clear_42
        · have hj : j < n := Nat.not_le.mp (fun h => c1 ((q_le rfl e3 (by omega) (by omega)).mpr h))
          subst e3
          refine lv_aload_n hx hb d_AL_clear_32 rfl (lv_at hl 2 rfl) ?_
          refine lv_iload_n hx hb d_AL_clear_33 rfl (lv_at hl 0 rfl) ?_
          refine lv_null hx hb d_AL_clear_34 ?_
          refine va_astqN (C := "java/lang/Object") hx hb hk.1 hP (hD g) hS 1 0 rfl rfl (vp_in_nI (show j < cap by omega) (by omega)) d_AL_clear_35 (fun H locs hP _ hS => ?_)
          obtain ⟨y3, ey3⟩ : ∃ y : Int32, y = (nI j) + 1 := ⟨_, rfl⟩
          refine lv_iinc (v := y3) (lv' := [(3, .int y3), (2, .int (nI n)), (1, .ref arr), (0, .ref a)]) hx hb d_AL_clear_36 hl (k := 0) rfl (by rw [ey3]; rfl) (by decide) rfl (fun ls hl => ?_)
          refine lv_goto (tgt := 27) hx hb d_AL_clear_39 (by decide) ?_
          exact ih (j + 1) y3 H locs _ hj (by omega) (by rw [ey3, nI_1]) hP hS ls (lv_sub hl [0, 1, 2, 3] rfl)
    exact loop (n + 1) 0 0 H locs f (Nat.zero_le _) (by omega) nI_0.symm (p_c ho3 (p_1 haq)) hS ls (lv_sub hl [0, 1, 2, 3] rfl)
end
section
/-! DRAWINGS: parts, verdicts, drawings (printed by gen/dr.py) -/
theorem d_PT_init_0 : decode b_PT_init 0 = .ok (.aload_n 0, 1) := by decide +kernel
theorem d_PT_init_1 : decode b_PT_init 1 = .ok (.invokespecial 1, 3) := by decide +kernel
theorem d_PT_init_4 : decode b_PT_init 4 = .ok (.aload_n 0, 1) := by decide +kernel
theorem d_PT_init_5 : decode b_PT_init 5 = .ok (.lload_n 1, 1) := by decide +kernel
theorem d_PT_init_6 : decode b_PT_init 6 = .ok (.putfield 7, 3) := by decide +kernel
theorem d_PT_init_9 : decode b_PT_init 9 = .ok (.return_, 1) := by decide +kernel
abbrev rm_PT_init : Room := { frames := 1, cells := 0, slots := 0, locals := 14 }
set_option maxHeartbeats 4000000 in
set_option maxRecDepth 100000 in
theorem c_PT_init (l : Launch) (D : va_G) (a : Nat) (z : Int64) : Met l y_PT_init (Cond.code y_PT_init b_PT_init 3 none :: gw) rm_PT_init (cP D [.ref a, .long z] (fun H => ob D 2 a [.long 0, .int 0] H)) (mV (fun q => q = a) (fun v H => v = none ∧ ob D 2 a [.long z, .int 0] H)) 0 0 (fun q => q = a) := by
  refine mt_B (by decide) (Nat.le_of_ble_eq_true rfl) ?_
  intro p e s m below meth c ls ⟨hx, hb, hr, hlocks, hin, hml, hown, hg⟩ ⟨hk, hp⟩ hl
  have hown : s.vm.findClass R_PT = some m.cls := hown
  have hS : va_S (fun q => q = a) s.heap s.heap [] := va_S.rf
  have hl : lv_has ls 3 [(0, .ref a), (1, .long z)] := hl
  refine lv_aload_n hx hb d_PT_init_0 rfl (lv_at hl 0 rfl) ?_
  refine o_I hx hb hml hown hg w_96 hl.1 d_PT_init_1 (Nat.le_of_ble_eq_true rfl) (Nat.le_of_ble_eq_true rfl) ?_
  refine lv_aload_n hx hb d_PT_init_4 rfl (lv_at hl 0 rfl) ?_
  refine lv_lload_n hx hb d_PT_init_5 rfl (lv_at hl 1 rfl) ?_
  refine x_putF hx hb hg hown hin hk hp hS rfl rfl i_PT T_PT k_PT n_PT 0 (by decide) w_97 rfl rfl (by decide +kernel) (ty := .long) rfl rfl (Nat.le_of_ble_eq_true rfl) d_PT_init_6 (fun H locs ho hz1 ho1 hS => ?_)
  exact f_v hx hb hr hlocks hS ⟨rfl, ho⟩ d_PT_init_9
theorem d_VD_init_0 : decode b_VD_init 0 = .ok (.aload_n 0, 1) := by decide +kernel
theorem d_VD_init_1 : decode b_VD_init 1 = .ok (.invokespecial 1, 3) := by decide +kernel
theorem d_VD_init_4 : decode b_VD_init 4 = .ok (.aload_n 0, 1) := by decide +kernel
theorem d_VD_init_5 : decode b_VD_init 5 = .ok (.iload_n 1, 1) := by decide +kernel
theorem d_VD_init_6 : decode b_VD_init 6 = .ok (.putfield 7, 3) := by decide +kernel
theorem d_VD_init_9 : decode b_VD_init 9 = .ok (.return_, 1) := by decide +kernel
abbrev rm_VD_init : Room := { frames := 1, cells := 0, slots := 0, locals := 14 }
set_option maxHeartbeats 4000000 in
set_option maxRecDepth 100000 in
theorem c_VD_init (l : Launch) (D : va_G) (a : Nat) (z : Int32) : Met l y_VD_init (Cond.code y_VD_init b_VD_init 2 none :: gw) rm_VD_init (cP D [.ref a, .int z] (fun H => ob D 3 a [.int 0, .int 0] H)) (mV (fun q => q = a) (fun v H => v = none ∧ ob D 3 a [.int z, .int 0] H)) 0 0 (fun q => q = a) := by
  refine mt_B (by decide) (Nat.le_of_ble_eq_true rfl) ?_
  intro p e s m below meth c ls ⟨hx, hb, hr, hlocks, hin, hml, hown, hg⟩ ⟨hk, hp⟩ hl
  have hown : s.vm.findClass R_VD = some m.cls := hown
  have hS : va_S (fun q => q = a) s.heap s.heap [] := va_S.rf
  have hl : lv_has ls 2 [(0, .ref a), (1, .int z)] := hl
  refine lv_aload_n hx hb d_VD_init_0 rfl (lv_at hl 0 rfl) ?_
  refine o_I hx hb hml hown hg w_253 hl.1 d_VD_init_1 (Nat.le_of_ble_eq_true rfl) (Nat.le_of_ble_eq_true rfl) ?_
  refine lv_aload_n hx hb d_VD_init_4 rfl (lv_at hl 0 rfl) ?_
  refine lv_iload_n hx hb d_VD_init_5 rfl (lv_at hl 1 rfl) ?_
  refine x_putF hx hb hg hown hin hk hp hS rfl rfl i_VD T_VD k_VD n_VD 0 (by decide) w_254 rfl rfl (by decide +kernel) (ty := .int) rfl rfl (Nat.le_of_ble_eq_true rfl) d_VD_init_6 (fun H locs ho hz1 ho1 hS => ?_)
  exact f_v hx hb hr hlocks hS ⟨rfl, ho⟩ d_VD_init_9
theorem d_DR_behind_0 : decode b_DR_behind 0 = .ok (.iconst 0, 1) := by decide +kernel
theorem d_DR_behind_1 : decode b_DR_behind 1 = .ok (.istore_n 2, 1) := by decide +kernel
theorem d_DR_behind_2 : decode b_DR_behind 2 = .ok (.iconst 0, 1) := by decide +kernel
theorem d_DR_behind_3 : decode b_DR_behind 3 = .ok (.istore_n 3, 1) := by decide +kernel
theorem d_DR_behind_4 : decode b_DR_behind 4 = .ok (.iload_n 3, 1) := by decide +kernel
theorem d_DR_behind_5 : decode b_DR_behind 5 = .ok (.aload_n 0, 1) := by decide +kernel
theorem d_DR_behind_6 : decode b_DR_behind 6 = .ok (.getfield 12, 3) := by decide +kernel
theorem d_DR_behind_9 : decode b_DR_behind 9 = .ok (.invokevirtual 42, 3) := by decide +kernel
theorem d_DR_behind_12 : decode b_DR_behind 12 = .ok (.if_icmp .ge 89, 3) := by decide +kernel
theorem d_DR_behind_15 : decode b_DR_behind 15 = .ok (.aload_n 0, 1) := by decide +kernel
theorem d_DR_behind_16 : decode b_DR_behind 16 = .ok (.getfield 12, 3) := by decide +kernel
theorem d_DR_behind_19 : decode b_DR_behind 19 = .ok (.iload_n 3, 1) := by decide +kernel
theorem d_DR_behind_20 : decode b_DR_behind 20 = .ok (.invokevirtual 46, 3) := by decide +kernel
theorem d_DR_behind_23 : decode b_DR_behind 23 = .ok (.checkcast 26, 3) := by decide +kernel
theorem d_DR_behind_26 : decode b_DR_behind 26 = .ok (.astore 4, 2) := by decide +kernel
theorem d_DR_behind_28 : decode b_DR_behind 28 = .ok (.aload 4, 2) := by decide +kernel
theorem d_DR_behind_30 : decode b_DR_behind 30 = .ok (.aload_n 0, 1) := by decide +kernel
theorem d_DR_behind_31 : decode b_DR_behind 31 = .ok (.getfield 12, 3) := by decide +kernel
theorem d_DR_behind_34 : decode b_DR_behind 34 = .ok (.iload_n 1, 1) := by decide +kernel
theorem d_DR_behind_35 : decode b_DR_behind 35 = .ok (.invokevirtual 46, 3) := by decide +kernel
theorem d_DR_behind_38 : decode b_DR_behind 38 = .ok (.checkcast 26, 3) := by decide +kernel
theorem d_DR_behind_41 : decode b_DR_behind 41 = .ok (.invokevirtual 50, 3) := by decide +kernel
theorem d_DR_behind_44 : decode b_DR_behind 44 = .ok (.ifCond .ne 31, 3) := by decide +kernel
theorem d_DR_behind_47 : decode b_DR_behind 47 = .ok (.aload 4, 2) := by decide +kernel
theorem d_DR_behind_49 : decode b_DR_behind 49 = .ok (.getfield 54, 3) := by decide +kernel
theorem d_DR_behind_52 : decode b_DR_behind 52 = .ok (.aload_n 0, 1) := by decide +kernel
theorem d_DR_behind_53 : decode b_DR_behind 53 = .ok (.getfield 12, 3) := by decide +kernel
theorem d_DR_behind_56 : decode b_DR_behind 56 = .ok (.iload_n 1, 1) := by decide +kernel
theorem d_DR_behind_57 : decode b_DR_behind 57 = .ok (.invokevirtual 46, 3) := by decide +kernel
theorem d_DR_behind_60 : decode b_DR_behind 60 = .ok (.checkcast 26, 3) := by decide +kernel
theorem d_DR_behind_63 : decode b_DR_behind 63 = .ok (.getfield 54, 3) := by decide +kernel
theorem d_DR_behind_66 : decode b_DR_behind 66 = .ok (.lcmp, 1) := by decide +kernel
theorem d_DR_behind_67 : decode b_DR_behind 67 = .ok (.ifCond .ne 12, 3) := by decide +kernel
theorem d_DR_behind_70 : decode b_DR_behind 70 = .ok (.iload_n 3, 1) := by decide +kernel
theorem d_DR_behind_71 : decode b_DR_behind 71 = .ok (.iload_n 1, 1) := by decide +kernel
theorem d_DR_behind_72 : decode b_DR_behind 72 = .ok (.if_icmp .le 7, 3) := by decide +kernel
theorem d_DR_behind_75 : decode b_DR_behind 75 = .ok (.iconst 1, 1) := by decide +kernel
theorem d_DR_behind_76 : decode b_DR_behind 76 = .ok (.goto 4, 3) := by decide +kernel
theorem d_DR_behind_79 : decode b_DR_behind 79 = .ok (.iconst 0, 1) := by decide +kernel
theorem d_DR_behind_80 : decode b_DR_behind 80 = .ok (.istore 5, 2) := by decide +kernel
theorem d_DR_behind_82 : decode b_DR_behind 82 = .ok (.iload_n 2, 1) := by decide +kernel
theorem d_DR_behind_83 : decode b_DR_behind 83 = .ok (.iload 5, 2) := by decide +kernel
theorem d_DR_behind_85 : decode b_DR_behind 85 = .ok (.ifCond .eq 7, 3) := by decide +kernel
theorem d_DR_behind_88 : decode b_DR_behind 88 = .ok (.iconst 1, 1) := by decide +kernel
theorem d_DR_behind_89 : decode b_DR_behind 89 = .ok (.goto 4, 3) := by decide +kernel
theorem d_DR_behind_92 : decode b_DR_behind 92 = .ok (.iconst 0, 1) := by decide +kernel
theorem d_DR_behind_93 : decode b_DR_behind 93 = .ok (.iadd, 1) := by decide +kernel
theorem d_DR_behind_94 : decode b_DR_behind 94 = .ok (.istore_n 2, 1) := by decide +kernel
theorem d_DR_behind_95 : decode b_DR_behind 95 = .ok (.iinc 3 1, 3) := by decide +kernel
theorem d_DR_behind_98 : decode b_DR_behind 98 = .ok (.goto (-94), 3) := by decide +kernel
theorem d_DR_behind_101 : decode b_DR_behind 101 = .ok (.iload_n 2, 1) := by decide +kernel
theorem d_DR_behind_102 : decode b_DR_behind 102 = .ok (.ireturn, 1) := by decide +kernel
abbrev rm_DR_behind : Room := { frames := 3, cells := 0, slots := 0, locals := 66 }
set_option maxHeartbeats 4000000 in
set_option maxRecDepth 100000 in
theorem c_DR_behind (l : Launch) (D : va_G) (t0 d L arr n : Nat) (el : Nat → Nat) (zf : Nat → Int64) (ff : Nat → Int32) (sd : Int64) (kd : Int32) (i : Nat) (hi : i < n) : Met l y_DR_behind (Cond.code y_DR_behind b_DR_behind 6 (some .int) :: gw) rm_DR_behind (cP D [.ref d, .int (nI i)] (dw D t0 d L arr n el zf ff sd kd)) (rV (.int (nI (p_cnt zf i n)))) 0 0 (fun _ => False) := by
  refine mt_B (by decide) (Nat.le_of_ble_eq_true rfl) ?_
  intro p e s m below meth c ls ⟨hx, hb, hr, hlocks, hin, hml, hown, hg⟩ ⟨hk, hp⟩ hl
  have hown : s.vm.findClass R_DR = some m.cls := hown
  have hl : lv_has ls 6 [(0, .ref d), (1, .int (nI i))] := hl
  obtain ⟨hd, ⟨mc, hL, hcase⟩, hpt⟩ := hp
  rcases hcase with h0 | ⟨hne, cap, f, haq, hnc, hc1, hc2, hf⟩
  · exact absurd h0.2 (by omega)
  refine lv_iconst (v := 0) hx hb d_DR_behind_0 (by decide) ?_
  refine lv_istore_n (lv' := [(2, .int 0), (0, .ref d), (1, .int (nI i))]) hx hb d_DR_behind_1 rfl hl (by decide) rfl (fun ls hl => ?_)
  refine lv_iconst (v := 0) hx hb d_DR_behind_2 (by decide) ?_
  refine lv_istore_n (lv' := [(3, .int 0), (2, .int 0), (0, .ref d), (1, .int (nI i))]) hx hb d_DR_behind_3 rfl hl (by decide) rfl (fun ls hl => ?_)
  have loop : ∀ (fu : Nat) (j : Nat) (x3 x2 : Int32), (j ≤ n) → (n - j < fu) → (x3 = nI j) → (x2 = nI (p_cnt zf i j)) → ∀ ls : Array Slot, lv_has ls 6 [(3, .int x3), (2, .int x2), (0, .ref d), (1, .int (nI i))] → W p l e rm_DR_behind s m ([.ref d, .int (nI i)] : List Value).toArray below meth c s.heap [] 0 0 (MQ below (rV (.int (nI (p_cnt zf i n)))) ([.ref d, .int (nI i)] : List Value).toArray s 0 0 (fun _ => False)) (F0 m 4 ls []) := by
    intro fu
    induction fu with
    | zero => intro j x3 x2 h1 h2 e3 e2; exact absurd h2 (Nat.not_lt_zero _)
    | succ fu ih =>
      intro j x3 x2 h1 h2 e3 e2 ls hl
      refine lv_iload_n hx hb d_DR_behind_4 rfl (lv_at hl 0 rfl) ?_
      refine lv_aload_n hx hb d_DR_behind_5 rfl (lv_at hl 2 rfl) ?_
      refine x_get hx hb hg hown hk hd rfl i_DR 2 (by decide) w_195 rfl d_DR_behind_6 ?_
      refine k_V hx hb hml hown hg hk L [] [.int x3] (c_AL_size l D L arr (nI n) mc) z_AL_size w_164 w_165 w_166 (rc_ob hk (hL) rfl) (hL) d_DR_behind_9 rfl rfl ⟨Nat.le_of_ble_eq_true rfl, Nat.le_of_ble_eq_true rfl⟩ rfl hl.1 rfl (Nat.le_of_ble_eq_true rfl) ⟨Nat.zero_le _, Nat.zero_le _⟩ ?_
      refine lv_icmp_ge (tgt := 101) hx hb d_DR_behind_12 (by decide) (fun c1 => ?_) (fun c1 => ?_)
      · refine lv_iload_n hx hb d_DR_behind_101 rfl (lv_at hl 1 rfl) ?_
        exact e_i hx hb hr hlocks (by rw [e2, show j = n by have := (q_le rfl e3 (by omega) (by omega)).mp c1; omega]) d_DR_behind_102
      · have hj : j < n := Nat.not_le.mp (fun h => c1 ((q_le rfl e3 (by omega) (by omega)).mpr h))
        subst e3
        refine lv_aload_n hx hb d_DR_behind_15 rfl (lv_at hl 2 rfl) ?_
        refine x_get hx hb hg hown hk hd rfl i_DR 2 (by decide) w_195 rfl d_DR_behind_16 ?_
        refine lv_iload_n hx hb d_DR_behind_19 rfl (lv_at hl 0 rfl) ?_
        refine k_V hx hb hml hown hg hk L [.int (nI j)] [] (c_AL_get l D L arr n cap j (el j) mc f (hj) hnc (by omega) (hf j (hj))) z_AL_get w_168 w_169 w_170 (rc_ob hk hL rfl) (⟨hL, haq⟩) d_DR_behind_20 rfl rfl ⟨Nat.le_of_ble_eq_true rfl, Nat.le_of_ble_eq_true rfl⟩ rfl hl.1 rfl (Nat.le_of_ble_eq_true rfl) ⟨Nat.zero_le _, Nat.zero_le _⟩ ?_
        refine va_castY hx hb hown (hg _ w_84) (hk.m 10 rfl) (rc_ob hk (hpt j hj) rfl) d_DR_behind_23 ?_
        refine lv_astore (lv' := [(4, .ref (el j)), (3, .int (nI j)), (2, .int x2), (0, .ref d), (1, .int (nI i))]) hx hb d_DR_behind_26 hl (by decide) rfl (fun ls hl => ?_)
        refine lv_aload hx hb d_DR_behind_28 (lv_at hl 0 rfl) ?_
        refine lv_aload_n hx hb d_DR_behind_30 rfl (lv_at hl 3 rfl) ?_
        refine x_get hx hb hg hown hk hd rfl i_DR 2 (by decide) w_195 rfl d_DR_behind_31 ?_
        refine lv_iload_n hx hb d_DR_behind_34 rfl (lv_at hl 4 rfl) ?_
        refine k_V hx hb hml hown hg hk L [.int (nI i)] [.ref (el j)] (c_AL_get l D L arr n cap i (el i) mc f (hi) hnc (by omega) (hf i (hi))) z_AL_get w_168 w_169 w_170 (rc_ob hk hL rfl) (⟨hL, haq⟩) d_DR_behind_35 rfl rfl ⟨Nat.le_of_ble_eq_true rfl, Nat.le_of_ble_eq_true rfl⟩ rfl hl.1 rfl (Nat.le_of_ble_eq_true rfl) ⟨Nat.zero_le _, Nat.zero_le _⟩ ?_
        refine va_castY hx hb hown (hg _ w_84) (hk.m 10 rfl) (rc_ob hk (hpt i hi) rfl) d_DR_behind_38 ?_
        refine k_V hx hb hml hown hg hk (el j) [.ref (el i)] [] (c_PT_isGreater l D (el j) (el i) (zf j) (zf i) (ff j) (ff i)) z_PT_isGreater w_186 w_187 w_188 (rc_ob hk (hpt j hj) rfl) (⟨hpt j hj, hpt i hi⟩) d_DR_behind_41 rfl rfl ⟨Nat.le_of_ble_eq_true rfl, Nat.le_of_ble_eq_true rfl⟩ rfl hl.1 rfl (Nat.le_of_ble_eq_true rfl) ⟨Nat.zero_le _, Nat.zero_le _⟩ ?_
        refine lv_if_ne (tgt := 75) hx hb d_DR_behind_44 (by decide) (fun c2 => ?_) (fun c2 => ?_)
        · refine lv_iconst (v := 1) hx hb d_DR_behind_75 (by decide) ?_
          refine lv_goto (tgt := 80) hx hb d_DR_behind_76 (by decide) ?_
          refine lv_istore (lv' := [(5, .int 1), (4, .ref (el j)), (3, .int (nI j)), (2, .int x2), (0, .ref d), (1, .int (nI i))]) hx hb d_DR_behind_80 hl (by decide) rfl (fun ls hl => ?_)
          refine lv_iload_n hx hb d_DR_behind_82 rfl (lv_at hl 3 rfl) ?_
          refine lv_iload hx hb d_DR_behind_83 (lv_at hl 0 rfl) ?_
          refine lv_if_eq (tgt := 92) hx hb d_DR_behind_85 (by decide) (fun h => absurd h (by decide)) (fun _ => ?_)
          refine lv_iconst (v := 1) hx hb d_DR_behind_88 (by decide) ?_
          refine lv_goto (tgt := 93) hx hb d_DR_behind_89 (by decide) ?_
          refine lv_iadd hx hb d_DR_behind_93 ?_
          refine lv_topi (fun y2 ey2 => ?_)
          refine lv_istore_n (lv' := [(2, .int y2), (5, .int 1), (4, .ref (el j)), (3, .int (nI j)), (0, .ref d), (1, .int (nI i))]) hx hb d_DR_behind_94 rfl hl (by decide) rfl (fun ls hl => ?_)
          obtain ⟨y3, ey3⟩ : ∃ y : Int32, y = (nI j) + 1 := ⟨_, rfl⟩
          refine lv_iinc (v := y3) (lv' := [(3, .int y3), (2, .int y2), (5, .int 1), (4, .ref (el j)), (0, .ref d), (1, .int (nI i))]) hx hb d_DR_behind_95 hl (k := 3) rfl (by rw [ey3]; rfl) (by decide) rfl (fun ls hl => ?_)
          refine lv_goto (tgt := 4) hx hb d_DR_behind_98 (by decide) ?_
          exact ih (j + 1) y3 y2 hj (by omega) (by rw [ey3, nI_1]) (by rw [ey2, e2, nI_1, p_cnt_y (p_bef_g c2)]) ls (lv_sub hl [0, 1, 4, 5] rfl)
        · refine lv_aload hx hb d_DR_behind_47 (lv_at hl 0 rfl) ?_
          refine x_getN hx hb hg hown hk (hpt j hj) rfl i_PT 0 (by decide) 1 rfl rfl d_DR_behind_49 ?_
          refine lv_aload_n hx hb d_DR_behind_52 rfl (lv_at hl 3 rfl) ?_
          refine x_get hx hb hg hown hk hd rfl i_DR 2 (by decide) w_195 rfl d_DR_behind_53 ?_
          refine lv_iload_n hx hb d_DR_behind_56 rfl (lv_at hl 4 rfl) ?_
          refine k_V hx hb hml hown hg hk L [.int (nI i)] [.long (zf j)] (c_AL_get l D L arr n cap i (el i) mc f (hi) hnc (by omega) (hf i (hi))) z_AL_get w_168 w_169 w_170 (rc_ob hk hL rfl) (⟨hL, haq⟩) d_DR_behind_57 rfl rfl ⟨Nat.le_of_ble_eq_true rfl, Nat.le_of_ble_eq_true rfl⟩ rfl hl.1 rfl (Nat.le_of_ble_eq_true rfl) ⟨Nat.zero_le _, Nat.zero_le _⟩ ?_
          refine va_castY hx hb hown (hg _ w_84) (hk.m 10 rfl) (rc_ob hk (hpt i hi) rfl) d_DR_behind_60 ?_
          refine x_getN hx hb hg hown hk (hpt i hi) rfl i_PT 0 (by decide) 1 rfl rfl d_DR_behind_63 ?_
          refine W.lcmp hx hb d_DR_behind_66 ?_
          refine lv_if_ne (tgt := 79) hx hb d_DR_behind_67 (by decide) (fun c3 => ?_) (fun c3 => ?_)
          · refine lv_iconst (v := 0) hx hb d_DR_behind_79 (by decide) ?_
            refine lv_istore (lv' := [(5, .int 0), (4, .ref (el j)), (3, .int (nI j)), (2, .int x2), (0, .ref d), (1, .int (nI i))]) hx hb d_DR_behind_80 hl (by decide) rfl (fun ls hl => ?_)
            refine lv_iload_n hx hb d_DR_behind_82 rfl (lv_at hl 3 rfl) ?_
            refine lv_iload hx hb d_DR_behind_83 (lv_at hl 0 rfl) ?_
            refine lv_if_eq (tgt := 92) hx hb d_DR_behind_85 (by decide) (fun _ => ?_) (fun h => absurd (by decide) h)
            refine lv_iconst (v := 0) hx hb d_DR_behind_92 (by decide) ?_
            refine lv_iadd hx hb d_DR_behind_93 ?_
            refine lv_topi (fun y2 ey2 => ?_)
            refine lv_istore_n (lv' := [(2, .int y2), (5, .int 0), (4, .ref (el j)), (3, .int (nI j)), (0, .ref d), (1, .int (nI i))]) hx hb d_DR_behind_94 rfl hl (by decide) rfl (fun ls hl => ?_)
            obtain ⟨y3, ey3⟩ : ∃ y : Int32, y = (nI j) + 1 := ⟨_, rfl⟩
            refine lv_iinc (v := y3) (lv' := [(3, .int y3), (2, .int y2), (5, .int 0), (4, .ref (el j)), (0, .ref d), (1, .int (nI i))]) hx hb d_DR_behind_95 hl (k := 3) rfl (by rw [ey3]; rfl) (by decide) rfl (fun ls hl => ?_)
            refine lv_goto (tgt := 4) hx hb d_DR_behind_98 (by decide) ?_
            exact ih (j + 1) y3 y2 hj (by omega) (by rw [ey3, nI_1]) (by rw [ey2, e2, p_cnt_n (p_bef_n c2 (fun h => c3 ((lg_cmp_eq _ _).mpr h)))]; exact Int32.add_zero _) ls (lv_sub hl [0, 1, 4, 5] rfl)
          · refine lv_iload_n hx hb d_DR_behind_70 rfl (lv_at hl 1 rfl) ?_
            refine lv_iload_n hx hb d_DR_behind_71 rfl (lv_at hl 4 rfl) ?_
            refine lv_icmp_le (tgt := 79) hx hb d_DR_behind_72 (by decide) (fun c4 => ?_) (fun c4 => ?_)
            · refine lv_iconst (v := 0) hx hb d_DR_behind_79 (by decide) ?_
              refine lv_istore (lv' := [(5, .int 0), (4, .ref (el j)), (3, .int (nI j)), (2, .int x2), (0, .ref d), (1, .int (nI i))]) hx hb d_DR_behind_80 hl (by decide) rfl (fun ls hl => ?_)
              refine lv_iload_n hx hb d_DR_behind_82 rfl (lv_at hl 3 rfl) ?_
              refine lv_iload hx hb d_DR_behind_83 (lv_at hl 0 rfl) ?_
              refine lv_if_eq (tgt := 92) hx hb d_DR_behind_85 (by decide) (fun _ => ?_) (fun h => absurd (by decide) h)
              refine lv_iconst (v := 0) hx hb d_DR_behind_92 (by decide) ?_
              refine lv_iadd hx hb d_DR_behind_93 ?_
              refine lv_topi (fun y2 ey2 => ?_)
              refine lv_istore_n (lv' := [(2, .int y2), (5, .int 0), (4, .ref (el j)), (3, .int (nI j)), (0, .ref d), (1, .int (nI i))]) hx hb d_DR_behind_94 rfl hl (by decide) rfl (fun ls hl => ?_)
              obtain ⟨y3, ey3⟩ : ∃ y : Int32, y = (nI j) + 1 := ⟨_, rfl⟩
              refine lv_iinc (v := y3) (lv' := [(3, .int y3), (2, .int y2), (5, .int 0), (4, .ref (el j)), (0, .ref d), (1, .int (nI i))]) hx hb d_DR_behind_95 hl (k := 3) rfl (by rw [ey3]; rfl) (by decide) rfl (fun ls hl => ?_)
              refine lv_goto (tgt := 4) hx hb d_DR_behind_98 (by decide) ?_
              exact ih (j + 1) y3 y2 hj (by omega) (by rw [ey3, nI_1]) (by rw [ey2, e2, p_cnt_n (p_bef_m c2 (Nat.not_lt.mpr ((nI_leI (by omega) (by omega)).mp c4)))]; exact Int32.add_zero _) ls (lv_sub hl [0, 1, 4, 5] rfl)
            · refine lv_iconst (v := 1) hx hb d_DR_behind_75 (by decide) ?_
              refine lv_goto (tgt := 80) hx hb d_DR_behind_76 (by decide) ?_
              refine lv_istore (lv' := [(5, .int 1), (4, .ref (el j)), (3, .int (nI j)), (2, .int x2), (0, .ref d), (1, .int (nI i))]) hx hb d_DR_behind_80 hl (by decide) rfl (fun ls hl => ?_)
              refine lv_iload_n hx hb d_DR_behind_82 rfl (lv_at hl 3 rfl) ?_
              refine lv_iload hx hb d_DR_behind_83 (lv_at hl 0 rfl) ?_
              refine lv_if_eq (tgt := 92) hx hb d_DR_behind_85 (by decide) (fun h => absurd h (by decide)) (fun _ => ?_)
              refine lv_iconst (v := 1) hx hb d_DR_behind_88 (by decide) ?_
              refine lv_goto (tgt := 93) hx hb d_DR_behind_89 (by decide) ?_
              refine lv_iadd hx hb d_DR_behind_93 ?_
              refine lv_topi (fun y2 ey2 => ?_)
              refine lv_istore_n (lv' := [(2, .int y2), (5, .int 1), (4, .ref (el j)), (3, .int (nI j)), (0, .ref d), (1, .int (nI i))]) hx hb d_DR_behind_94 rfl hl (by decide) rfl (fun ls hl => ?_)
              obtain ⟨y3, ey3⟩ : ∃ y : Int32, y = (nI j) + 1 := ⟨_, rfl⟩
              refine lv_iinc (v := y3) (lv' := [(3, .int y3), (2, .int y2), (5, .int 1), (4, .ref (el j)), (0, .ref d), (1, .int (nI i))]) hx hb d_DR_behind_95 hl (k := 3) rfl (by rw [ey3]; rfl) (by decide) rfl (fun ls hl => ?_)
              refine lv_goto (tgt := 4) hx hb d_DR_behind_98 (by decide) ?_
              exact ih (j + 1) y3 y2 hj (by omega) (by rw [ey3, nI_1]) (by rw [ey2, e2, nI_1, p_cnt_y (p_bef_e ((lg_cmp_eq _ _).mp c3) (Nat.not_le.mp (fun h => c4 ((nI_leI (by omega) (by omega)).mpr h))))]) ls (lv_sub hl [0, 1, 4, 5] rfl)
  exact loop (n + 1) 0 0 0 (Nat.zero_le _) (by omega) nI_0.symm nI_0.symm ls (lv_sub hl [0, 1, 2, 3] rfl)
theorem d_DR_isLike_0 : decode b_DR_isLike 0 = .ok (.iconst 1, 1) := by decide +kernel
theorem d_DR_isLike_1 : decode b_DR_isLike 1 = .ok (.istore_n 2, 1) := by decide +kernel
theorem d_DR_isLike_2 : decode b_DR_isLike 2 = .ok (.iconst 0, 1) := by decide +kernel
theorem d_DR_isLike_3 : decode b_DR_isLike 3 = .ok (.istore_n 3, 1) := by decide +kernel
theorem d_DR_isLike_4 : decode b_DR_isLike 4 = .ok (.iload_n 3, 1) := by decide +kernel
theorem d_DR_isLike_5 : decode b_DR_isLike 5 = .ok (.aload_n 0, 1) := by decide +kernel
theorem d_DR_isLike_6 : decode b_DR_isLike 6 = .ok (.getfield 12, 3) := by decide +kernel
theorem d_DR_isLike_9 : decode b_DR_isLike 9 = .ok (.invokevirtual 42, 3) := by decide +kernel
theorem d_DR_isLike_12 : decode b_DR_isLike 12 = .ok (.if_icmp .ge 67, 3) := by decide +kernel
theorem d_DR_isLike_15 : decode b_DR_isLike 15 = .ok (.iconst 0, 1) := by decide +kernel
theorem d_DR_isLike_16 : decode b_DR_isLike 16 = .ok (.istore 4, 2) := by decide +kernel
theorem d_DR_isLike_18 : decode b_DR_isLike 18 = .ok (.iload 4, 2) := by decide +kernel
theorem d_DR_isLike_20 : decode b_DR_isLike 20 = .ok (.iconst 4, 1) := by decide +kernel
theorem d_DR_isLike_21 : decode b_DR_isLike 21 = .ok (.if_icmp .gt 52, 3) := by decide +kernel
theorem d_DR_isLike_24 : decode b_DR_isLike 24 = .ok (.iload_n 2, 1) := by decide +kernel
theorem d_DR_isLike_25 : decode b_DR_isLike 25 = .ok (.aload_n 0, 1) := by decide +kernel
theorem d_DR_isLike_26 : decode b_DR_isLike 26 = .ok (.getfield 12, 3) := by decide +kernel
theorem d_DR_isLike_29 : decode b_DR_isLike 29 = .ok (.iload_n 3, 1) := by decide +kernel
theorem d_DR_isLike_30 : decode b_DR_isLike 30 = .ok (.invokevirtual 46, 3) := by decide +kernel
theorem d_DR_isLike_33 : decode b_DR_isLike 33 = .ok (.checkcast 26, 3) := by decide +kernel
theorem d_DR_isLike_36 : decode b_DR_isLike 36 = .ok (.iload 4, 2) := by decide +kernel
theorem d_DR_isLike_38 : decode b_DR_isLike 38 = .ok (.invokevirtual 65, 3) := by decide +kernel
theorem d_DR_isLike_41 : decode b_DR_isLike 41 = .ok (.aload_n 1, 1) := by decide +kernel
theorem d_DR_isLike_42 : decode b_DR_isLike 42 = .ok (.getfield 12, 3) := by decide +kernel
theorem d_DR_isLike_45 : decode b_DR_isLike 45 = .ok (.iload_n 3, 1) := by decide +kernel
theorem d_DR_isLike_46 : decode b_DR_isLike 46 = .ok (.invokevirtual 46, 3) := by decide +kernel
theorem d_DR_isLike_49 : decode b_DR_isLike 49 = .ok (.checkcast 26, 3) := by decide +kernel
theorem d_DR_isLike_52 : decode b_DR_isLike 52 = .ok (.iload 4, 2) := by decide +kernel
theorem d_DR_isLike_54 : decode b_DR_isLike 54 = .ok (.invokevirtual 65, 3) := by decide +kernel
theorem d_DR_isLike_57 : decode b_DR_isLike 57 = .ok (.if_icmp .ne 7, 3) := by decide +kernel
theorem d_DR_isLike_60 : decode b_DR_isLike 60 = .ok (.iconst 1, 1) := by decide +kernel
theorem d_DR_isLike_61 : decode b_DR_isLike 61 = .ok (.goto 4, 3) := by decide +kernel
theorem d_DR_isLike_64 : decode b_DR_isLike 64 = .ok (.iconst 0, 1) := by decide +kernel
theorem d_DR_isLike_65 : decode b_DR_isLike 65 = .ok (.iand, 1) := by decide +kernel
theorem d_DR_isLike_66 : decode b_DR_isLike 66 = .ok (.istore_n 2, 1) := by decide +kernel
theorem d_DR_isLike_67 : decode b_DR_isLike 67 = .ok (.iinc 4 1, 3) := by decide +kernel
theorem d_DR_isLike_70 : decode b_DR_isLike 70 = .ok (.goto (-52), 3) := by decide +kernel
theorem d_DR_isLike_73 : decode b_DR_isLike 73 = .ok (.iinc 3 1, 3) := by decide +kernel
theorem d_DR_isLike_76 : decode b_DR_isLike 76 = .ok (.goto (-72), 3) := by decide +kernel
theorem d_DR_isLike_79 : decode b_DR_isLike 79 = .ok (.iload_n 2, 1) := by decide +kernel
theorem d_DR_isLike_80 : decode b_DR_isLike 80 = .ok (.ireturn, 1) := by decide +kernel
abbrev rm_DR_isLike : Room := { frames := 3, cells := 0, slots := 0, locals := 66 }
set_option maxHeartbeats 4000000 in
set_option maxRecDepth 100000 in
theorem c_DR_isLike (l : Launch) (D : va_G) (t0 d L arr n : Nat) (el : Nat → Nat) (zf : Nat → Int64) (ff : Nat → Int32) (sd : Int64) (kd : Int32) (d2 L2 arr2 : Nat) (el2 : Nat → Nat) (yf : Nat → Int64) (gf : Nat → Int32) (sd2 : Int64) (kd2 : Int32) (hff : ∀ i, i < n → ff i = 0 ∨ ff i = 1) (hgf : ∀ i, i < n → gf i = 0 ∨ gf i = 1) (hn0 : 0 < n) : Met l y_DR_isLike (Cond.code y_DR_isLike b_DR_isLike 5 (some .boolean) :: gw) rm_DR_isLike (cP D [.ref d, .ref d2] (fun H => dw D t0 d L arr n el zf ff sd kd H ∧ dw D t0 d2 L2 arr2 n el2 yf gf sd2 kd2 H)) (rV (.int (p_tf (∀ i, i < n → ∀ w, w < 5 → p_pf (zf i) (ff i) w = p_pf (yf i) (gf i) w)))) 0 0 (fun _ => False) := by
  refine mt_B (by decide) (Nat.le_of_ble_eq_true rfl) ?_
  intro p e s m below meth c ls ⟨hx, hb, hr, hlocks, hin, hml, hown, hg⟩ ⟨hk, hp⟩ hl
  have hown : s.vm.findClass R_DR = some m.cls := hown
  have hl : lv_has ls 5 [(0, .ref d), (1, .ref d2)] := hl
  obtain ⟨hp, hp2⟩ := hp
  obtain ⟨hd, ⟨mc, hL, hcase⟩, hpt⟩ := hp
  rcases hcase with h0 | ⟨hne, cap, f, haq, hnc, hc1, hc2, hf⟩
  · exact absurd h0.2 (by omega)
  obtain ⟨hd2, ⟨mc2, hL2, hcase⟩, hpt2⟩ := hp2
  rcases hcase with h0 | ⟨hne2, cap2, f2, haq2, hnc2, hc12, hc22, hf2⟩
  · exact absurd h0.2 (by omega)
  refine lv_iconst (v := 1) hx hb d_DR_isLike_0 (by decide) ?_
  refine lv_istore_n (lv' := [(2, .int 1), (0, .ref d), (1, .ref d2)]) hx hb d_DR_isLike_1 rfl hl (by decide) rfl (fun ls hl => ?_)
  refine lv_iconst (v := 0) hx hb d_DR_isLike_2 (by decide) ?_
  refine lv_istore_n (lv' := [(3, .int 0), (2, .int 1), (0, .ref d), (1, .ref d2)]) hx hb d_DR_isLike_3 rfl hl (by decide) rfl (fun ls hl => ?_)
  have loop : ∀ (fu : Nat) (j : Nat) (x3 x2 : Int32), (j ≤ n) → (n - j < fu) → (x3 = nI j) → (x2 = p_tf (∀ i, i < j → ∀ w, w < 5 → p_pf (zf i) (ff i) w = p_pf (yf i) (gf i) w)) → ∀ ls : Array Slot, lv_has ls 5 [(3, .int x3), (2, .int x2), (0, .ref d), (1, .ref d2)] → W p l e rm_DR_isLike s m ([.ref d, .ref d2] : List Value).toArray below meth c s.heap [] 0 0 (MQ below (rV (.int (p_tf (∀ i, i < n → ∀ w, w < 5 → p_pf (zf i) (ff i) w = p_pf (yf i) (gf i) w)))) ([.ref d, .ref d2] : List Value).toArray s 0 0 (fun _ => False)) (F0 m 4 ls []) := by
    intro fu
    induction fu with
    | zero => intro j x3 x2 h1 h2 e3 e2; exact absurd h2 (Nat.not_lt_zero _)
    | succ fu ih =>
      intro j x3 x2 h1 h2 e3 e2 ls hl
      refine lv_iload_n hx hb d_DR_isLike_4 rfl (lv_at hl 0 rfl) ?_
      refine lv_aload_n hx hb d_DR_isLike_5 rfl (lv_at hl 2 rfl) ?_
      refine x_get hx hb hg hown hk hd rfl i_DR 2 (by decide) w_195 rfl d_DR_isLike_6 ?_
      refine k_V hx hb hml hown hg hk L [] [.int x3] (c_AL_size l D L arr (nI n) mc) z_AL_size w_164 w_165 w_166 (rc_ob hk (hL) rfl) (hL) d_DR_isLike_9 rfl rfl ⟨Nat.le_of_ble_eq_true rfl, Nat.le_of_ble_eq_true rfl⟩ rfl hl.1 rfl (Nat.le_of_ble_eq_true rfl) ⟨Nat.zero_le _, Nat.zero_le _⟩ ?_
      refine lv_icmp_ge (tgt := 79) hx hb d_DR_isLike_12 (by decide) (fun c1 => ?_) (fun c1 => ?_)
      · have hj : j = n := by have := (q_le rfl e3 (by omega) (by omega)).mp c1; omega
        refine lv_iload_n hx hb d_DR_isLike_79 rfl (lv_at hl 1 rfl) ?_
        exact e_z hx hb hr hlocks (by rw [e2, hj]) (e2 ▸ p_tf_01 _) d_DR_isLike_80
      · have hj : j < n := Nat.not_le.mp (fun h => c1 ((q_le rfl e3 (by omega) (by omega)).mpr h))
        subst e3
        refine lv_iconst (v := 0) hx hb d_DR_isLike_15 (by decide) ?_
        refine lv_istore (lv' := [(4, .int 0), (3, .int (nI j)), (2, .int x2), (0, .ref d), (1, .ref d2)]) hx hb d_DR_isLike_16 hl (by decide) rfl (fun ls hl => ?_)
        have loop2 : ∀ (fu2 : Nat) (q : Nat) (x4 x2 : Int32), (q ≤ 5) → (5 - q < fu2) → (x4 = nI q) → (x2 = p_tf ((∀ i, i < j → ∀ w, w < 5 → p_pf (zf i) (ff i) w = p_pf (yf i) (gf i) w) ∧ ∀ u, u < q → p_pf (zf j) (ff j) u = p_pf (yf j) (gf j) u)) → ∀ ls : Array Slot, lv_has ls 5 [(4, .int x4), (2, .int x2), (3, .int (nI j)), (0, .ref d), (1, .ref d2)] → W p l e rm_DR_isLike s m ([.ref d, .ref d2] : List Value).toArray below meth c s.heap [] 0 0 (MQ below (rV (.int (p_tf (∀ i, i < n → ∀ w, w < 5 → p_pf (zf i) (ff i) w = p_pf (yf i) (gf i) w)))) ([.ref d, .ref d2] : List Value).toArray s 0 0 (fun _ => False)) (F0 m 18 ls []) := by
          intro fu2
          induction fu2 with
          | zero => intro q x4 x2 h6 h8 e4 f2x; exact absurd h8 (Nat.not_lt_zero _)
          | succ fu2 ih2 =>
            intro q x4 x2 h6 h8 e4 f2x ls hl
            refine lv_iload hx hb d_DR_isLike_18 (lv_at hl 0 rfl) ?_
            refine lv_iconst (v := 4) hx hb d_DR_isLike_20 (by decide) ?_
            refine lv_icmp_gt (tgt := 73) hx hb d_DR_isLike_21 (by decide) (fun c2 => ?_) (fun c2 => ?_)
            · have hq : q = 5 := by have := (q_lt (show (4 : Int32) = nI 4 from rfl) e4 (by omega) (by omega)).mp c2; omega
              subst hq
              obtain ⟨y3, ey3⟩ : ∃ y : Int32, y = (nI j) + 1 := ⟨_, rfl⟩
              refine lv_iinc (v := y3) (lv' := [(3, .int y3), (4, .int x4), (2, .int x2), (0, .ref d), (1, .ref d2)]) hx hb d_DR_isLike_73 hl (k := 2) rfl (by rw [ey3]; rfl) (by decide) rfl (fun ls hl => ?_)
              refine lv_goto (tgt := 4) hx hb d_DR_isLike_76 (by decide) ?_
              exact ih (j + 1) y3 x2 hj (by omega) (by rw [ey3, nI_1]) (by rw [f2x]; exact p_tf_c ⟨fun h => lt_s h.1 h.2, fun h => ⟨fun i hi => h i (by omega), h j (by omega)⟩⟩) ls (lv_sub hl [0, 2, 3, 4] rfl)
            · have hq : q < 5 := by have := Nat.not_lt.mp (fun h => c2 ((q_lt (show (4 : Int32) = nI 4 from rfl) e4 (by omega) (by omega)).mpr h)); omega
              subst e4
              refine lv_iload_n hx hb d_DR_isLike_24 rfl (lv_at hl 1 rfl) ?_
              refine lv_aload_n hx hb d_DR_isLike_25 rfl (lv_at hl 3 rfl) ?_
              refine x_get hx hb hg hown hk hd rfl i_DR 2 (by decide) w_195 rfl d_DR_isLike_26 ?_
              refine lv_iload_n hx hb d_DR_isLike_29 rfl (lv_at hl 2 rfl) ?_
              refine k_V hx hb hml hown hg hk L [.int (nI j)] [.int x2] (c_AL_get l D L arr n cap j (el j) mc f (hj) hnc (by omega) (hf j (hj))) z_AL_get w_168 w_169 w_170 (rc_ob hk hL rfl) (⟨hL, haq⟩) d_DR_isLike_30 rfl rfl ⟨Nat.le_of_ble_eq_true rfl, Nat.le_of_ble_eq_true rfl⟩ rfl hl.1 rfl (Nat.le_of_ble_eq_true rfl) ⟨Nat.zero_le _, Nat.zero_le _⟩ ?_
              refine va_castY hx hb hown (hg _ w_84) (hk.m 10 rfl) (rc_ob hk (hpt j hj) rfl) d_DR_isLike_33 ?_
              refine lv_iload hx hb d_DR_isLike_36 (lv_at hl 0 rfl) ?_
              refine k_V hx hb hml hown hg hk (el j) [.int (nI q)] [.int x2] (c_PT_fact l D (el j) (zf j) (ff j) (hff j hj) q hq) z_PT_fact w_295 w_224 w_225 (rc_ob hk (hpt j hj) rfl) (hpt j hj) d_DR_isLike_38 rfl rfl ⟨Nat.le_of_ble_eq_true rfl, Nat.le_of_ble_eq_true rfl⟩ rfl hl.1 rfl (Nat.le_of_ble_eq_true rfl) ⟨Nat.zero_le _, Nat.zero_le _⟩ ?_
              refine lv_aload_n hx hb d_DR_isLike_41 rfl (lv_at hl 4 rfl) ?_
              refine x_get hx hb hg hown hk hd2 rfl i_DR 2 (by decide) w_195 rfl d_DR_isLike_42 ?_
              refine lv_iload_n hx hb d_DR_isLike_45 rfl (lv_at hl 2 rfl) ?_
              refine k_V hx hb hml hown hg hk L2 [.int (nI j)] [.int (p_pf (zf j) (ff j) q), .int x2] (c_AL_get l D L2 arr2 n cap2 j (el2 j) mc2 f2 (hj) hnc2 (by omega) (hf2 j (hj))) z_AL_get w_168 w_169 w_170 (rc_ob hk hL2 rfl) (⟨hL2, haq2⟩) d_DR_isLike_46 rfl rfl ⟨Nat.le_of_ble_eq_true rfl, Nat.le_of_ble_eq_true rfl⟩ rfl hl.1 rfl (Nat.le_of_ble_eq_true rfl) ⟨Nat.zero_le _, Nat.zero_le _⟩ ?_
              refine va_castY hx hb hown (hg _ w_84) (hk.m 10 rfl) (rc_ob hk (hpt2 j hj) rfl) d_DR_isLike_49 ?_
              refine lv_iload hx hb d_DR_isLike_52 (lv_at hl 0 rfl) ?_
              refine k_V hx hb hml hown hg hk (el2 j) [.int (nI q)] [.int (p_pf (zf j) (ff j) q), .int x2] (c_PT_fact l D (el2 j) (yf j) (gf j) (hgf j hj) q hq) z_PT_fact w_295 w_224 w_225 (rc_ob hk (hpt2 j hj) rfl) (hpt2 j hj) d_DR_isLike_54 rfl rfl ⟨Nat.le_of_ble_eq_true rfl, Nat.le_of_ble_eq_true rfl⟩ rfl hl.1 rfl (Nat.le_of_ble_eq_true rfl) ⟨Nat.zero_le _, Nat.zero_le _⟩ ?_
              refine lv_icmp_ne (tgt := 64) hx hb d_DR_isLike_57 (by decide) (fun c3 => ?_) (fun c3 => ?_)
              · refine lv_iconst (v := 0) hx hb d_DR_isLike_64 (by decide) ?_
                refine lv_iand hx hb d_DR_isLike_65 ?_
                refine lv_topi (fun y2 ey2 => ?_)
                refine lv_istore_n (lv' := [(2, .int y2), (4, .int (nI q)), (3, .int (nI j)), (0, .ref d), (1, .ref d2)]) hx hb d_DR_isLike_66 rfl hl (by decide) rfl (fun ls hl => ?_)
                obtain ⟨y4, ey4⟩ : ∃ y : Int32, y = (nI q) + 1 := ⟨_, rfl⟩
                refine lv_iinc (v := y4) (lv' := [(4, .int y4), (2, .int y2), (3, .int (nI j)), (0, .ref d), (1, .ref d2)]) hx hb d_DR_isLike_67 hl (k := 1) rfl (by rw [ey4]; rfl) (by decide) rfl (fun ls hl => ?_)
                refine lv_goto (tgt := 18) hx hb d_DR_isLike_70 (by decide) ?_
                exact ih2 (q + 1) y4 y2 (by omega) (by omega) (by rw [ey4, nI_1]) (by rw [ey2, f2x, p_and0]; exact (p_tf_f (fun h => c3 (h.2 q (by omega)))).symm) ls (lv_sub hl [0, 1, 2, 3, 4] rfl)
              · refine lv_iconst (v := 1) hx hb d_DR_isLike_60 (by decide) ?_
                refine lv_goto (tgt := 65) hx hb d_DR_isLike_61 (by decide) ?_
                refine lv_iand hx hb d_DR_isLike_65 ?_
                refine lv_topi (fun y2 ey2 => ?_)
                refine lv_istore_n (lv' := [(2, .int y2), (4, .int (nI q)), (3, .int (nI j)), (0, .ref d), (1, .ref d2)]) hx hb d_DR_isLike_66 rfl hl (by decide) rfl (fun ls hl => ?_)
                obtain ⟨y4, ey4⟩ : ∃ y : Int32, y = (nI q) + 1 := ⟨_, rfl⟩
                refine lv_iinc (v := y4) (lv' := [(4, .int y4), (2, .int y2), (3, .int (nI j)), (0, .ref d), (1, .ref d2)]) hx hb d_DR_isLike_67 hl (k := 1) rfl (by rw [ey4]; rfl) (by decide) rfl (fun ls hl => ?_)
                refine lv_goto (tgt := 18) hx hb d_DR_isLike_70 (by decide) ?_
                exact ih2 (q + 1) y4 y2 (by omega) (by omega) (by rw [ey4, nI_1]) (by rw [ey2, f2x, p_and1]; exact p_tf_c ⟨fun h => ⟨h.1, lt_s h.2 c3⟩, fun h => ⟨h.1, fun u hu => h.2 u (by omega)⟩⟩) ls (lv_sub hl [0, 1, 2, 3, 4] rfl)
        exact loop2 6 0 0 x2 (Nat.zero_le _) (by omega) nI_0.symm (by rw [e2]; exact p_tf_c ⟨fun h => ⟨h, fun u hu => absurd hu (Nat.not_lt_zero _)⟩, fun h => h.1⟩) ls (lv_sub hl [0, 2, 1, 3, 4] rfl)
  exact loop (n + 1) 0 0 1 (Nat.zero_le _) (by omega) nI_0.symm (p_tf_t (fun i hi => absurd hi (Nat.not_lt_zero _))).symm ls (lv_sub hl [0, 1, 2, 3] rfl)
theorem d_DR_spoil_0 : decode b_DR_spoil 0 = .ok (.iconst 0, 1) := by decide +kernel
theorem d_DR_spoil_1 : decode b_DR_spoil 1 = .ok (.istore_n 1, 1) := by decide +kernel
theorem d_DR_spoil_2 : decode b_DR_spoil 2 = .ok (.iload_n 1, 1) := by decide +kernel
theorem d_DR_spoil_3 : decode b_DR_spoil 3 = .ok (.aload_n 0, 1) := by decide +kernel
theorem d_DR_spoil_4 : decode b_DR_spoil 4 = .ok (.getfield 12, 3) := by decide +kernel
theorem d_DR_spoil_7 : decode b_DR_spoil 7 = .ok (.invokevirtual 42, 3) := by decide +kernel
theorem d_DR_spoil_10 : decode b_DR_spoil 10 = .ok (.if_icmp .ge 45, 3) := by decide +kernel
theorem d_DR_spoil_13 : decode b_DR_spoil 13 = .ok (.aload_n 0, 1) := by decide +kernel
theorem d_DR_spoil_14 : decode b_DR_spoil 14 = .ok (.getfield 12, 3) := by decide +kernel
theorem d_DR_spoil_17 : decode b_DR_spoil 17 = .ok (.iload_n 1, 1) := by decide +kernel
theorem d_DR_spoil_18 : decode b_DR_spoil 18 = .ok (.invokevirtual 46, 3) := by decide +kernel
theorem d_DR_spoil_21 : decode b_DR_spoil 21 = .ok (.checkcast 26, 3) := by decide +kernel
theorem d_DR_spoil_24 : decode b_DR_spoil 24 = .ok (.aload_n 0, 1) := by decide +kernel
theorem d_DR_spoil_25 : decode b_DR_spoil 25 = .ok (.iload_n 1, 1) := by decide +kernel
theorem d_DR_spoil_26 : decode b_DR_spoil 26 = .ok (.invokevirtual 57, 3) := by decide +kernel
theorem d_DR_spoil_29 : decode b_DR_spoil 29 = .ok (.aload_n 0, 1) := by decide +kernel
theorem d_DR_spoil_30 : decode b_DR_spoil 30 = .ok (.getfield 12, 3) := by decide +kernel
theorem d_DR_spoil_33 : decode b_DR_spoil 33 = .ok (.invokevirtual 42, 3) := by decide +kernel
theorem d_DR_spoil_36 : decode b_DR_spoil 36 = .ok (.iconst 2, 1) := by decide +kernel
theorem d_DR_spoil_37 : decode b_DR_spoil 37 = .ok (.idiv, 1) := by decide +kernel
theorem d_DR_spoil_38 : decode b_DR_spoil 38 = .ok (.if_icmp .ge 7, 3) := by decide +kernel
theorem d_DR_spoil_41 : decode b_DR_spoil 41 = .ok (.iconst 1, 1) := by decide +kernel
theorem d_DR_spoil_42 : decode b_DR_spoil 42 = .ok (.goto 4, 3) := by decide +kernel
theorem d_DR_spoil_45 : decode b_DR_spoil 45 = .ok (.iconst 0, 1) := by decide +kernel
theorem d_DR_spoil_46 : decode b_DR_spoil 46 = .ok (.putfield 61, 3) := by decide +kernel
theorem d_DR_spoil_49 : decode b_DR_spoil 49 = .ok (.iinc 1 1, 3) := by decide +kernel
theorem d_DR_spoil_52 : decode b_DR_spoil 52 = .ok (.goto (-50), 3) := by decide +kernel
theorem d_DR_spoil_55 : decode b_DR_spoil 55 = .ok (.return_, 1) := by decide +kernel
abbrev rm_DR_spoil : Room := { frames := 4, cells := 0, slots := 0, locals := 91 }
set_option maxHeartbeats 4000000 in
set_option maxRecDepth 100000 in
theorem c_DR_spoil (l : Launch) (D : va_G) (t0 d L arr n : Nat) (el : Nat → Nat) (zf : Nat → Int64) (sd : Int64) (kd : Int32) (hn0 : 0 < n) (hinj : ∀ i j, i < n → j < n → el i = el j → i = j) : Met l y_DR_spoil (Cond.code y_DR_spoil b_DR_spoil 2 none :: gw) rm_DR_spoil (cP D [.ref d] (dw D t0 d L arr n el zf (fun _ => 0) sd kd)) (mV (fun q => ∃ i, i < n ∧ q = el i) (fun v H => v = none ∧ dw D t0 d L arr n el zf (fun i => if p_cnt zf i n < n / 2 then 1 else 0) sd kd H)) 0 0 (fun q => ∃ i, i < n ∧ q = el i) := by
  refine mt_B (by decide) (Nat.le_of_ble_eq_true rfl) ?_
  intro p e s m below meth c ls ⟨hx, hb, hr, hlocks, hin, hml, hown, hg⟩ ⟨hk, hp⟩ hl
  have hown : s.vm.findClass R_DR = some m.cls := hown
  have hS : va_S (fun q => ∃ i, i < n ∧ q = el i) s.heap s.heap [] := va_S.rf
  have hl : lv_has ls 2 [(0, .ref d)] := hl
  refine lv_iconst (v := 0) hx hb d_DR_spoil_0 (by decide) ?_
  refine lv_istore_n (lv' := [(1, .int 0), (0, .ref d)]) hx hb d_DR_spoil_1 rfl hl (by decide) rfl (fun ls hl => ?_)
  have loop : ∀ (fu : Nat) (j : Nat) (x1 : Int32) (H : Heap) (locs : List Loc), (j ≤ n) → (n - j < fu) → (x1 = nI j) → (dw D t0 d L arr n el zf (fun i => if i < j then (if p_cnt zf i n < n / 2 then 1 else 0) else 0) sd kd H) → (va_S (fun q => ∃ i, i < n ∧ q = el i) s.heap H locs) → ∀ ls : Array Slot, lv_has ls 2 [(1, .int x1), (0, .ref d)] → W p l e rm_DR_spoil s m ([.ref d] : List Value).toArray below meth c H locs 0 0 (MQ below (mV (fun q => ∃ i, i < n ∧ q = el i) (fun v H => v = none ∧ dw D t0 d L arr n el zf (fun i => if p_cnt zf i n < n / 2 then 1 else 0) sd kd H)) ([.ref d] : List Value).toArray s 0 0 (fun q => ∃ i, i < n ∧ q = el i)) (F0 m 2 ls []) := by
    intro fu
    induction fu with
    | zero => intro j x1 H locs h1 h2 e1 hw hS; exact absurd h2 (Nat.not_lt_zero _)
    | succ fu ih =>
      intro j x1 H locs h1 h2 e1 hw hS ls hl
      obtain ⟨hd, ⟨mc, hL, hcase⟩, hpt⟩ := id hw
      rcases hcase with h0 | ⟨hne, cap, f, haq, hnc, hc1, hc2, hf⟩
      · exact absurd h0.2 (by omega)
      refine lv_iload_n hx hb d_DR_spoil_2 rfl (lv_at hl 0 rfl) ?_
      refine lv_aload_n hx hb d_DR_spoil_3 rfl (lv_at hl 1 rfl) ?_
      refine x_get hx hb hg hown hk hd rfl i_DR 2 (by decide) w_195 rfl d_DR_spoil_4 ?_
      refine k_V hx hb hml hown hg hk L [] [.int x1] (c_AL_size l D L arr (nI n) mc) z_AL_size w_164 w_165 w_166 (rc_ob hk (hL) rfl) (hL) d_DR_spoil_7 rfl rfl ⟨Nat.le_of_ble_eq_true rfl, Nat.le_of_ble_eq_true rfl⟩ rfl hl.1 rfl (Nat.le_of_ble_eq_true rfl) ⟨Nat.zero_le _, Nat.zero_le _⟩ ?_
      refine lv_icmp_ge (tgt := 55) hx hb d_DR_spoil_10 (by decide) (fun c1 => ?_) (fun c1 => ?_)
      · have hj : j = n := by have := (q_le rfl e1 (by omega) (by omega)).mp c1; omega
        exact f_v hx hb hr hlocks hS ⟨rfl, hd, ⟨mc, hL, Or.inr ⟨hne, cap, f, haq, hnc, hc1, hc2, hf⟩⟩, fun i hi => by have h9 := hpt i hi; dsimp only at h9 ⊢; rw [if_pos (show i < j by omega)] at h9; exact h9⟩ d_DR_spoil_55
      · have hj : j < n := Nat.not_le.mp (fun h => c1 ((q_le rfl e1 (by omega) (by omega)).mpr h))
        subst e1
        refine lv_aload_n hx hb d_DR_spoil_13 rfl (lv_at hl 1 rfl) ?_
        refine x_get hx hb hg hown hk hd rfl i_DR 2 (by decide) w_195 rfl d_DR_spoil_14 ?_
        refine lv_iload_n hx hb d_DR_spoil_17 rfl (lv_at hl 0 rfl) ?_
        refine k_V hx hb hml hown hg hk L [.int (nI j)] [] (c_AL_get l D L arr n cap j (el j) mc f (hj) hnc (by omega) (hf j (hj))) z_AL_get w_168 w_169 w_170 (rc_ob hk hL rfl) (⟨hL, haq⟩) d_DR_spoil_18 rfl rfl ⟨Nat.le_of_ble_eq_true rfl, Nat.le_of_ble_eq_true rfl⟩ rfl hl.1 rfl (Nat.le_of_ble_eq_true rfl) ⟨Nat.zero_le _, Nat.zero_le _⟩ ?_
        refine va_castY hx hb hown (hg _ w_84) (hk.m 10 rfl) (rc_ob hk (hpt j hj) rfl) d_DR_spoil_21 ?_
        refine lv_aload_n hx hb d_DR_spoil_24 rfl (lv_at hl 1 rfl) ?_
        refine lv_iload_n hx hb d_DR_spoil_25 rfl (lv_at hl 0 rfl) ?_
        refine k_V hx hb hml hown hg hk d [.int (nI j)] [.ref (el j)] (c_DR_behind l D t0 d L arr n el zf _ sd kd j hj) z_DR_behind w_182 w_184 s_DR_behind (rc_ob hk hd rfl) (hw) d_DR_spoil_26 rfl rfl ⟨Nat.le_of_ble_eq_true rfl, Nat.le_of_ble_eq_true rfl⟩ rfl hl.1 rfl (Nat.le_of_ble_eq_true rfl) ⟨Nat.zero_le _, Nat.zero_le _⟩ ?_
        refine lv_aload_n hx hb d_DR_spoil_29 rfl (lv_at hl 1 rfl) ?_
        refine x_get hx hb hg hown hk hd rfl i_DR 2 (by decide) w_195 rfl d_DR_spoil_30 ?_
        refine k_V hx hb hml hown hg hk L [] [.int (nI (p_cnt zf j n)), .ref (el j)] (c_AL_size l D L arr (nI n) mc) z_AL_size w_164 w_165 w_166 (rc_ob hk (hL) rfl) (hL) d_DR_spoil_33 rfl rfl ⟨Nat.le_of_ble_eq_true rfl, Nat.le_of_ble_eq_true rfl⟩ rfl hl.1 rfl (Nat.le_of_ble_eq_true rfl) ⟨Nat.zero_le _, Nat.zero_le _⟩ ?_
        refine lv_iconst (v := 2) hx hb d_DR_spoil_36 (by decide) ?_
        refine lv_idiv hx hb d_DR_spoil_37 (by decide) ?_
        have hcl := p_cnt_le zf j n
        refine lv_icmp_ge (tgt := 45) hx hb d_DR_spoil_38 (by decide) (fun c2 => ?_) (fun c2 => ?_)
        · refine lv_iconst (v := 0) hx hb d_DR_spoil_45 (by decide) ?_
          refine x_putN hx hb hg hown hk (hpt j hj) hS ⟨j, hj, rfl⟩ rfl i_PT T_PT k_PT n_PT 1 (by decide) 2 rfl rfl (by decide +kernel) (ty := .boolean) rfl rfl (Nat.le_of_ble_eq_true rfl) d_DR_spoil_46 (fun H1 locs1 ho hz1 ho1 hS => ?_)
          obtain ⟨y1, ey1⟩ : ∃ y : Int32, y = (nI j) + 1 := ⟨_, rfl⟩
          refine lv_iinc (v := y1) (lv' := [(1, .int y1), (0, .ref d)]) hx hb d_DR_spoil_49 hl (k := 0) rfl (by rw [ey1]; rfl) (by decide) rfl (fun ls hl => ?_)
          refine lv_goto (tgt := 2) hx hb d_DR_spoil_52 (by decide) ?_
          have hjn := kd_ob (hpt j hj)
          have hw2 : dw D t0 d L arr n el zf (fun i => if i < j + 1 then (if p_cnt zf i n < n / 2 then 1 else 0) else 0) sd kd H1 := by
            refine ⟨va_at.kept hd (ho1 _ (kd_ne hk (kd_ob hd) hjn (by decide) (by decide) (by decide))), ⟨mc, va_at.kept hL (ho1 _ (kd_ne hk (kd_ob hL) hjn (by decide) (by decide) (by decide))), Or.inr ⟨hne, cap, f, va_at.kept haq (ho1 _ (kd_ne hk (kd_aq haq) hjn (by decide) (by decide) (by decide))), hnc, hc1, hc2, hf⟩⟩, fun i hi => ?_⟩
            by_cases hij : i = j
            · subst hij; dsimp only; rw [if_pos (Nat.lt_succ_self i), if_neg (Nat.not_lt.mpr ((q_le (q_half (by omega)) rfl (by omega) (by omega)).mp c2))]; exact ho
            · have h9 := va_at.kept (hpt i hi) (ho1 _ (fun e9 => hij (hinj i j hi hj e9)))
              dsimp only at h9 ⊢
              by_cases hlt : i < j
              · rw [if_pos hlt] at h9; rw [if_pos (Nat.lt_succ_of_lt hlt)]; exact h9
              · rw [if_neg hlt] at h9; rw [if_neg (by omega)]; exact h9
          exact ih (j + 1) y1 H1 locs1 hj (by omega) (by rw [ey1, nI_1]) hw2 hS ls (lv_sub hl [0, 1] rfl)
        · refine lv_iconst (v := 1) hx hb d_DR_spoil_41 (by decide) ?_
          refine lv_goto (tgt := 46) hx hb d_DR_spoil_42 (by decide) ?_
          refine x_putN hx hb hg hown hk (hpt j hj) hS ⟨j, hj, rfl⟩ rfl i_PT T_PT k_PT n_PT 1 (by decide) 2 rfl rfl (by decide +kernel) (ty := .boolean) rfl rfl (Nat.le_of_ble_eq_true rfl) d_DR_spoil_46 (fun H1 locs1 ho hz1 ho1 hS => ?_)
          obtain ⟨y1, ey1⟩ : ∃ y : Int32, y = (nI j) + 1 := ⟨_, rfl⟩
          refine lv_iinc (v := y1) (lv' := [(1, .int y1), (0, .ref d)]) hx hb d_DR_spoil_49 hl (k := 0) rfl (by rw [ey1]; rfl) (by decide) rfl (fun ls hl => ?_)
          refine lv_goto (tgt := 2) hx hb d_DR_spoil_52 (by decide) ?_
          have hjn := kd_ob (hpt j hj)
          have hw2 : dw D t0 d L arr n el zf (fun i => if i < j + 1 then (if p_cnt zf i n < n / 2 then 1 else 0) else 0) sd kd H1 := by
            refine ⟨va_at.kept hd (ho1 _ (kd_ne hk (kd_ob hd) hjn (by decide) (by decide) (by decide))), ⟨mc, va_at.kept hL (ho1 _ (kd_ne hk (kd_ob hL) hjn (by decide) (by decide) (by decide))), Or.inr ⟨hne, cap, f, va_at.kept haq (ho1 _ (kd_ne hk (kd_aq haq) hjn (by decide) (by decide) (by decide))), hnc, hc1, hc2, hf⟩⟩, fun i hi => ?_⟩
            by_cases hij : i = j
            · subst hij; dsimp only; rw [if_pos (Nat.lt_succ_self i), if_pos (Nat.not_le.mp (fun h => c2 ((q_le (q_half (by omega)) rfl (by omega) (by omega)).mpr h)))]; exact ho
            · have h9 := va_at.kept (hpt i hi) (ho1 _ (fun e9 => hij (hinj i j hi hj e9)))
              dsimp only at h9 ⊢
              by_cases hlt : i < j
              · rw [if_pos hlt] at h9; rw [if_pos (Nat.lt_succ_of_lt hlt)]; exact h9
              · rw [if_neg hlt] at h9; rw [if_neg (by omega)]; exact h9
          exact ih (j + 1) y1 H1 locs1 hj (by omega) (by rw [ey1, nI_1]) hw2 hS ls (lv_sub hl [0, 1] rfl)
  exact loop (n + 1) 0 0 s.heap [] (Nat.zero_le _) (by omega) nI_0.symm (by simpa using hp) hS ls (lv_sub hl [0, 1] rfl)
end
section
/-! DRAWINGS: the constructor (printed by gen/drinit.py) -/
theorem d_DR_init_0 : decode b_DR_init 0 = .ok (.aload_n 0, 1) := by decide +kernel
theorem d_DR_init_1 : decode b_DR_init 1 = .ok (.invokespecial 3, 3) := by decide +kernel
theorem d_DR_init_4 : decode b_DR_init 4 = .ok (.aload_n 0, 1) := by decide +kernel
theorem d_DR_init_5 : decode b_DR_init 5 = .ok (.new 9, 3) := by decide +kernel
theorem d_DR_init_8 : decode b_DR_init 8 = .ok (.dup, 1) := by decide +kernel
theorem d_DR_init_9 : decode b_DR_init 9 = .ok (.invokespecial 11, 3) := by decide +kernel
theorem d_DR_init_12 : decode b_DR_init 12 = .ok (.putfield 12, 3) := by decide +kernel
theorem d_DR_init_15 : decode b_DR_init 15 = .ok (.aload_n 0, 1) := by decide +kernel
theorem d_DR_init_16 : decode b_DR_init 16 = .ok (.lload_n 1, 1) := by decide +kernel
theorem d_DR_init_17 : decode b_DR_init 17 = .ok (.putfield 18, 3) := by decide +kernel
theorem d_DR_init_20 : decode b_DR_init 20 = .ok (.aload_n 0, 1) := by decide +kernel
theorem d_DR_init_21 : decode b_DR_init 21 = .ok (.iload_n 3, 1) := by decide +kernel
theorem d_DR_init_22 : decode b_DR_init 22 = .ok (.putfield 22, 3) := by decide +kernel
theorem d_DR_init_25 : decode b_DR_init 25 = .ok (.iconst 0, 1) := by decide +kernel
theorem d_DR_init_26 : decode b_DR_init 26 = .ok (.istore 5, 2) := by decide +kernel
theorem d_DR_init_28 : decode b_DR_init 28 = .ok (.iload 5, 2) := by decide +kernel
theorem d_DR_init_30 : decode b_DR_init 30 = .ok (.iload 4, 2) := by decide +kernel
theorem d_DR_init_32 : decode b_DR_init 32 = .ok (.if_icmp .gt 31, 3) := by decide +kernel
theorem d_DR_init_35 : decode b_DR_init 35 = .ok (.aload_n 0, 1) := by decide +kernel
theorem d_DR_init_36 : decode b_DR_init 36 = .ok (.getfield 12, 3) := by decide +kernel
theorem d_DR_init_39 : decode b_DR_init 39 = .ok (.new 26, 3) := by decide +kernel
theorem d_DR_init_42 : decode b_DR_init 42 = .ok (.dup, 1) := by decide +kernel
theorem d_DR_init_43 : decode b_DR_init 43 = .ok (.lload_n 1, 1) := by decide +kernel
theorem d_DR_init_44 : decode b_DR_init 44 = .ok (.iload_n 3, 1) := by decide +kernel
theorem d_DR_init_45 : decode b_DR_init 45 = .ok (.iload 5, 2) := by decide +kernel
theorem d_DR_init_47 : decode b_DR_init 47 = .ok (.invokestatic 28, 3) := by decide +kernel
theorem d_DR_init_50 : decode b_DR_init 50 = .ok (.invokespecial 32, 3) := by decide +kernel
theorem d_DR_init_53 : decode b_DR_init 53 = .ok (.invokevirtual 35, 3) := by decide +kernel
theorem d_DR_init_56 : decode b_DR_init 56 = .ok (.pop, 1) := by decide +kernel
theorem d_DR_init_57 : decode b_DR_init 57 = .ok (.iinc 5 1, 3) := by decide +kernel
theorem d_DR_init_60 : decode b_DR_init 60 = .ok (.goto (-32), 3) := by decide +kernel
theorem d_DR_init_63 : decode b_DR_init 63 = .ok (.iload_n 3, 1) := by decide +kernel
theorem d_DR_init_64 : decode b_DR_init 64 = .ok (.iconst 3, 1) := by decide +kernel
theorem d_DR_init_65 : decode b_DR_init 65 = .ok (.if_icmp .ne 7, 3) := by decide +kernel
theorem d_DR_init_68 : decode b_DR_init 68 = .ok (.aload_n 0, 1) := by decide +kernel
theorem d_DR_init_69 : decode b_DR_init 69 = .ok (.invokevirtual 39, 3) := by decide +kernel
theorem d_DR_init_72 : decode b_DR_init 72 = .ok (.return_, 1) := by decide +kernel
abbrev rm_DR_init : Room := { frames := 7, cells := 33, slots := 2435, locals := 200 }
set_option maxHeartbeats 4000000 in
set_option maxRecDepth 100000 in
theorem c_DR_init (l : Launch) (D : va_G) (d t0 sz : Nat) (sd : Int64) (kq : Int32) (j : Nat) (hj : j < 16) : Met l y_DR_init (Cond.code y_DR_init b_DR_init 6 none :: gw) rm_DR_init (cZ D t0 (fun q => q = d ∨ sz ≤ q) [.ref d, .long sd, .int kq, .int (nI j)] (fun H => H.size = sz ∧ ob D 1 d [.long 0, .int 0, .null] H)) (mV (fun q => q = d ∨ sz ≤ q) (fun v H => v = none ∧ drw D t0 (fun q => sz ≤ q) d sd kq (j + 1) H)) 33 2435 (fun q => q = d ∨ sz ≤ q) := by
  refine mt_B (by decide) (Nat.le_of_ble_eq_true rfl) ?_
  intro p e s m below meth c ls ⟨hx, hb, hr, hlocks, hin, hml, hown, hg⟩ ⟨hk, hz, hp⟩ hl
  have hown : s.vm.findClass R_DR = some m.cls := hown
  have hS : va_S (fun q => q = d ∨ sz ≤ q) s.heap s.heap [] := va_S.rf
  have hl : lv_has ls 6 [(0, .ref d), (1, .long sd), (3, .int kq), (4, .int (nI j))] := hl
  obtain ⟨hsz, hd⟩ := hp
  have ht0 := zz_lt hz
  have hdl := ob_lt hd
  refine lv_aload_n hx hb d_DR_init_0 rfl (lv_at hl 0 rfl) ?_
  refine o_I hx hb hml hown hg w_81 hl.1 d_DR_init_1 (Nat.le_of_ble_eq_true rfl) (Nat.le_of_ble_eq_true rfl) ?_
  refine lv_aload_n hx hb d_DR_init_4 rfl (lv_at hl 0 rfl) ?_
  refine x_new hx hb hg hown hk hS 4 rfl i_AL T_AL k_AL w_82 w_24 w_4 (fs := [.null, .int 0, .int 0]) (fun q hq => by rcases (show q = 0 ∨ q = 1 ∨ q = 2 by omega) with rfl | rfl | rfl <;> rfl) (Nat.le_of_ble_eq_true rfl) (Nat.le_of_ble_eq_true rfl) d_DR_init_5 (fun H1 hL hz1 ho1 hS => ?_)
  have hd : ob D 1 d [.long 0, .int 0, .null] H1 := va_at.kept hd (ho1 d hdl)
  refine lv_dup hx hb d_DR_init_8 rfl ?_
  refine m_I hx hb hml hown hg s.heap.size [] [.ref s.heap.size, .ref d] (c_AL_init l D s.heap.size t0) z_AL_init w_83 w_26 rfl (pre_Z hk (hz.at hS (fun q h => Or.inr (by omega))) hL) d_DR_init_9 rfl rfl ⟨Nat.le_of_ble_eq_true rfl, Nat.le_of_ble_eq_true rfl⟩ rfl hl.1 rfl (Nat.le_of_ble_eq_true rfl) ⟨Nat.le_of_ble_eq_true rfl, Nat.le_of_ble_eq_true rfl⟩ hS (fun q h => Or.inr (by omega)) (fun v H2 locs2 hp1 hz2 hk1 hS => ?_)
  obtain ⟨rfl, hL⟩ := hp1
  have hd : ob D 1 d [.long 0, .int 0, .null] H2 := va_at.kept hd (hk1 d (by omega) (by omega))
  show W p l e rm_DR_init s m _ below meth c H2 locs2 (0 + 1 + 0) (0 + 3 + 0) _ (F0 m 12 ls [.ref s.heap.size, .ref d])
  refine W.widen (k := 1) (n := 3) (Nat.le_of_ble_eq_true rfl) (Nat.le_of_ble_eq_true rfl) ?_
  refine x_putF hx hb hg hown hin hk hd hS (Or.inl rfl) rfl i_DR T_DR k_DR n_DR 2 (by decide) w_195 rfl rfl (by decide +kernel) (ty := T_DR 2) rfl rfl (Nat.le_of_ble_eq_true rfl) d_DR_init_12 (fun H2 locs2 hd hz3 ho3 hS => ?_)
  have hL : ob D 4 s.heap.size [.ref t0, .int 0, .int 0] H2 := va_at.kept hL (ho3 _ (by omega))
  refine lv_aload_n hx hb d_DR_init_15 rfl (lv_at hl 0 rfl) ?_
  refine lv_lload_n hx hb d_DR_init_16 rfl (lv_at hl 1 rfl) ?_
  refine x_putF hx hb hg hown hin hk hd hS (Or.inl rfl) rfl i_DR T_DR k_DR n_DR 0 (by decide) w_191 rfl rfl (by decide +kernel) (ty := T_DR 0) rfl rfl (Nat.le_of_ble_eq_true rfl) d_DR_init_17 (fun H2 locs2 hd hz3 ho3 hS => ?_)
  have hL : ob D 4 s.heap.size [.ref t0, .int 0, .int 0] H2 := va_at.kept hL (ho3 _ (by omega))
  refine lv_aload_n hx hb d_DR_init_20 rfl (lv_at hl 0 rfl) ?_
  refine lv_iload_n hx hb d_DR_init_21 rfl (lv_at hl 2 rfl) ?_
  refine x_putF hx hb hg hown hin hk hd hS (Or.inl rfl) rfl i_DR T_DR k_DR n_DR 1 (by decide) w_193 rfl rfl (by decide +kernel) (ty := T_DR 1) rfl rfl (Nat.le_of_ble_eq_true rfl) d_DR_init_22 (fun H2 locs2 hd hz3 ho3 hS => ?_)
  have hL : ob D 4 s.heap.size [.ref t0, .int 0, .int 0] H2 := va_at.kept hL (ho3 _ (by omega))
  have hdi : di D t0 sz d sd kq s.heap.size t0 0 (fun _ => 0) H2 := ⟨hd, by omega, ⟨0, hL, Or.inl ⟨rfl, rfl⟩⟩, fun h => absurd rfl h, fun i hi => absurd hi (Nat.not_lt_zero _), fun i _ hi => absurd hi (Nat.not_lt_zero _)⟩
  refine lv_iconst (v := 0) hx hb d_DR_init_25 (by decide) ?_
  refine lv_istore (lv' := [(5, .int 0), (0, .ref d), (1, .long sd), (3, .int kq), (4, .int (nI j))]) hx hb d_DR_init_26 hl (by decide) rfl (fun ls hl => ?_)
  have loop : ∀ (fu : Nat) (q : Nat) (x5 : Int32) (H : Heap) (locs : List Loc) (L arr : Nat) (el : Nat → Nat), q ≤ j + 1 → j + 1 - q < fu → x5 = nI q → di D t0 sz d sd kq L arr q el H → va_S (fun q => q = d ∨ sz ≤ q) s.heap H locs → ∀ ls : Array Slot, lv_has ls 6 [(5, .int x5), (0, .ref d), (1, .long sd), (3, .int kq), (4, .int (nI j))] → W p l e rm_DR_init s m ([.ref d, .long sd, .int kq, .int (nI j)] : List Value).toArray below meth c H locs (1 + 2 * q) (3 + 152 * q) (MQ below (mV (fun q => q = d ∨ sz ≤ q) (fun v H => v = none ∧ drw D t0 (fun q => sz ≤ q) d sd kq (j + 1) H)) ([.ref d, .long sd, .int kq, .int (nI j)] : List Value).toArray s 33 2435 (fun q => q = d ∨ sz ≤ q)) (F0 m 28 ls []) := by
    intro fu
    induction fu with
    | zero => intro q x5 H locs L arr el h1 h2 e5 hdi hS; exact absurd h2 (Nat.not_lt_zero _)
    | succ fu ih =>
      intro q x5 H locs L arr el h1 h2 e5 hdi hS ls hl
      refine lv_iload hx hb d_DR_init_28 (lv_at hl 0 rfl) ?_
      refine lv_iload hx hb d_DR_init_30 (lv_at hl 4 rfl) ?_
      refine lv_icmp_gt (tgt := 63) hx hb d_DR_init_32 (by decide) (fun c1 => ?_) (fun c1 => ?_)
      · have hq : q = j + 1 := by have := (q_lt rfl e5 (by omega) (by omega)).mp c1; omega
        subst hq
        obtain ⟨hd, hsL, hal, harr, hpt, hinj⟩ := hdi
        have hne : ¬ arr = t0 := by obtain ⟨mc, -, g2⟩ := hal; rcases g2 with g2 | g2; exact absurd g2.2 (by omega); exact g2.1
        refine W.widen (k := 33) (n := 2435) (by omega) (by omega) ?_
        refine lv_iload_n hx hb d_DR_init_63 rfl (lv_at hl 3 rfl) ?_
        refine lv_iconst (v := 3) hx hb d_DR_init_64 (by decide) ?_
        refine lv_icmp_ne (tgt := 72) hx hb d_DR_init_65 (by decide) (fun c2 => ?_) (fun c2 => ?_)
        · exact f_v hx hb hr hlocks hS ⟨rfl, L, arr, el, ⟨hd, hal, fun i hi => by have h9 := (hpt i hi).1; dsimp only; rw [show p_flt sd kq (j + 1) i = 0 from if_neg (fun h => c2 h.1)]; exact h9⟩, hsL, hne, harr hne, fun i hi => (hpt i hi).2⟩ d_DR_init_72
        · refine lv_aload_n hx hb d_DR_init_68 rfl (lv_at hl 1 rfl) ?_
          refine m_V hx hb hml hown hg d [] [] (c_DR_spoil l D t0 d L arr (j + 1) el (fun i => p_mix sd kq (nI i)) sd kq (by omega) hinj) z_DR_spoil w_160 w_162 s_DR_spoil (rc_ob hk hd rfl) (pre_P hk ⟨hd, hal, fun i hi => (hpt i hi).1⟩) d_DR_init_69 rfl rfl ⟨Nat.le_of_ble_eq_true rfl, Nat.le_of_ble_eq_true rfl⟩ rfl hl.1 rfl (Nat.le_of_ble_eq_true rfl) ⟨Nat.le_of_ble_eq_true rfl, Nat.le_of_ble_eq_true rfl⟩ hS (fun q h => by obtain ⟨i, hi, rfl⟩ := h; exact Or.inr (hpt i hi).2) (fun v H3 locs3 hp1 hz2 hk1 hS => ?_)
          obtain ⟨rfl, hd, hal, hpt2⟩ := hp1
          show W p l e rm_DR_init s m _ below meth c H3 locs3 33 2435 _ (F0 m 72 ls [])
          exact f_v hx hb hr hlocks hS ⟨rfl, L, arr, el, ⟨hd, hal, fun i hi => by have h9 := hpt2 i hi; dsimp only at h9 ⊢; rw [show p_flt sd kq (j + 1) i = if p_cnt (fun i => p_mix sd kq (nI i)) i (j + 1) < (j + 1) / 2 then 1 else 0 by unfold p_flt; simp only [c2, true_and]]; exact h9⟩, hsL, hne, harr hne, fun i hi => (hpt i hi).2⟩ d_DR_init_72
      · have hq : q ≤ j := Nat.not_lt.mp (fun h => c1 ((q_lt rfl e5 (by omega) (by omega)).mpr h))
        subst e5
        have hHs : sz ≤ H.size := by have := hS.1; omega
        refine lv_aload_n hx hb d_DR_init_35 rfl (lv_at hl 1 rfl) ?_
        refine x_get hx hb hg hown hk hdi.1 rfl i_DR 2 (by decide) w_195 rfl d_DR_init_36 ?_
        refine x_new hx hb hg hown hk hS 2 rfl i_PT T_PT k_PT w_84 w_85 w_7 (fs := [.long 0, .int 0]) (fun q hq => by rcases (show q = 0 ∨ q = 1 by omega) with rfl | rfl <;> rfl) (by show 1 + 2 * q + 1 ≤ 33; omega) (by show 3 + 152 * q + 2 ≤ 2435; omega) d_DR_init_39 (fun H1 hnp hz1 ho1 hS => ?_)
        have hdi1 := di_kept hdi ho1
        refine lv_dup hx hb d_DR_init_42 rfl ?_
        refine lv_lload_n hx hb d_DR_init_43 rfl (lv_at hl 2 rfl) ?_
        refine lv_iload_n hx hb d_DR_init_44 rfl (lv_at hl 3 rfl) ?_
        refine lv_iload hx hb d_DR_init_45 (lv_at hl 0 rfl) ?_
        refine k_SN hx hb hml hown hg hk [.long sd, .int kq, .int (nI q)] [.ref H.size, .ref H.size, .ref L] (c_PD_mixed l D sd kq (nI q)) z_PD_mixed 0 rfl w_87 (trivial) d_DR_init_47 rfl rfl ⟨Nat.le_of_ble_eq_true rfl, Nat.le_of_ble_eq_true rfl⟩ rfl hl.1 rfl (Nat.le_of_ble_eq_true rfl) ⟨by show 1 + 2 * q + 1 ≤ 33; omega, by show 3 + 152 * q + 2 ≤ 2435; omega⟩ ?_
        refine m_I hx hb hml hown hg H.size [.long (p_mix sd kq (nI q))] [.ref H.size, .ref L] (c_PT_init l D H.size (p_mix sd kq (nI q))) z_PT_init w_93 w_94 rfl (pre_P hk hnp) d_DR_init_50 rfl rfl ⟨Nat.le_of_ble_eq_true rfl, Nat.le_of_ble_eq_true rfl⟩ rfl hl.1 rfl (Nat.le_of_ble_eq_true rfl) ⟨by show 1 + 2 * q + 1 + 0 ≤ 33; omega, by show 3 + 152 * q + 2 + 0 ≤ 2435; omega⟩ hS (fun x h => Or.inr (by omega)) (fun v H2 locs2 hp1 hz2 hk1 hS => ?_)
        obtain ⟨rfl, hnp⟩ := hp1
        have hdi2 : di D t0 sz d sd kq L arr q el H2 := by
          have h9 : ∀ x, x < H.size → H2[x]? = H[x]? := fun x hx9 => (hk1 x (by omega) (by omega)).trans (ho1 x hx9)
          exact di_kept hdi h9
        show W p l e rm_DR_init s m _ below meth c H2 locs2 (1 + 2 * q + 1 + 0) (3 + 152 * q + 2 + 0) _ (F0 m 53 ls [.ref H.size, .ref L])
        obtain ⟨hd2, hsL, hal2, harr2, hpt2, hinj2⟩ := id hdi2
        have hnl := ob_lt hnp
        refine m_V hx hb hml hown hg L [.ref H.size] [] (c_AL_add l D L arr t0 q H.size H2.size el (by omega)) z_AL_add w_107 w_108 w_109 (by obtain ⟨mc9, g9, -⟩ := hal2; exact rc_ob hk g9 rfl) (pre_Z hk (hz.at hS (fun x h => by rcases h with h | h | h; exact Or.inr (by omega); exact Or.inr (by rw [h.1]; exact harr2 h.2); exact Or.inr (by omega))) ⟨rfl, hal2, fun i hi => ⟨2, _, Or.inl rfl, (hpt2 i hi).1⟩, ⟨2, _, Or.inl rfl, hnp⟩⟩) d_DR_init_53 rfl rfl ⟨Nat.le_of_ble_eq_true rfl, Nat.le_of_ble_eq_true rfl⟩ rfl hl.1 rfl (Nat.le_of_ble_eq_true rfl) ⟨by show 1 + 2 * q + 1 + 0 + 1 ≤ 33; omega, by show 3 + 152 * q + 2 + 0 + 150 ≤ 2435; omega⟩ hS (fun x h => by rcases h with h | h | h; exact Or.inr (by omega); exact Or.inr (by rw [h.1]; exact harr2 h.2); exact Or.inr (by omega)) (fun v H3 locs3 hp1 hz3 hk3 hS => ?_)
        obtain ⟨rfl, arr3, ha1, ha2, hal3⟩ := hp1
        have hkeep : ∀ (x i : Nat), kd D H2 x i → i < 9 → i ≠ 4 → i ≠ 6 → H3[x]? = H2[x]? := fun x i g1 g2 g3 g4 => hk3 x (kd_lt g1) (al_out hk hal2 g1 g2 g3 g4 (Nat.le_refl _))
        show W p l e rm_DR_init s m _ below meth c H3 locs3 (1 + 2 * q + 1 + 0 + 1) (3 + 152 * q + 2 + 0 + 150) _ (F0 m 56 ls [.int 1])
        refine W.cs (cells' := 1 + 2 * (q + 1)) (slots' := 3 + 152 * (q + 1)) (by omega) (by omega) ?_
        have hdi3 : di D t0 sz d sd kq L arr3 (q + 1) (va_up el q H.size) H3 := by
          refine ⟨va_at.kept hd2 (hkeep _ _ (kd_ob hd2) (by decide) (by decide) (by decide)), hsL, hal3, fun h9 => by rcases ha1 with ha1 | ha1; rw [ha1]; exact harr2 (by rw [← ha1]; exact h9); omega, fun i hi => ?_, fun i i2 hi hi2 e9 => ?_⟩
          · by_cases hiq : i = q
            · subst hiq; rw [va_up_self]; exact ⟨va_at.kept hnp (hkeep _ _ (kd_ob hnp) (by decide) (by decide) (by decide)), hHs⟩
            · rw [va_up_ne _ _ hiq]; have h9 := hpt2 i (by omega); exact ⟨va_at.kept h9.1 (hkeep _ _ (kd_ob h9.1) (by decide) (by decide) (by decide)), h9.2⟩
          · have hold : ∀ i, i < q → el i < H.size := fun i hi => ob_lt (hdi.2.2.2.2.1 i hi).1
            by_cases h1 : i = q <;> by_cases h2 : i2 = q
            · omega
            · subst h1; rw [va_up_self, va_up_ne _ _ h2] at e9; have := hold i2 (by omega); omega
            · subst h2; rw [va_up_self, va_up_ne _ _ h1] at e9; have := hold i (by omega); omega
            · rw [va_up_ne _ _ h1, va_up_ne _ _ h2] at e9; exact hinj2 i i2 (by omega) (by omega) e9
        refine lv_pop hx hb d_DR_init_56 rfl ?_
        obtain ⟨y5, ey5⟩ : ∃ y : Int32, y = (nI q) + 1 := ⟨_, rfl⟩
        refine lv_iinc (v := y5) (lv' := [(5, .int y5), (0, .ref d), (1, .long sd), (3, .int kq), (4, .int (nI j))]) hx hb d_DR_init_57 hl (k := 0) rfl (by rw [ey5]; rfl) (by decide) rfl (fun ls hl => ?_)
        refine lv_goto (tgt := 28) hx hb d_DR_init_60 (by decide) ?_
        exact ih (q + 1) y5 H3 locs3 L arr3 (va_up el q H.size) (by omega) (by omega) (by rw [ey5, nI_1]) hdi3 hS ls (lv_sub hl [0, 1, 2, 3, 4] rfl)
  exact loop (j + 2) 0 0 H2 locs2 s.heap.size t0 (fun _ => 0) (Nat.zero_le _) (by omega) nI_0.symm hdi hS ls (lv_sub hl [0, 1, 2, 3, 4] rfl)
end
section
/-! THE DRAWER: what only reads (printed by gen/pdread.py) -/
theorem d_PD_all_0 : decode b_PD_all 0 = .ok (.iconst 1, 1) := by decide +kernel
theorem d_PD_all_1 : decode b_PD_all 1 = .ok (.aload_n 0, 1) := by decide +kernel
theorem d_PD_all_2 : decode b_PD_all 2 = .ok (.getfield 34, 3) := by decide +kernel
theorem d_PD_all_5 : decode b_PD_all 5 = .ok (.getfield 38, 3) := by decide +kernel
theorem d_PD_all_8 : decode b_PD_all 8 = .ok (.invokevirtual 43, 3) := by decide +kernel
theorem d_PD_all_11 : decode b_PD_all 11 = .ok (.ishl, 1) := by decide +kernel
theorem d_PD_all_12 : decode b_PD_all 12 = .ok (.iconst 1, 1) := by decide +kernel
theorem d_PD_all_13 : decode b_PD_all 13 = .ok (.isub, 1) := by decide +kernel
theorem d_PD_all_14 : decode b_PD_all 14 = .ok (.ireturn, 1) := by decide +kernel
abbrev rm_PD_all : Room := { frames := 1, cells := 0, slots := 0, locals := 20 }
set_option maxHeartbeats 4000000 in
set_option maxRecDepth 100000 in
theorem c_PD_all (l : Launch) (D : va_G) (t0 h0 d Lv n : Nat) (R : Nat → Prop) (sd ds : Int64) (dk lf : Int32) (hn0 : 0 < n) (hn : n ≤ 16) : Met l y_PD_all (Cond.code y_PD_all b_PD_all 1 (some .int) :: gw) rm_PD_all (cP D [.ref h0] (fun H => ob D 0 h0 [.long sd, .ref d, .ref Lv, .int lf] H ∧ drw D t0 R d ds dk n H)) (rV (.int (nI (2 ^ n - 1)))) 0 0 (fun _ => False) := by
  refine mt_B (by decide) (Nat.le_of_ble_eq_true rfl) ?_
  intro p e s m below meth c ls ⟨hx, hb, hr, hlocks, hin, hml, hown, hg⟩ ⟨hk, hp⟩ hl
  have hown : s.vm.findClass R_PD = some m.cls := hown
  have hl : lv_has ls 1 [(0, .ref h0)] := hl
  obtain ⟨ho, hdr⟩ := hp
  obtain ⟨L, arr, el, ⟨hd, ⟨mc, hL, hcase⟩, hpt⟩, hR1, hne, hR2⟩ := id hdr
  rcases hcase with hc0 | ⟨-, cap, f, haq, hnc, hc1, hc2, hf⟩
  · exact absurd hc0.1 hne
  have h2p : 2 ^ n ≤ 2 ^ 16 := Nat.pow_le_pow_right (by decide) hn
  refine lv_iconst (v := 1) hx hb d_PD_all_0 (by decide) ?_
  refine lv_aload_n hx hb d_PD_all_1 rfl (lv_at hl 0 rfl) ?_
  refine x_get hx hb hg hown hk ho rfl i_PD 1 (by decide) w_50 rfl d_PD_all_2 ?_
  refine x_getN hx hb hg hown hk hd rfl i_DR 2 (by decide) 6 rfl rfl d_PD_all_5 ?_
  refine k_V hx hb hml hown hg hk L [] [.int 1] (c_AL_size l D L arr (nI n) mc) z_AL_size w_212 w_165 w_166 (rc_ob hk (hL) rfl) (hL) d_PD_all_8 rfl rfl ⟨Nat.le_of_ble_eq_true rfl, Nat.le_of_ble_eq_true rfl⟩ rfl hl.1 rfl (Nat.le_of_ble_eq_true rfl) ⟨Nat.zero_le _, Nat.zero_le _⟩ ?_
  refine lv_ishl hx hb d_PD_all_11 ?_
  refine lv_iconst (v := 1) hx hb d_PD_all_12 (by decide) ?_
  refine lv_isub hx hb d_PD_all_13 ?_
  exact e_i hx hb hr hlocks (by rw [q_one (by omega), show (1 : Int32) = nI 1 from rfl, pk_sub (Nat.two_pow_pos _)]) d_PD_all_14
theorem d_PD_isPart_0 : decode b_PD_isPart 0 = .ok (.aload_n 0, 1) := by decide +kernel
theorem d_PD_isPart_1 : decode b_PD_isPart 1 = .ok (.getfield 34, 3) := by decide +kernel
theorem d_PD_isPart_4 : decode b_PD_isPart 4 = .ok (.ifnull 27, 3) := by decide +kernel
theorem d_PD_isPart_7 : decode b_PD_isPart 7 = .ok (.iload_n 1, 1) := by decide +kernel
theorem d_PD_isPart_8 : decode b_PD_isPart 8 = .ok (.iconst 0, 1) := by decide +kernel
theorem d_PD_isPart_9 : decode b_PD_isPart 9 = .ok (.aload_n 0, 1) := by decide +kernel
theorem d_PD_isPart_10 : decode b_PD_isPart 10 = .ok (.getfield 34, 3) := by decide +kernel
theorem d_PD_isPart_13 : decode b_PD_isPart 13 = .ok (.getfield 38, 3) := by decide +kernel
theorem d_PD_isPart_16 : decode b_PD_isPart 16 = .ok (.invokevirtual 43, 3) := by decide +kernel
theorem d_PD_isPart_19 : decode b_PD_isPart 19 = .ok (.iconst 1, 1) := by decide +kernel
theorem d_PD_isPart_20 : decode b_PD_isPart 20 = .ok (.isub, 1) := by decide +kernel
theorem d_PD_isPart_21 : decode b_PD_isPart 21 = .ok (.invokestatic 30, 3) := by decide +kernel
theorem d_PD_isPart_24 : decode b_PD_isPart 24 = .ok (.ifCond .eq 7, 3) := by decide +kernel
theorem d_PD_isPart_27 : decode b_PD_isPart 27 = .ok (.iconst 1, 1) := by decide +kernel
theorem d_PD_isPart_28 : decode b_PD_isPart 28 = .ok (.goto 4, 3) := by decide +kernel
theorem d_PD_isPart_31 : decode b_PD_isPart 31 = .ok (.iconst 0, 1) := by decide +kernel
theorem d_PD_isPart_32 : decode b_PD_isPart 32 = .ok (.ireturn, 1) := by decide +kernel
abbrev rm_PD_isPart : Room := { frames := 1, cells := 0, slots := 0, locals := 22 }
set_option maxHeartbeats 4000000 in
set_option maxRecDepth 100000 in
theorem c_PD_isPart_0 (l : Launch) (D : va_G) (h0 Lv : Nat) (sd : Int64) (lf : Int32) (i : Int32) : Met l y_PD_isPart (Cond.code y_PD_isPart b_PD_isPart 2 (some .boolean) :: gw) rm_PD_isPart (cP D [.ref h0, .int i] (fun H => ob D 0 h0 [.long sd, .null, .ref Lv, .int lf] H)) (rV (.int 0)) 0 0 (fun _ => False) := by
  refine mt_B (by decide) (Nat.le_of_ble_eq_true rfl) ?_
  intro p e s m below meth c ls ⟨hx, hb, hr, hlocks, hin, hml, hown, hg⟩ ⟨hk, hp⟩ hl
  have hown : s.vm.findClass R_PD = some m.cls := hown
  have hl : lv_has ls 2 [(0, .ref h0), (1, .int i)] := hl
  refine lv_aload_n hx hb d_PD_isPart_0 rfl (lv_at hl 0 rfl) ?_
  refine x_get hx hb hg hown hk hp rfl i_PD 1 (by decide) w_50 rfl d_PD_isPart_1 ?_
  refine lv_ifnullN (tgt := 31) hx hb d_PD_isPart_4 (by decide) ?_
  refine lv_iconst (v := 0) hx hb d_PD_isPart_31 (by decide) ?_
  exact e_z hx hb hr hlocks (rfl) (by decide) d_PD_isPart_32
set_option maxHeartbeats 4000000 in
set_option maxRecDepth 100000 in
theorem c_PD_isPart (l : Launch) (D : va_G) (t0 h0 d Lv n : Nat) (R : Nat → Prop) (sd ds : Int64) (dk lf : Int32) (hn0 : 0 < n) (hn : n ≤ 16) (i : Int32) : Met l y_PD_isPart (Cond.code y_PD_isPart b_PD_isPart 2 (some .boolean) :: gw) rm_PD_isPart (cP D [.ref h0, .int i] (fun H => ob D 0 h0 [.long sd, .ref d, .ref Lv, .int lf] H ∧ drw D t0 R d ds dk n H)) (rV (.int (p_in i 0 (nI n - 1)))) 0 0 (fun _ => False) := by
  refine mt_B (by decide) (Nat.le_of_ble_eq_true rfl) ?_
  intro p e s m below meth c ls ⟨hx, hb, hr, hlocks, hin, hml, hown, hg⟩ ⟨hk, hp⟩ hl
  have hown : s.vm.findClass R_PD = some m.cls := hown
  have hl : lv_has ls 2 [(0, .ref h0), (1, .int i)] := hl
  obtain ⟨ho, hdr⟩ := hp
  obtain ⟨L, arr, el, ⟨hd, ⟨mc, hL, hcase⟩, hpt⟩, hR1, hne, hR2⟩ := id hdr
  rcases hcase with hc0 | ⟨-, cap, f, haq, hnc, hc1, hc2, hf⟩
  · exact absurd hc0.1 hne
  refine lv_aload_n hx hb d_PD_isPart_0 rfl (lv_at hl 0 rfl) ?_
  refine x_get hx hb hg hown hk ho rfl i_PD 1 (by decide) w_50 rfl d_PD_isPart_1 ?_
  refine lv_ifnull hx hb d_PD_isPart_4 ?_
  refine lv_iload_n hx hb d_PD_isPart_7 rfl (lv_at hl 1 rfl) ?_
  refine lv_iconst (v := 0) hx hb d_PD_isPart_8 (by decide) ?_
  refine lv_aload_n hx hb d_PD_isPart_9 rfl (lv_at hl 0 rfl) ?_
  refine x_get hx hb hg hown hk ho rfl i_PD 1 (by decide) w_50 rfl d_PD_isPart_10 ?_
  refine x_getN hx hb hg hown hk hd rfl i_DR 2 (by decide) 6 rfl rfl d_PD_isPart_13 ?_
  refine k_V hx hb hml hown hg hk L [] [.int 0, .int i] (c_AL_size l D L arr (nI n) mc) z_AL_size w_212 w_165 w_166 (rc_ob hk (hL) rfl) (hL) d_PD_isPart_16 rfl rfl ⟨Nat.le_of_ble_eq_true rfl, Nat.le_of_ble_eq_true rfl⟩ rfl hl.1 rfl (Nat.le_of_ble_eq_true rfl) ⟨Nat.zero_le _, Nat.zero_le _⟩ ?_
  refine lv_iconst (v := 1) hx hb d_PD_isPart_19 (by decide) ?_
  refine lv_isub hx hb d_PD_isPart_20 ?_
  refine k_S hx hb hml hown hg hk [.int i, .int 0, .int ((nI n) - 1)] [] (c_PD_within l D i 0 (nI n - 1)) z_PD_within w_73 w_74 (trivial) d_PD_isPart_21 rfl rfl ⟨Nat.le_of_ble_eq_true rfl, Nat.le_of_ble_eq_true rfl⟩ rfl hl.1 rfl (Nat.le_of_ble_eq_true rfl) ⟨Nat.zero_le _, Nat.zero_le _⟩ ?_
  refine lv_if_eq (tgt := 31) hx hb d_PD_isPart_24 (by decide) (fun c1 => ?_) (fun c1 => ?_)
  · refine lv_iconst (v := 0) hx hb d_PD_isPart_31 (by decide) ?_
    exact e_z hx hb hr hlocks (c1.symm) (by decide) d_PD_isPart_32
  · refine lv_iconst (v := 1) hx hb d_PD_isPart_27 (by decide) ?_
    refine lv_goto (tgt := 32) hx hb d_PD_isPart_28 (by decide) ?_
    exact e_z hx hb hr hlocks (((p_in_01 _ _ _).resolve_left c1).symm) (by decide) d_PD_isPart_32
theorem d_PD_part_0 : decode b_PD_part 0 = .ok (.aload_n 0, 1) := by decide +kernel
theorem d_PD_part_1 : decode b_PD_part 1 = .ok (.iload_n 1, 1) := by decide +kernel
theorem d_PD_part_2 : decode b_PD_part 2 = .ok (.invokevirtual 64, 3) := by decide +kernel
theorem d_PD_part_5 : decode b_PD_part 5 = .ok (.ifCond .ne 5, 3) := by decide +kernel
theorem d_PD_part_8 : decode b_PD_part 8 = .ok (.iconst (-1), 1) := by decide +kernel
theorem d_PD_part_9 : decode b_PD_part 9 = .ok (.ireturn, 1) := by decide +kernel
theorem d_PD_part_10 : decode b_PD_part 10 = .ok (.iload_n 2, 1) := by decide +kernel
theorem d_PD_part_11 : decode b_PD_part 11 = .ok (.iconst 0, 1) := by decide +kernel
theorem d_PD_part_12 : decode b_PD_part 12 = .ok (.iconst 4, 1) := by decide +kernel
theorem d_PD_part_13 : decode b_PD_part 13 = .ok (.invokestatic 30, 3) := by decide +kernel
theorem d_PD_part_16 : decode b_PD_part 16 = .ok (.ifCond .eq 24, 3) := by decide +kernel
theorem d_PD_part_19 : decode b_PD_part 19 = .ok (.aload_n 0, 1) := by decide +kernel
theorem d_PD_part_20 : decode b_PD_part 20 = .ok (.getfield 34, 3) := by decide +kernel
theorem d_PD_part_23 : decode b_PD_part 23 = .ok (.getfield 38, 3) := by decide +kernel
theorem d_PD_part_26 : decode b_PD_part 26 = .ok (.iload_n 1, 1) := by decide +kernel
theorem d_PD_part_27 : decode b_PD_part 27 = .ok (.invokevirtual 68, 3) := by decide +kernel
theorem d_PD_part_30 : decode b_PD_part 30 = .ok (.checkcast 72, 3) := by decide +kernel
theorem d_PD_part_33 : decode b_PD_part 33 = .ok (.iload_n 2, 1) := by decide +kernel
theorem d_PD_part_34 : decode b_PD_part 34 = .ok (.invokevirtual 74, 3) := by decide +kernel
theorem d_PD_part_37 : decode b_PD_part 37 = .ok (.goto 5, 3) := by decide +kernel
theorem d_PD_part_40 : decode b_PD_part 40 = .ok (.bipush (-12), 2) := by decide +kernel
theorem d_PD_part_42 : decode b_PD_part 42 = .ok (.ireturn, 1) := by decide +kernel
abbrev rm_PD_part : Room := { frames := 3, cells := 0, slots := 0, locals := 66 }
set_option maxHeartbeats 4000000 in
set_option maxRecDepth 100000 in
theorem c_PD_part_0 (l : Launch) (D : va_G) (h0 Lv : Nat) (sd : Int64) (lf : Int32) (i w : Int32) : Met l y_PD_part (Cond.code y_PD_part b_PD_part 3 (some .int) :: gw) rm_PD_part (cP D [.ref h0, .int i, .int w] (fun H => ob D 0 h0 [.long sd, .null, .ref Lv, .int lf] H)) (rV (.int (-1))) 0 0 (fun _ => False) := by
  refine mt_B (by decide) (Nat.le_of_ble_eq_true rfl) ?_
  intro p e s m below meth c ls ⟨hx, hb, hr, hlocks, hin, hml, hown, hg⟩ ⟨hk, hp⟩ hl
  have hown : s.vm.findClass R_PD = some m.cls := hown
  have hl : lv_has ls 3 [(0, .ref h0), (1, .int i), (2, .int w)] := hl
  refine lv_aload_n hx hb d_PD_part_0 rfl (lv_at hl 0 rfl) ?_
  refine lv_iload_n hx hb d_PD_part_1 rfl (lv_at hl 1 rfl) ?_
  refine k_V hx hb hml hown hg hk h0 [.int i] [] (c_PD_isPart_0 l D h0 Lv sd lf i) z_PD_isPart w_217 w_219 s_PD_isPart (rc_ob hk hp rfl) (hp) d_PD_part_2 rfl rfl ⟨Nat.le_of_ble_eq_true rfl, Nat.le_of_ble_eq_true rfl⟩ rfl hl.1 rfl (Nat.le_of_ble_eq_true rfl) ⟨Nat.zero_le _, Nat.zero_le _⟩ ?_
  refine lv_if_ne (tgt := 10) hx hb d_PD_part_5 (by decide) (fun h => absurd (by decide) h) (fun _ => ?_)
  refine lv_iconst (v := -1) hx hb d_PD_part_8 (by decide) ?_
  exact e_i hx hb hr hlocks (rfl) d_PD_part_9
set_option maxHeartbeats 4000000 in
set_option maxRecDepth 100000 in
theorem c_PD_part (l : Launch) (D : va_G) (t0 h0 d Lv n : Nat) (R : Nat → Prop) (sd ds : Int64) (dk lf : Int32) (hn0 : 0 < n) (hn : n ≤ 16) (i w : Int32) : Met l y_PD_part (Cond.code y_PD_part b_PD_part 3 (some .int) :: gw) rm_PD_part (cP D [.ref h0, .int i, .int w] (fun H => ob D 0 h0 [.long sd, .ref d, .ref Lv, .int lf] H ∧ drw D t0 R d ds dk n H)) (rV (.int (p_part ds dk n i w))) 0 0 (fun _ => False) := by
  refine mt_B (by decide) (Nat.le_of_ble_eq_true rfl) ?_
  intro p e s m below meth c ls ⟨hx, hb, hr, hlocks, hin, hml, hown, hg⟩ ⟨hk, hp⟩ hl
  have hown : s.vm.findClass R_PD = some m.cls := hown
  have hl : lv_has ls 3 [(0, .ref h0), (1, .int i), (2, .int w)] := hl
  obtain ⟨ho, hdr⟩ := hp
  obtain ⟨L, arr, el, ⟨hd, ⟨mc, hL, hcase⟩, hpt⟩, hR1, hne, hR2⟩ := id hdr
  rcases hcase with hc0 | ⟨-, cap, f, haq, hnc, hc1, hc2, hf⟩
  · exact absurd hc0.1 hne
  refine lv_aload_n hx hb d_PD_part_0 rfl (lv_at hl 0 rfl) ?_
  refine lv_iload_n hx hb d_PD_part_1 rfl (lv_at hl 1 rfl) ?_
  refine k_V hx hb hml hown hg hk h0 [.int i] [] (c_PD_isPart l D t0 h0 d Lv n R sd ds dk lf hn0 hn i) z_PD_isPart w_217 w_219 s_PD_isPart (rc_ob hk ho rfl) (⟨ho, hdr⟩) d_PD_part_2 rfl rfl ⟨Nat.le_of_ble_eq_true rfl, Nat.le_of_ble_eq_true rfl⟩ rfl hl.1 rfl (Nat.le_of_ble_eq_true rfl) ⟨Nat.zero_le _, Nat.zero_le _⟩ ?_
  refine lv_if_ne (tgt := 10) hx hb d_PD_part_5 (by decide) (fun c1 => ?_) (fun c1 => ?_)
  · refine lv_iload_n hx hb d_PD_part_10 rfl (lv_at hl 2 rfl) ?_
    refine lv_iconst (v := 0) hx hb d_PD_part_11 (by decide) ?_
    refine lv_iconst (v := 4) hx hb d_PD_part_12 (by decide) ?_
    refine k_S hx hb hml hown hg hk [.int w, .int 0, .int 4] [] (c_PD_within l D w 0 4) z_PD_within w_73 w_74 (trivial) d_PD_part_13 rfl rfl ⟨Nat.le_of_ble_eq_true rfl, Nat.le_of_ble_eq_true rfl⟩ rfl hl.1 rfl (Nat.le_of_ble_eq_true rfl) ⟨Nat.zero_le _, Nat.zero_le _⟩ ?_
    refine lv_if_eq (tgt := 40) hx hb d_PD_part_16 (by decide) (fun c2 => ?_) (fun c2 => ?_)
    · refine lv_bipush (v := -12) hx hb d_PD_part_40 (by decide) ?_
      exact e_i hx hb hr hlocks (by rw [p_part, if_neg c1, if_pos c2]) d_PD_part_42
    · obtain ⟨j, hj, rfl⟩ := p_rng (by omega) (p_in_1 c1).1 (p_in_1 c1).2
      obtain ⟨q, hq, rfl⟩ := p_rng4 (p_in_1 c2)
      refine lv_aload_n hx hb d_PD_part_19 rfl (lv_at hl 0 rfl) ?_
      refine x_get hx hb hg hown hk ho rfl i_PD 1 (by decide) w_50 rfl d_PD_part_20 ?_
      refine x_getN hx hb hg hown hk hd rfl i_DR 2 (by decide) 6 rfl rfl d_PD_part_23 ?_
      refine lv_iload_n hx hb d_PD_part_26 rfl (lv_at hl 1 rfl) ?_
      refine k_V hx hb hml hown hg hk L [.int (nI j)] [] (c_AL_get l D L arr n cap j (el j) mc f (hj) hnc (by omega) (hf j (hj))) z_AL_get w_221 w_169 w_170 (rc_ob hk hL rfl) (⟨hL, haq⟩) d_PD_part_27 rfl rfl ⟨Nat.le_of_ble_eq_true rfl, Nat.le_of_ble_eq_true rfl⟩ rfl hl.1 rfl (Nat.le_of_ble_eq_true rfl) ⟨Nat.zero_le _, Nat.zero_le _⟩ ?_
      refine va_castY hx hb hown (hg _ w_222) (hk.m 10 rfl) (rc_ob hk (hpt j hj) rfl) d_PD_part_30 ?_
      refine lv_iload_n hx hb d_PD_part_33 rfl (lv_at hl 2 rfl) ?_
      refine k_V hx hb hml hown hg hk (el j) [.int (nI q)] [] (c_PT_fact l D (el j) (p_mix ds dk (nI j)) (p_flt ds dk n j) (p_flt_01 _ _ _ _) q hq) z_PT_fact w_223 w_224 w_225 (rc_ob hk (hpt j hj) rfl) (hpt j hj) d_PD_part_34 rfl rfl ⟨Nat.le_of_ble_eq_true rfl, Nat.le_of_ble_eq_true rfl⟩ rfl hl.1 rfl (Nat.le_of_ble_eq_true rfl) ⟨Nat.zero_le _, Nat.zero_le _⟩ ?_
      refine lv_goto (tgt := 42) hx hb d_PD_part_37 (by decide) ?_
      exact e_i hx hb hr hlocks (by rw [p_part, if_neg c1, if_neg c2, nI_clamp (by omega), nI_clamp (by omega)]) d_PD_part_42
  · refine lv_iconst (v := -1) hx hb d_PD_part_8 (by decide) ?_
    exact e_i hx hb hr hlocks (by rw [p_part, if_pos c1]) d_PD_part_9
theorem d_PD_point_0 : decode b_PD_point 0 = .ok (.aload_n 0, 1) := by decide +kernel
theorem d_PD_point_1 : decode b_PD_point 1 = .ok (.iload_n 1, 1) := by decide +kernel
theorem d_PD_point_2 : decode b_PD_point 2 = .ok (.invokevirtual 64, 3) := by decide +kernel
theorem d_PD_point_5 : decode b_PD_point 5 = .ok (.ifCond .eq 34, 3) := by decide +kernel
theorem d_PD_point_8 : decode b_PD_point 8 = .ok (.aload_n 0, 1) := by decide +kernel
theorem d_PD_point_9 : decode b_PD_point 9 = .ok (.getfield 34, 3) := by decide +kernel
theorem d_PD_point_12 : decode b_PD_point 12 = .ok (.getfield 78, 3) := by decide +kernel
theorem d_PD_point_15 : decode b_PD_point 15 = .ok (.iconst 1, 1) := by decide +kernel
theorem d_PD_point_16 : decode b_PD_point 16 = .ok (.if_icmp .ne 23, 3) := by decide +kernel
theorem d_PD_point_19 : decode b_PD_point 19 = .ok (.iload_n 2, 1) := by decide +kernel
theorem d_PD_point_20 : decode b_PD_point 20 = .ok (.iconst 0, 1) := by decide +kernel
theorem d_PD_point_21 : decode b_PD_point 21 = .ok (.bipush 11, 2) := by decide +kernel
theorem d_PD_point_23 : decode b_PD_point 23 = .ok (.invokestatic 30, 3) := by decide +kernel
theorem d_PD_point_26 : decode b_PD_point 26 = .ok (.ifCond .eq 13, 3) := by decide +kernel
theorem d_PD_point_29 : decode b_PD_point 29 = .ok (.iload_n 3, 1) := by decide +kernel
theorem d_PD_point_30 : decode b_PD_point 30 = .ok (.iconst 0, 1) := by decide +kernel
theorem d_PD_point_31 : decode b_PD_point 31 = .ok (.bipush 19, 2) := by decide +kernel
theorem d_PD_point_33 : decode b_PD_point 33 = .ok (.invokestatic 30, 3) := by decide +kernel
theorem d_PD_point_36 : decode b_PD_point 36 = .ok (.ifCond .ne 5, 3) := by decide +kernel
theorem d_PD_point_39 : decode b_PD_point 39 = .ok (.iconst (-1), 1) := by decide +kernel
theorem d_PD_point_40 : decode b_PD_point 40 = .ok (.ireturn, 1) := by decide +kernel
theorem d_PD_point_41 : decode b_PD_point 41 = .ok (.aload_n 0, 1) := by decide +kernel
theorem d_PD_point_42 : decode b_PD_point 42 = .ok (.getfield 34, 3) := by decide +kernel
theorem d_PD_point_45 : decode b_PD_point 45 = .ok (.getfield 38, 3) := by decide +kernel
theorem d_PD_point_48 : decode b_PD_point 48 = .ok (.iload_n 1, 1) := by decide +kernel
theorem d_PD_point_49 : decode b_PD_point 49 = .ok (.invokevirtual 68, 3) := by decide +kernel
theorem d_PD_point_52 : decode b_PD_point 52 = .ok (.checkcast 72, 3) := by decide +kernel
theorem d_PD_point_55 : decode b_PD_point 55 = .ok (.iconst 1, 1) := by decide +kernel
theorem d_PD_point_56 : decode b_PD_point 56 = .ok (.invokevirtual 74, 3) := by decide +kernel
theorem d_PD_point_59 : decode b_PD_point 59 = .ok (.bipush 10, 2) := by decide +kernel
theorem d_PD_point_61 : decode b_PD_point 61 = .ok (.irem, 1) := by decide +kernel
theorem d_PD_point_62 : decode b_PD_point 62 = .ok (.invokestatic 81, 3) := by decide +kernel
theorem d_PD_point_65 : decode b_PD_point 65 = .ok (.istore 4, 2) := by decide +kernel
theorem d_PD_point_67 : decode b_PD_point 67 = .ok (.iload 4, 2) := by decide +kernel
theorem d_PD_point_69 : decode b_PD_point 69 = .ok (.bipush 14, 2) := by decide +kernel
theorem d_PD_point_71 : decode b_PD_point 71 = .ok (.iconst 3, 1) := by decide +kernel
theorem d_PD_point_72 : decode b_PD_point 72 = .ok (.iload_n 3, 1) := by decide +kernel
theorem d_PD_point_73 : decode b_PD_point 73 = .ok (.iconst 4, 1) := by decide +kernel
theorem d_PD_point_74 : decode b_PD_point 74 = .ok (.idiv, 1) := by decide +kernel
theorem d_PD_point_75 : decode b_PD_point 75 = .ok (.imul, 1) := by decide +kernel
theorem d_PD_point_76 : decode b_PD_point 76 = .ok (.isub, 1) := by decide +kernel
theorem d_PD_point_77 : decode b_PD_point 77 = .ok (.iload_n 2, 1) := by decide +kernel
theorem d_PD_point_78 : decode b_PD_point 78 = .ok (.iconst 4, 1) := by decide +kernel
theorem d_PD_point_79 : decode b_PD_point 79 = .ok (.idiv, 1) := by decide +kernel
theorem d_PD_point_80 : decode b_PD_point 80 = .ok (.isub, 1) := by decide +kernel
theorem d_PD_point_81 : decode b_PD_point 81 = .ok (.ishr, 1) := by decide +kernel
theorem d_PD_point_82 : decode b_PD_point 82 = .ok (.iconst 1, 1) := by decide +kernel
theorem d_PD_point_83 : decode b_PD_point 83 = .ok (.iand, 1) := by decide +kernel
theorem d_PD_point_84 : decode b_PD_point 84 = .ok (.iconst 1, 1) := by decide +kernel
theorem d_PD_point_85 : decode b_PD_point 85 = .ok (.if_icmp .ne 7, 3) := by decide +kernel
theorem d_PD_point_88 : decode b_PD_point 88 = .ok (.iconst 1, 1) := by decide +kernel
theorem d_PD_point_89 : decode b_PD_point 89 = .ok (.goto 4, 3) := by decide +kernel
theorem d_PD_point_92 : decode b_PD_point 92 = .ok (.iconst 0, 1) := by decide +kernel
theorem d_PD_point_93 : decode b_PD_point 93 = .ok (.istore 5, 2) := by decide +kernel
theorem d_PD_point_95 : decode b_PD_point 95 = .ok (.aload_n 0, 1) := by decide +kernel
theorem d_PD_point_96 : decode b_PD_point 96 = .ok (.getfield 34, 3) := by decide +kernel
theorem d_PD_point_99 : decode b_PD_point 99 = .ok (.getfield 84, 3) := by decide +kernel
theorem d_PD_point_102 : decode b_PD_point 102 = .ok (.iconst 5, 1) := by decide +kernel
theorem d_PD_point_103 : decode b_PD_point 103 = .ok (.iload_n 1, 1) := by decide +kernel
theorem d_PD_point_104 : decode b_PD_point 104 = .ok (.iadd, 1) := by decide +kernel
theorem d_PD_point_105 : decode b_PD_point 105 = .ok (.bipush 12, 2) := by decide +kernel
theorem d_PD_point_107 : decode b_PD_point 107 = .ok (.iload_n 3, 1) := by decide +kernel
theorem d_PD_point_108 : decode b_PD_point 108 = .ok (.imul, 1) := by decide +kernel
theorem d_PD_point_109 : decode b_PD_point 109 = .ok (.iload_n 2, 1) := by decide +kernel
theorem d_PD_point_110 : decode b_PD_point 110 = .ok (.iadd, 1) := by decide +kernel
theorem d_PD_point_111 : decode b_PD_point 111 = .ok (.invokestatic 85, 3) := by decide +kernel
theorem d_PD_point_114 : decode b_PD_point 114 = .ok (.bipush 33, 2) := by decide +kernel
theorem d_PD_point_116 : decode b_PD_point 116 = .ok (.invokestatic 89, 3) := by decide +kernel
theorem d_PD_point_119 : decode b_PD_point 119 = .ok (.bipush 16, 2) := by decide +kernel
theorem d_PD_point_121 : decode b_PD_point 121 = .ok (.isub, 1) := by decide +kernel
theorem d_PD_point_122 : decode b_PD_point 122 = .ok (.istore 6, 2) := by decide +kernel
theorem d_PD_point_124 : decode b_PD_point 124 = .ok (.iload 5, 2) := by decide +kernel
theorem d_PD_point_126 : decode b_PD_point 126 = .ok (.ifCond .eq 8, 3) := by decide +kernel
theorem d_PD_point_129 : decode b_PD_point 129 = .ok (.bipush 40, 2) := by decide +kernel
theorem d_PD_point_131 : decode b_PD_point 131 = .ok (.goto 6, 3) := by decide +kernel
theorem d_PD_point_134 : decode b_PD_point 134 = .ok (.sipush 200, 3) := by decide +kernel
theorem d_PD_point_137 : decode b_PD_point 137 = .ok (.iload 6, 2) := by decide +kernel
theorem d_PD_point_139 : decode b_PD_point 139 = .ok (.iadd, 1) := by decide +kernel
theorem d_PD_point_140 : decode b_PD_point 140 = .ok (.ireturn, 1) := by decide +kernel
abbrev rm_PD_point : Room := { frames := 3, cells := 0, slots := 0, locals := 66 }
set_option maxHeartbeats 4000000 in
set_option maxRecDepth 100000 in
theorem c_PD_point_0 (l : Launch) (D : va_G) (h0 Lv : Nat) (sd : Int64) (lf : Int32) (sh x y : Int32) : Met l y_PD_point (Cond.code y_PD_point b_PD_point 7 (some .int) :: gw) rm_PD_point (cP D [.ref h0, .int sh, .int x, .int y] (fun H => ob D 0 h0 [.long sd, .null, .ref Lv, .int lf] H)) (rV (.int (-1))) 0 0 (fun _ => False) := by
  refine mt_B (by decide) (Nat.le_of_ble_eq_true rfl) ?_
  intro p e s m below meth c ls ⟨hx, hb, hr, hlocks, hin, hml, hown, hg⟩ ⟨hk, hp⟩ hl
  have hown : s.vm.findClass R_PD = some m.cls := hown
  have hl : lv_has ls 7 [(0, .ref h0), (1, .int sh), (2, .int x), (3, .int y)] := hl
  refine lv_aload_n hx hb d_PD_point_0 rfl (lv_at hl 0 rfl) ?_
  refine lv_iload_n hx hb d_PD_point_1 rfl (lv_at hl 1 rfl) ?_
  refine k_V hx hb hml hown hg hk h0 [.int sh] [] (c_PD_isPart_0 l D h0 Lv sd lf sh) z_PD_isPart w_217 w_219 s_PD_isPart (rc_ob hk hp rfl) (hp) d_PD_point_2 rfl rfl ⟨Nat.le_of_ble_eq_true rfl, Nat.le_of_ble_eq_true rfl⟩ rfl hl.1 rfl (Nat.le_of_ble_eq_true rfl) ⟨Nat.zero_le _, Nat.zero_le _⟩ ?_
  refine lv_if_eq (tgt := 39) hx hb d_PD_point_5 (by decide) (fun _ => ?_) (fun h => absurd (by decide) h)
  refine lv_iconst (v := -1) hx hb d_PD_point_39 (by decide) ?_
  exact e_i hx hb hr hlocks (rfl) d_PD_point_40
set_option maxHeartbeats 4000000 in
set_option maxRecDepth 100000 in
theorem c_PD_point (l : Launch) (D : va_G) (t0 h0 d Lv n : Nat) (R : Nat → Prop) (sd ds : Int64) (dk lf : Int32) (hn0 : 0 < n) (hn : n ≤ 16) (sh x y : Int32) : Met l y_PD_point (Cond.code y_PD_point b_PD_point 7 (some .int) :: gw) rm_PD_point (cP D [.ref h0, .int sh, .int x, .int y] (fun H => ob D 0 h0 [.long sd, .ref d, .ref Lv, .int lf] H ∧ drw D t0 R d ds dk n H)) (rV (.int (p_point ds dk n sh x y))) 0 0 (fun _ => False) := by
  refine mt_B (by decide) (Nat.le_of_ble_eq_true rfl) ?_
  intro p e s m below meth c ls ⟨hx, hb, hr, hlocks, hin, hml, hown, hg⟩ ⟨hk, hp⟩ hl
  have hown : s.vm.findClass R_PD = some m.cls := hown
  have hl : lv_has ls 7 [(0, .ref h0), (1, .int sh), (2, .int x), (3, .int y)] := hl
  obtain ⟨ho, hdr⟩ := hp
  obtain ⟨L, arr, el, ⟨hd, ⟨mc, hL, hcase⟩, hpt⟩, hR1, hne, hR2⟩ := id hdr
  rcases hcase with hc0 | ⟨-, cap, f, haq, hnc, hc1, hc2, hf⟩
  · exact absurd hc0.1 hne
  refine lv_aload_n hx hb d_PD_point_0 rfl (lv_at hl 0 rfl) ?_
  refine lv_iload_n hx hb d_PD_point_1 rfl (lv_at hl 1 rfl) ?_
  refine k_V hx hb hml hown hg hk h0 [.int sh] [] (c_PD_isPart l D t0 h0 d Lv n R sd ds dk lf hn0 hn sh) z_PD_isPart w_217 w_219 s_PD_isPart (rc_ob hk ho rfl) (⟨ho, hdr⟩) d_PD_point_2 rfl rfl ⟨Nat.le_of_ble_eq_true rfl, Nat.le_of_ble_eq_true rfl⟩ rfl hl.1 rfl (Nat.le_of_ble_eq_true rfl) ⟨Nat.zero_le _, Nat.zero_le _⟩ ?_
  refine lv_if_eq (tgt := 39) hx hb d_PD_point_5 (by decide) (fun c1 => ?_) (fun c1 => ?_)
  · refine lv_iconst (v := -1) hx hb d_PD_point_39 (by decide) ?_
    exact e_i hx hb hr hlocks ((p_point_no (Or.inl c1)).symm) d_PD_point_40
  · refine lv_aload_n hx hb d_PD_point_8 rfl (lv_at hl 0 rfl) ?_
    refine x_get hx hb hg hown hk ho rfl i_PD 1 (by decide) w_50 rfl d_PD_point_9 ?_
    refine x_getN hx hb hg hown hk hd rfl i_DR 1 (by decide) 5 rfl rfl d_PD_point_12 ?_
    refine lv_iconst (v := 1) hx hb d_PD_point_15 (by decide) ?_
    refine lv_icmp_ne (tgt := 39) hx hb d_PD_point_16 (by decide) (fun c2 => ?_) (fun c2 => ?_)
    · refine lv_iconst (v := -1) hx hb d_PD_point_39 (by decide) ?_
      exact e_i hx hb hr hlocks ((if_pos c2).symm) d_PD_point_40
    · subst c2
      refine lv_iload_n hx hb d_PD_point_19 rfl (lv_at hl 2 rfl) ?_
      refine lv_iconst (v := 0) hx hb d_PD_point_20 (by decide) ?_
      refine lv_bipush (v := 11) hx hb d_PD_point_21 (by decide) ?_
      refine k_S hx hb hml hown hg hk [.int x, .int 0, .int 11] [] (c_PD_within l D x 0 11) z_PD_within w_73 w_74 (trivial) d_PD_point_23 rfl rfl ⟨Nat.le_of_ble_eq_true rfl, Nat.le_of_ble_eq_true rfl⟩ rfl hl.1 rfl (Nat.le_of_ble_eq_true rfl) ⟨Nat.zero_le _, Nat.zero_le _⟩ ?_
      refine lv_if_eq (tgt := 39) hx hb d_PD_point_26 (by decide) (fun c3 => ?_) (fun c3 => ?_)
      · refine lv_iconst (v := -1) hx hb d_PD_point_39 (by decide) ?_
        exact e_i hx hb hr hlocks ((p_point_no (Or.inr (Or.inl c3))).symm) d_PD_point_40
      · refine lv_iload_n hx hb d_PD_point_29 rfl (lv_at hl 3 rfl) ?_
        refine lv_iconst (v := 0) hx hb d_PD_point_30 (by decide) ?_
        refine lv_bipush (v := 19) hx hb d_PD_point_31 (by decide) ?_
        refine k_S hx hb hml hown hg hk [.int y, .int 0, .int 19] [] (c_PD_within l D y 0 19) z_PD_within w_73 w_74 (trivial) d_PD_point_33 rfl rfl ⟨Nat.le_of_ble_eq_true rfl, Nat.le_of_ble_eq_true rfl⟩ rfl hl.1 rfl (Nat.le_of_ble_eq_true rfl) ⟨Nat.zero_le _, Nat.zero_le _⟩ ?_
        refine lv_if_ne (tgt := 41) hx hb d_PD_point_36 (by decide) (fun c4 => ?_) (fun c4 => ?_)
        · obtain ⟨i, hi, rfl⟩ := p_rng (by omega) (p_in_1 c1).1 (p_in_1 c1).2
          obtain ⟨j, hj2, ej⟩ := p_rest_lt (p_mix ds 1 (nI i)) (b := 100) (by decide) (by decide)
          have ef : p_fact (p_mix ds 1 (nI i)) 1 = nI j := by rw [p_fact, if_pos rfl]; exact ej
          have eg : p_pf (p_mix ds 1 (nI i)) (p_flt ds 1 n i) 1 = nI j := by rw [p_pf, if_neg (by decide), show nI 1 = (1 : Int32) from rfl]; exact ef
          have er : nI j - nI j / 10 * 10 = nI (j % 10) := pk_rem (d := 10) (by omega) (by decide) (by decide)
          have hm : j % 10 < 10 := Nat.mod_lt _ (by decide)
          have hink : p_ink ds (nI i) x y = (p_sign (j % 10) >>> (((14 - 3 * (y / 4)) - x / 4) &&& 31)) &&& 1 := by rw [p_ink, ef, irm, er, nI_clamp (by omega)]
          refine lv_aload_n hx hb d_PD_point_41 rfl (lv_at hl 0 rfl) ?_
          refine x_get hx hb hg hown hk ho rfl i_PD 1 (by decide) w_50 rfl d_PD_point_42 ?_
          refine x_getN hx hb hg hown hk hd rfl i_DR 2 (by decide) 6 rfl rfl d_PD_point_45 ?_
          refine lv_iload_n hx hb d_PD_point_48 rfl (lv_at hl 1 rfl) ?_
          refine k_V hx hb hml hown hg hk L [.int (nI i)] [] (c_AL_get l D L arr n cap i (el i) mc f (hi) hnc (by omega) (hf i (hi))) z_AL_get w_221 w_169 w_170 (rc_ob hk hL rfl) (⟨hL, haq⟩) d_PD_point_49 rfl rfl ⟨Nat.le_of_ble_eq_true rfl, Nat.le_of_ble_eq_true rfl⟩ rfl hl.1 rfl (Nat.le_of_ble_eq_true rfl) ⟨Nat.zero_le _, Nat.zero_le _⟩ ?_
          refine va_castY hx hb hown (hg _ w_222) (hk.m 10 rfl) (rc_ob hk (hpt i hi) rfl) d_PD_point_52 ?_
          refine lv_iconst (v := 1) hx hb d_PD_point_55 (by decide) ?_
          refine k_V hx hb hml hown hg hk (el i) [.int 1] [] (c_PT_fact l D (el i) (p_mix ds 1 (nI i)) (p_flt ds 1 n i) (p_flt_01 _ _ _ _) 1 (by decide)) z_PT_fact w_223 w_224 w_225 (rc_ob hk (hpt i hi) rfl) (hpt i hi) d_PD_point_56 rfl rfl ⟨Nat.le_of_ble_eq_true rfl, Nat.le_of_ble_eq_true rfl⟩ rfl hl.1 rfl (Nat.le_of_ble_eq_true rfl) ⟨Nat.zero_le _, Nat.zero_le _⟩ ?_
          rw [eg]
          refine lv_bipush (v := 10) hx hb d_PD_point_59 (by decide) ?_
          refine lv_irem hx hb d_PD_point_61 (by decide) ?_
          rw [er]
          refine k_S hx hb hml hown hg hk [.int (nI (j % 10))] [] (c_PD_sign l D (j % 10) hm) z_PD_sign w_235 w_236 (trivial) d_PD_point_62 rfl rfl ⟨Nat.le_of_ble_eq_true rfl, Nat.le_of_ble_eq_true rfl⟩ rfl hl.1 rfl (Nat.le_of_ble_eq_true rfl) ⟨Nat.zero_le _, Nat.zero_le _⟩ ?_
          refine lv_istore (lv' := [(4, .int (p_sign (j % 10))), (0, .ref h0), (1, .int (nI i)), (2, .int x), (3, .int y)]) hx hb d_PD_point_65 hl (by decide) rfl (fun ls hl => ?_)
          refine lv_iload hx hb d_PD_point_67 (lv_at hl 0 rfl) ?_
          refine lv_bipush (v := 14) hx hb d_PD_point_69 (by decide) ?_
          refine lv_iconst (v := 3) hx hb d_PD_point_71 (by decide) ?_
          refine lv_iload_n hx hb d_PD_point_72 rfl (lv_at hl 4 rfl) ?_
          refine lv_iconst (v := 4) hx hb d_PD_point_73 (by decide) ?_
          refine lv_idiv hx hb d_PD_point_74 (by decide) ?_
          refine lv_imul hx hb d_PD_point_75 ?_
          refine lv_isub hx hb d_PD_point_76 ?_
          refine lv_iload_n hx hb d_PD_point_77 rfl (lv_at hl 3 rfl) ?_
          refine lv_iconst (v := 4) hx hb d_PD_point_78 (by decide) ?_
          refine lv_idiv hx hb d_PD_point_79 (by decide) ?_
          refine lv_isub hx hb d_PD_point_80 ?_
          refine lv_ishr hx hb d_PD_point_81 ?_
          refine lv_iconst (v := 1) hx hb d_PD_point_82 (by decide) ?_
          refine lv_iand hx hb d_PD_point_83 ?_
          rw [← hink]
          refine lv_iconst (v := 1) hx hb d_PD_point_84 (by decide) ?_
          refine lv_icmp_ne (tgt := 92) hx hb d_PD_point_85 (by decide) (fun c5 => ?_) (fun c5 => ?_)
          · refine lv_iconst (v := 0) hx hb d_PD_point_92 (by decide) ?_
            refine lv_istore (lv' := [(5, .int 0), (4, .int (p_sign (j % 10))), (0, .ref h0), (1, .int (nI i)), (2, .int x), (3, .int y)]) hx hb d_PD_point_93 hl (by decide) rfl (fun ls hl => ?_)
            refine lv_aload_n hx hb d_PD_point_95 rfl (lv_at hl 2 rfl) ?_
            refine x_get hx hb hg hown hk ho rfl i_PD 1 (by decide) w_50 rfl d_PD_point_96 ?_
            refine x_getN hx hb hg hown hk hd rfl i_DR 0 (by decide) 4 rfl rfl d_PD_point_99 ?_
            refine lv_iconst (v := 5) hx hb d_PD_point_102 (by decide) ?_
            refine lv_iload_n hx hb d_PD_point_103 rfl (lv_at hl 3 rfl) ?_
            refine lv_iadd hx hb d_PD_point_104 ?_
            refine lv_bipush (v := 12) hx hb d_PD_point_105 (by decide) ?_
            refine lv_iload_n hx hb d_PD_point_107 rfl (lv_at hl 5 rfl) ?_
            refine lv_imul hx hb d_PD_point_108 ?_
            refine lv_iload_n hx hb d_PD_point_109 rfl (lv_at hl 4 rfl) ?_
            refine lv_iadd hx hb d_PD_point_110 ?_
            refine k_S hx hb hml hown hg hk [.long ds, .int (5 + (nI i)), .int ((12 * y) + x)] [] (c_PD_mixed l D ds (5 + nI i) (12 * y + x)) z_PD_mixed w_238 w_87 (trivial) d_PD_point_111 rfl rfl ⟨Nat.le_of_ble_eq_true rfl, Nat.le_of_ble_eq_true rfl⟩ rfl hl.1 rfl (Nat.le_of_ble_eq_true rfl) ⟨Nat.zero_le _, Nat.zero_le _⟩ ?_
            refine lv_bipush (v := 33) hx hb d_PD_point_114 (by decide) ?_
            refine k_S hx hb hml hown hg hk [.long (p_mix ds (5 + nI i) (12 * y + x)), .int 33] [] (c_PD_rest l D (p_mix ds (5 + nI i) (12 * y + x)) 33 (by decide)) z_PD_rest w_239 w_228 (trivial) d_PD_point_116 rfl rfl ⟨Nat.le_of_ble_eq_true rfl, Nat.le_of_ble_eq_true rfl⟩ rfl hl.1 rfl (Nat.le_of_ble_eq_true rfl) ⟨Nat.zero_le _, Nat.zero_le _⟩ ?_
            refine lv_bipush (v := 16) hx hb d_PD_point_119 (by decide) ?_
            refine lv_isub hx hb d_PD_point_121 ?_
            refine lv_istore (lv' := [(6, .int ((p_rest (p_mix ds (5 + nI i) (12 * y + x)) 33) - 16)), (5, .int 0), (4, .int (p_sign (j % 10))), (0, .ref h0), (1, .int (nI i)), (2, .int x), (3, .int y)]) hx hb d_PD_point_122 hl (by decide) rfl (fun ls hl => ?_)
            refine lv_iload hx hb d_PD_point_124 (lv_at hl 1 rfl) ?_
            refine lv_if_eq (tgt := 134) hx hb d_PD_point_126 (by decide) (fun _ => ?_) (fun h => absurd (by decide) h)
            refine lv_sipush (v := 200) hx hb d_PD_point_134 (by decide) ?_
            refine lv_iload hx hb d_PD_point_137 (lv_at hl 0 rfl) ?_
            refine lv_iadd hx hb d_PD_point_139 ?_
            exact e_i hx hb hr hlocks (by rw [p_point, if_neg (fun q => q rfl), if_neg c1, if_neg c3, if_neg c4, if_neg c5, Int32.sub_eq_add_neg, Int32.sub_eq_add_neg, Int32.add_assoc]) d_PD_point_140
          · refine lv_iconst (v := 1) hx hb d_PD_point_88 (by decide) ?_
            refine lv_goto (tgt := 93) hx hb d_PD_point_89 (by decide) ?_
            refine lv_istore (lv' := [(5, .int 1), (4, .int (p_sign (j % 10))), (0, .ref h0), (1, .int (nI i)), (2, .int x), (3, .int y)]) hx hb d_PD_point_93 hl (by decide) rfl (fun ls hl => ?_)
            refine lv_aload_n hx hb d_PD_point_95 rfl (lv_at hl 2 rfl) ?_
            refine x_get hx hb hg hown hk ho rfl i_PD 1 (by decide) w_50 rfl d_PD_point_96 ?_
            refine x_getN hx hb hg hown hk hd rfl i_DR 0 (by decide) 4 rfl rfl d_PD_point_99 ?_
            refine lv_iconst (v := 5) hx hb d_PD_point_102 (by decide) ?_
            refine lv_iload_n hx hb d_PD_point_103 rfl (lv_at hl 3 rfl) ?_
            refine lv_iadd hx hb d_PD_point_104 ?_
            refine lv_bipush (v := 12) hx hb d_PD_point_105 (by decide) ?_
            refine lv_iload_n hx hb d_PD_point_107 rfl (lv_at hl 5 rfl) ?_
            refine lv_imul hx hb d_PD_point_108 ?_
            refine lv_iload_n hx hb d_PD_point_109 rfl (lv_at hl 4 rfl) ?_
            refine lv_iadd hx hb d_PD_point_110 ?_
            refine k_S hx hb hml hown hg hk [.long ds, .int (5 + (nI i)), .int ((12 * y) + x)] [] (c_PD_mixed l D ds (5 + nI i) (12 * y + x)) z_PD_mixed w_238 w_87 (trivial) d_PD_point_111 rfl rfl ⟨Nat.le_of_ble_eq_true rfl, Nat.le_of_ble_eq_true rfl⟩ rfl hl.1 rfl (Nat.le_of_ble_eq_true rfl) ⟨Nat.zero_le _, Nat.zero_le _⟩ ?_
            refine lv_bipush (v := 33) hx hb d_PD_point_114 (by decide) ?_
            refine k_S hx hb hml hown hg hk [.long (p_mix ds (5 + nI i) (12 * y + x)), .int 33] [] (c_PD_rest l D (p_mix ds (5 + nI i) (12 * y + x)) 33 (by decide)) z_PD_rest w_239 w_228 (trivial) d_PD_point_116 rfl rfl ⟨Nat.le_of_ble_eq_true rfl, Nat.le_of_ble_eq_true rfl⟩ rfl hl.1 rfl (Nat.le_of_ble_eq_true rfl) ⟨Nat.zero_le _, Nat.zero_le _⟩ ?_
            refine lv_bipush (v := 16) hx hb d_PD_point_119 (by decide) ?_
            refine lv_isub hx hb d_PD_point_121 ?_
            refine lv_istore (lv' := [(6, .int ((p_rest (p_mix ds (5 + nI i) (12 * y + x)) 33) - 16)), (5, .int 1), (4, .int (p_sign (j % 10))), (0, .ref h0), (1, .int (nI i)), (2, .int x), (3, .int y)]) hx hb d_PD_point_122 hl (by decide) rfl (fun ls hl => ?_)
            refine lv_iload hx hb d_PD_point_124 (lv_at hl 1 rfl) ?_
            refine lv_if_eq (tgt := 134) hx hb d_PD_point_126 (by decide) (fun h => absurd h (by decide)) (fun _ => ?_)
            refine lv_bipush (v := 40) hx hb d_PD_point_129 (by decide) ?_
            refine lv_goto (tgt := 137) hx hb d_PD_point_131 (by decide) ?_
            refine lv_iload hx hb d_PD_point_137 (lv_at hl 0 rfl) ?_
            refine lv_iadd hx hb d_PD_point_139 ?_
            exact e_i hx hb hr hlocks (by rw [p_point, if_neg (fun q => q rfl), if_neg c1, if_neg c3, if_neg c4, if_pos c5, Int32.sub_eq_add_neg, Int32.sub_eq_add_neg, Int32.add_assoc]) d_PD_point_140
        · refine lv_iconst (v := -1) hx hb d_PD_point_39 (by decide) ?_
          exact e_i hx hb hr hlocks ((p_point_no (Or.inr (Or.inr c4))).symm) d_PD_point_40
theorem d_PD_faultless_0 : decode b_PD_faultless 0 = .ok (.aload_n 0, 1) := by decide +kernel
theorem d_PD_faultless_1 : decode b_PD_faultless 1 = .ok (.iload_n 1, 1) := by decide +kernel
theorem d_PD_faultless_2 : decode b_PD_faultless 2 = .ok (.invokevirtual 64, 3) := by decide +kernel
theorem d_PD_faultless_5 : decode b_PD_faultless 5 = .ok (.ifCond .eq 38, 3) := by decide +kernel
theorem d_PD_faultless_8 : decode b_PD_faultless 8 = .ok (.aload_n 0, 1) := by decide +kernel
theorem d_PD_faultless_9 : decode b_PD_faultless 9 = .ok (.getfield 34, 3) := by decide +kernel
theorem d_PD_faultless_12 : decode b_PD_faultless 12 = .ok (.getfield 78, 3) := by decide +kernel
theorem d_PD_faultless_15 : decode b_PD_faultless 15 = .ok (.iconst 3, 1) := by decide +kernel
theorem d_PD_faultless_16 : decode b_PD_faultless 16 = .ok (.if_icmp .ne 27, 3) := by decide +kernel
theorem d_PD_faultless_19 : decode b_PD_faultless 19 = .ok (.aload_n 0, 1) := by decide +kernel
theorem d_PD_faultless_20 : decode b_PD_faultless 20 = .ok (.getfield 34, 3) := by decide +kernel
theorem d_PD_faultless_23 : decode b_PD_faultless 23 = .ok (.getfield 38, 3) := by decide +kernel
theorem d_PD_faultless_26 : decode b_PD_faultless 26 = .ok (.iload_n 1, 1) := by decide +kernel
theorem d_PD_faultless_27 : decode b_PD_faultless 27 = .ok (.invokevirtual 68, 3) := by decide +kernel
theorem d_PD_faultless_30 : decode b_PD_faultless 30 = .ok (.checkcast 72, 3) := by decide +kernel
theorem d_PD_faultless_33 : decode b_PD_faultless 33 = .ok (.getfield 118, 3) := by decide +kernel
theorem d_PD_faultless_36 : decode b_PD_faultless 36 = .ok (.ifCond .ne 7, 3) := by decide +kernel
theorem d_PD_faultless_39 : decode b_PD_faultless 39 = .ok (.iconst 1, 1) := by decide +kernel
theorem d_PD_faultless_40 : decode b_PD_faultless 40 = .ok (.goto 4, 3) := by decide +kernel
theorem d_PD_faultless_43 : decode b_PD_faultless 43 = .ok (.iconst 0, 1) := by decide +kernel
theorem d_PD_faultless_44 : decode b_PD_faultless 44 = .ok (.ireturn, 1) := by decide +kernel
abbrev rm_PD_faultless : Room := { frames := 3, cells := 0, slots := 0, locals := 66 }
set_option maxHeartbeats 4000000 in
set_option maxRecDepth 100000 in
theorem c_PD_faultless_0 (l : Launch) (D : va_G) (h0 Lv : Nat) (sd : Int64) (lf : Int32) (i : Int32) : Met l y_PD_faultless (Cond.code y_PD_faultless b_PD_faultless 2 (some .boolean) :: gw) rm_PD_faultless (cP D [.ref h0, .int i] (fun H => ob D 0 h0 [.long sd, .null, .ref Lv, .int lf] H)) (rV (.int 0)) 0 0 (fun _ => False) := by
  refine mt_B (by decide) (Nat.le_of_ble_eq_true rfl) ?_
  intro p e s m below meth c ls ⟨hx, hb, hr, hlocks, hin, hml, hown, hg⟩ ⟨hk, hp⟩ hl
  have hown : s.vm.findClass R_PD = some m.cls := hown
  have hl : lv_has ls 2 [(0, .ref h0), (1, .int i)] := hl
  refine lv_aload_n hx hb d_PD_faultless_0 rfl (lv_at hl 0 rfl) ?_
  refine lv_iload_n hx hb d_PD_faultless_1 rfl (lv_at hl 1 rfl) ?_
  refine k_V hx hb hml hown hg hk h0 [.int i] [] (c_PD_isPart_0 l D h0 Lv sd lf i) z_PD_isPart w_217 w_219 s_PD_isPart (rc_ob hk hp rfl) (hp) d_PD_faultless_2 rfl rfl ⟨Nat.le_of_ble_eq_true rfl, Nat.le_of_ble_eq_true rfl⟩ rfl hl.1 rfl (Nat.le_of_ble_eq_true rfl) ⟨Nat.zero_le _, Nat.zero_le _⟩ ?_
  refine lv_if_eq (tgt := 43) hx hb d_PD_faultless_5 (by decide) (fun _ => ?_) (fun h => absurd (by decide) h)
  refine lv_iconst (v := 0) hx hb d_PD_faultless_43 (by decide) ?_
  exact e_z hx hb hr hlocks (rfl) (by decide) d_PD_faultless_44
set_option maxHeartbeats 4000000 in
set_option maxRecDepth 100000 in
theorem c_PD_faultless (l : Launch) (D : va_G) (t0 h0 d Lv n : Nat) (R : Nat → Prop) (sd ds : Int64) (dk lf : Int32) (hn0 : 0 < n) (hn : n ≤ 16) (i : Int32) : Met l y_PD_faultless (Cond.code y_PD_faultless b_PD_faultless 2 (some .boolean) :: gw) rm_PD_faultless (cP D [.ref h0, .int i] (fun H => ob D 0 h0 [.long sd, .ref d, .ref Lv, .int lf] H ∧ drw D t0 R d ds dk n H)) (rV (.int (p_faultless ds dk n i))) 0 0 (fun _ => False) := by
  refine mt_B (by decide) (Nat.le_of_ble_eq_true rfl) ?_
  intro p e s m below meth c ls ⟨hx, hb, hr, hlocks, hin, hml, hown, hg⟩ ⟨hk, hp⟩ hl
  have hown : s.vm.findClass R_PD = some m.cls := hown
  have hl : lv_has ls 2 [(0, .ref h0), (1, .int i)] := hl
  obtain ⟨ho, hdr⟩ := hp
  obtain ⟨L, arr, el, ⟨hd, ⟨mc, hL, hcase⟩, hpt⟩, hR1, hne, hR2⟩ := id hdr
  rcases hcase with hc0 | ⟨-, cap, f, haq, hnc, hc1, hc2, hf⟩
  · exact absurd hc0.1 hne
  refine lv_aload_n hx hb d_PD_faultless_0 rfl (lv_at hl 0 rfl) ?_
  refine lv_iload_n hx hb d_PD_faultless_1 rfl (lv_at hl 1 rfl) ?_
  refine k_V hx hb hml hown hg hk h0 [.int i] [] (c_PD_isPart l D t0 h0 d Lv n R sd ds dk lf hn0 hn i) z_PD_isPart w_217 w_219 s_PD_isPart (rc_ob hk ho rfl) (⟨ho, hdr⟩) d_PD_faultless_2 rfl rfl ⟨Nat.le_of_ble_eq_true rfl, Nat.le_of_ble_eq_true rfl⟩ rfl hl.1 rfl (Nat.le_of_ble_eq_true rfl) ⟨Nat.zero_le _, Nat.zero_le _⟩ ?_
  refine lv_if_eq (tgt := 43) hx hb d_PD_faultless_5 (by decide) (fun c1 => ?_) (fun c1 => ?_)
  · refine lv_iconst (v := 0) hx hb d_PD_faultless_43 (by decide) ?_
    exact e_z hx hb hr hlocks ((p_fl_no c1).symm) (by decide) d_PD_faultless_44
  · refine lv_aload_n hx hb d_PD_faultless_8 rfl (lv_at hl 0 rfl) ?_
    refine x_get hx hb hg hown hk ho rfl i_PD 1 (by decide) w_50 rfl d_PD_faultless_9 ?_
    refine x_getN hx hb hg hown hk hd rfl i_DR 1 (by decide) 5 rfl rfl d_PD_faultless_12 ?_
    refine lv_iconst (v := 3) hx hb d_PD_faultless_15 (by decide) ?_
    refine lv_icmp_ne (tgt := 43) hx hb d_PD_faultless_16 (by decide) (fun c2 => ?_) (fun c2 => ?_)
    · refine lv_iconst (v := 0) hx hb d_PD_faultless_43 (by decide) ?_
      exact e_z hx hb hr hlocks ((if_pos c2).symm) (by decide) d_PD_faultless_44
    · obtain ⟨j, hj, rfl⟩ := p_rng (by omega) (p_in_1 c1).1 (p_in_1 c1).2
      refine lv_aload_n hx hb d_PD_faultless_19 rfl (lv_at hl 0 rfl) ?_
      refine x_get hx hb hg hown hk ho rfl i_PD 1 (by decide) w_50 rfl d_PD_faultless_20 ?_
      refine x_getN hx hb hg hown hk hd rfl i_DR 2 (by decide) 6 rfl rfl d_PD_faultless_23 ?_
      refine lv_iload_n hx hb d_PD_faultless_26 rfl (lv_at hl 1 rfl) ?_
      refine k_V hx hb hml hown hg hk L [.int (nI j)] [] (c_AL_get l D L arr n cap j (el j) mc f (hj) hnc (by omega) (hf j (hj))) z_AL_get w_221 w_169 w_170 (rc_ob hk hL rfl) (⟨hL, haq⟩) d_PD_faultless_27 rfl rfl ⟨Nat.le_of_ble_eq_true rfl, Nat.le_of_ble_eq_true rfl⟩ rfl hl.1 rfl (Nat.le_of_ble_eq_true rfl) ⟨Nat.zero_le _, Nat.zero_le _⟩ ?_
      refine va_castY hx hb hown (hg _ w_222) (hk.m 10 rfl) (rc_ob hk (hpt j hj) rfl) d_PD_faultless_30 ?_
      refine x_getN hx hb hg hown hk (hpt j hj) rfl i_PT 1 (by decide) 3 rfl rfl d_PD_faultless_33 ?_
      refine lv_if_ne (tgt := 43) hx hb d_PD_faultless_36 (by decide) (fun c3 => ?_) (fun c3 => ?_)
      · refine lv_iconst (v := 0) hx hb d_PD_faultless_43 (by decide) ?_
        exact e_z hx hb hr hlocks (by rw [p_faultless, if_neg (fun q => q c2), if_neg c1, nI_clamp (by omega), if_neg c3]) (by decide) d_PD_faultless_44
      · refine lv_iconst (v := 1) hx hb d_PD_faultless_39 (by decide) ?_
        refine lv_goto (tgt := 44) hx hb d_PD_faultless_40 (by decide) ?_
        exact e_z hx hb hr hlocks (by rw [p_faultless, if_neg (fun q => q c2), if_neg c1, nI_clamp (by omega), if_pos c3]) (by decide) d_PD_faultless_44
theorem d_PD_left_0 : decode b_PD_left 0 = .ok (.aload_n 0, 1) := by decide +kernel
theorem d_PD_left_1 : decode b_PD_left 1 = .ok (.iload_n 1, 1) := by decide +kernel
theorem d_PD_left_2 : decode b_PD_left 2 = .ok (.invokevirtual 64, 3) := by decide +kernel
theorem d_PD_left_5 : decode b_PD_left 5 = .ok (.ifCond .ne 5, 3) := by decide +kernel
theorem d_PD_left_8 : decode b_PD_left 8 = .ok (.iconst (-1), 1) := by decide +kernel
theorem d_PD_left_9 : decode b_PD_left 9 = .ok (.ireturn, 1) := by decide +kernel
theorem d_PD_left_10 : decode b_PD_left 10 = .ok (.iload_n 1, 1) := by decide +kernel
theorem d_PD_left_11 : decode b_PD_left 11 = .ok (.istore_n 2, 1) := by decide +kernel
theorem d_PD_left_12 : decode b_PD_left 12 = .ok (.iconst 0, 1) := by decide +kernel
theorem d_PD_left_13 : decode b_PD_left 13 = .ok (.istore_n 3, 1) := by decide +kernel
theorem d_PD_left_14 : decode b_PD_left 14 = .ok (.iload_n 3, 1) := by decide +kernel
theorem d_PD_left_15 : decode b_PD_left 15 = .ok (.aload_n 0, 1) := by decide +kernel
theorem d_PD_left_16 : decode b_PD_left 16 = .ok (.getfield 34, 3) := by decide +kernel
theorem d_PD_left_19 : decode b_PD_left 19 = .ok (.getfield 38, 3) := by decide +kernel
theorem d_PD_left_22 : decode b_PD_left 22 = .ok (.invokevirtual 43, 3) := by decide +kernel
theorem d_PD_left_25 : decode b_PD_left 25 = .ok (.if_icmp .ge 52, 3) := by decide +kernel
theorem d_PD_left_28 : decode b_PD_left 28 = .ok (.aload_n 0, 1) := by decide +kernel
theorem d_PD_left_29 : decode b_PD_left 29 = .ok (.getfield 60, 3) := by decide +kernel
theorem d_PD_left_32 : decode b_PD_left 32 = .ok (.iload_n 3, 1) := by decide +kernel
theorem d_PD_left_33 : decode b_PD_left 33 = .ok (.ishr, 1) := by decide +kernel
theorem d_PD_left_34 : decode b_PD_left 34 = .ok (.iconst 1, 1) := by decide +kernel
theorem d_PD_left_35 : decode b_PD_left 35 = .ok (.iand, 1) := by decide +kernel
theorem d_PD_left_36 : decode b_PD_left 36 = .ok (.iconst 1, 1) := by decide +kernel
theorem d_PD_left_37 : decode b_PD_left 37 = .ok (.if_icmp .ne 7, 3) := by decide +kernel
theorem d_PD_left_40 : decode b_PD_left 40 = .ok (.iconst 1, 1) := by decide +kernel
theorem d_PD_left_41 : decode b_PD_left 41 = .ok (.goto 4, 3) := by decide +kernel
theorem d_PD_left_44 : decode b_PD_left 44 = .ok (.iconst 0, 1) := by decide +kernel
theorem d_PD_left_45 : decode b_PD_left 45 = .ok (.istore 4, 2) := by decide +kernel
theorem d_PD_left_47 : decode b_PD_left 47 = .ok (.iload 4, 2) := by decide +kernel
theorem d_PD_left_49 : decode b_PD_left 49 = .ok (.ifCond .eq 9, 3) := by decide +kernel
theorem d_PD_left_52 : decode b_PD_left 52 = .ok (.iload_n 2, 1) := by decide +kernel
theorem d_PD_left_53 : decode b_PD_left 53 = .ok (.ifCond .ne 5, 3) := by decide +kernel
theorem d_PD_left_56 : decode b_PD_left 56 = .ok (.iload_n 3, 1) := by decide +kernel
theorem d_PD_left_57 : decode b_PD_left 57 = .ok (.ireturn, 1) := by decide +kernel
theorem d_PD_left_58 : decode b_PD_left 58 = .ok (.iload_n 2, 1) := by decide +kernel
theorem d_PD_left_59 : decode b_PD_left 59 = .ok (.iload 4, 2) := by decide +kernel
theorem d_PD_left_61 : decode b_PD_left 61 = .ok (.ifCond .eq 7, 3) := by decide +kernel
theorem d_PD_left_64 : decode b_PD_left 64 = .ok (.iconst 1, 1) := by decide +kernel
theorem d_PD_left_65 : decode b_PD_left 65 = .ok (.goto 4, 3) := by decide +kernel
theorem d_PD_left_68 : decode b_PD_left 68 = .ok (.iconst 0, 1) := by decide +kernel
theorem d_PD_left_69 : decode b_PD_left 69 = .ok (.isub, 1) := by decide +kernel
theorem d_PD_left_70 : decode b_PD_left 70 = .ok (.istore_n 2, 1) := by decide +kernel
theorem d_PD_left_71 : decode b_PD_left 71 = .ok (.iinc 3 1, 3) := by decide +kernel
theorem d_PD_left_74 : decode b_PD_left 74 = .ok (.goto (-60), 3) := by decide +kernel
theorem d_PD_left_77 : decode b_PD_left 77 = .ok (.iconst (-1), 1) := by decide +kernel
theorem d_PD_left_78 : decode b_PD_left 78 = .ok (.ireturn, 1) := by decide +kernel
abbrev rm_PD_left : Room := { frames := 2, cells := 0, slots := 0, locals := 45 }
set_option maxHeartbeats 4000000 in
set_option maxRecDepth 100000 in
theorem c_PD_left_0 (l : Launch) (D : va_G) (h0 Lv : Nat) (sd : Int64) (lf : Int32) (i : Int32) : Met l y_PD_left (Cond.code y_PD_left b_PD_left 5 (some .int) :: gw) rm_PD_left (cP D [.ref h0, .int i] (fun H => ob D 0 h0 [.long sd, .null, .ref Lv, .int lf] H)) (rV (.int (-1))) 0 0 (fun _ => False) := by
  refine mt_B (by decide) (Nat.le_of_ble_eq_true rfl) ?_
  intro p e s m below meth c ls ⟨hx, hb, hr, hlocks, hin, hml, hown, hg⟩ ⟨hk, hp⟩ hl
  have hown : s.vm.findClass R_PD = some m.cls := hown
  have hl : lv_has ls 5 [(0, .ref h0), (1, .int i)] := hl
  refine lv_aload_n hx hb d_PD_left_0 rfl (lv_at hl 0 rfl) ?_
  refine lv_iload_n hx hb d_PD_left_1 rfl (lv_at hl 1 rfl) ?_
  refine k_V hx hb hml hown hg hk h0 [.int i] [] (c_PD_isPart_0 l D h0 Lv sd lf i) z_PD_isPart w_217 w_219 s_PD_isPart (rc_ob hk hp rfl) (hp) d_PD_left_2 rfl rfl ⟨Nat.le_of_ble_eq_true rfl, Nat.le_of_ble_eq_true rfl⟩ rfl hl.1 rfl (Nat.le_of_ble_eq_true rfl) ⟨Nat.zero_le _, Nat.zero_le _⟩ ?_
  refine lv_if_ne (tgt := 10) hx hb d_PD_left_5 (by decide) (fun h => absurd (by decide) h) (fun _ => ?_)
  refine lv_iconst (v := -1) hx hb d_PD_left_8 (by decide) ?_
  exact e_i hx hb hr hlocks (rfl) d_PD_left_9
set_option maxHeartbeats 4000000 in
set_option maxRecDepth 100000 in
theorem c_PD_left (l : Launch) (D : va_G) (t0 h0 d Lv n : Nat) (R : Nat → Prop) (sd ds : Int64) (dk : Int32) (b : Nat) (hbb : b < 2 ^ 16) (hn0 : 0 < n) (hn : n ≤ 16) (i : Int32) : Met l y_PD_left (Cond.code y_PD_left b_PD_left 5 (some .int) :: gw) rm_PD_left (cP D [.ref h0, .int i] (fun H => ob D 0 h0 [.long sd, .ref d, .ref Lv, .int (nI b)] H ∧ drw D t0 R d ds dk n H)) (rV (.int (p_ls b i n 0))) 0 0 (fun _ => False) := by
  refine mt_B (by decide) (Nat.le_of_ble_eq_true rfl) ?_
  intro p e s m below meth c ls ⟨hx, hb, hr, hlocks, hin, hml, hown, hg⟩ ⟨hk, hp⟩ hl
  have hown : s.vm.findClass R_PD = some m.cls := hown
  have hl : lv_has ls 5 [(0, .ref h0), (1, .int i)] := hl
  obtain ⟨ho, hdr⟩ := hp
  obtain ⟨L, arr, el, ⟨hd, ⟨mc, hL, hcase⟩, hpt⟩, hR1, hne, hR2⟩ := id hdr
  rcases hcase with hc0 | ⟨-, cap, f, haq, hnc, hc1, hc2, hf⟩
  · exact absurd hc0.1 hne
  refine lv_aload_n hx hb d_PD_left_0 rfl (lv_at hl 0 rfl) ?_
  refine lv_iload_n hx hb d_PD_left_1 rfl (lv_at hl 1 rfl) ?_
  refine k_V hx hb hml hown hg hk h0 [.int i] [] (c_PD_isPart l D t0 h0 d Lv n R sd ds dk (nI b) hn0 hn i) z_PD_isPart w_217 w_219 s_PD_isPart (rc_ob hk ho rfl) (⟨ho, hdr⟩) d_PD_left_2 rfl rfl ⟨Nat.le_of_ble_eq_true rfl, Nat.le_of_ble_eq_true rfl⟩ rfl hl.1 rfl (Nat.le_of_ble_eq_true rfl) ⟨Nat.zero_le _, Nat.zero_le _⟩ ?_
  refine lv_if_ne (tgt := 10) hx hb d_PD_left_5 (by decide) (fun c1 => ?_) (fun c1 => ?_)
  · refine lv_iload_n hx hb d_PD_left_10 rfl (lv_at hl 1 rfl) ?_
    refine lv_istore_n (lv' := [(2, .int i), (0, .ref h0), (1, .int i)]) hx hb d_PD_left_11 rfl hl (by decide) rfl (fun ls hl => ?_)
    refine lv_iconst (v := 0) hx hb d_PD_left_12 (by decide) ?_
    refine lv_istore_n (lv' := [(3, .int 0), (2, .int i), (0, .ref h0), (1, .int i)]) hx hb d_PD_left_13 rfl hl (by decide) rfl (fun ls hl => ?_)
    have loop : ∀ (fu : Nat) (j : Nat) (x3 x2 : Int32), (j ≤ n) → (n - j < fu) → (x3 = nI j) → (x2 = i - nI (p_pop b j)) → (p_ls b i (n - j) j = p_ls b i n 0) → ∀ ls : Array Slot, lv_has ls 5 [(3, .int x3), (2, .int x2), (0, .ref h0), (1, .int i)] → W p l e rm_PD_left s m ([.ref h0, .int i] : List Value).toArray below meth c s.heap [] 0 0 (MQ below (rV (.int (p_ls b i n 0))) ([.ref h0, .int i] : List Value).toArray s 0 0 (fun _ => False)) (F0 m 14 ls []) := by
      intro fu
      induction fu with
      | zero => intro j x3 x2 h1 h2 e3 e2 hg2; exact absurd h2 (Nat.not_lt_zero _)
      | succ fu ih =>
        intro j x3 x2 h1 h2 e3 e2 hg2 ls hl
        refine lv_iload_n hx hb d_PD_left_14 rfl (lv_at hl 0 rfl) ?_
        refine lv_aload_n hx hb d_PD_left_15 rfl (lv_at hl 2 rfl) ?_
        refine x_get hx hb hg hown hk ho rfl i_PD 1 (by decide) w_50 rfl d_PD_left_16 ?_
        refine x_getN hx hb hg hown hk hd rfl i_DR 2 (by decide) 6 rfl rfl d_PD_left_19 ?_
        refine k_V hx hb hml hown hg hk L [] [.int x3] (c_AL_size l D L arr (nI n) mc) z_AL_size w_212 w_165 w_166 (rc_ob hk (hL) rfl) (hL) d_PD_left_22 rfl rfl ⟨Nat.le_of_ble_eq_true rfl, Nat.le_of_ble_eq_true rfl⟩ rfl hl.1 rfl (Nat.le_of_ble_eq_true rfl) ⟨Nat.zero_le _, Nat.zero_le _⟩ ?_
        refine lv_icmp_ge (tgt := 77) hx hb d_PD_left_25 (by decide) (fun c2 => ?_) (fun c2 => ?_)
        · have hj : j = n := by have := (q_le rfl e3 (by omega) (by omega)).mp c2; omega
          refine lv_iconst (v := -1) hx hb d_PD_left_77 (by decide) ?_
          exact e_i hx hb hr hlocks (by rw [← hg2, hj, Nat.sub_self]; rfl) d_PD_left_78
        · have hj : j < n := Nat.not_le.mp (fun h => c2 ((q_le rfl e3 (by omega) (by omega)).mpr h))
          subst e3
          have hs : n - j = (n - (j + 1)) + 1 := by omega
          refine lv_aload_n hx hb d_PD_left_28 rfl (lv_at hl 2 rfl) ?_
          refine x_get hx hb hg hown hk ho rfl i_PD 3 (by decide) w_52 rfl d_PD_left_29 ?_
          refine lv_iload_n hx hb d_PD_left_32 rfl (lv_at hl 0 rfl) ?_
          refine lv_ishr hx hb d_PD_left_33 ?_
          refine lv_iconst (v := 1) hx hb d_PD_left_34 (by decide) ?_
          refine lv_iand hx hb d_PD_left_35 ?_
          rw [q_bit (by omega) (by omega)]
          refine lv_iconst (v := 1) hx hb d_PD_left_36 (by decide) ?_
          refine lv_icmp_ne (tgt := 44) hx hb d_PD_left_37 (by decide) (fun c3 => ?_) (fun c3 => ?_)
          · have hb0 : b / 2 ^ j % 2 = 0 := by have h0 : ¬ b / 2 ^ j % 2 = 1 := fun h => c3 (by rw [h]; rfl); omega
            refine lv_iconst (v := 0) hx hb d_PD_left_44 (by decide) ?_
            refine lv_istore (lv' := [(4, .int 0), (3, .int (nI j)), (2, .int x2), (0, .ref h0), (1, .int i)]) hx hb d_PD_left_45 hl (by decide) rfl (fun ls hl => ?_)
            refine lv_iload hx hb d_PD_left_47 (lv_at hl 0 rfl) ?_
            refine lv_if_eq (tgt := 58) hx hb d_PD_left_49 (by decide) (fun _ => ?_) (fun h => absurd (by decide) h)
            refine lv_iload_n hx hb d_PD_left_58 rfl (lv_at hl 2 rfl) ?_
            refine lv_iload hx hb d_PD_left_59 (lv_at hl 0 rfl) ?_
            refine lv_if_eq (tgt := 68) hx hb d_PD_left_61 (by decide) (fun _ => ?_) (fun h => absurd (by decide) h)
            refine lv_iconst (v := 0) hx hb d_PD_left_68 (by decide) ?_
            refine lv_isub hx hb d_PD_left_69 ?_
            refine lv_topi (fun y2 ey2 => ?_)
            refine lv_istore_n (lv' := [(2, .int y2), (4, .int 0), (3, .int (nI j)), (0, .ref h0), (1, .int i)]) hx hb d_PD_left_70 rfl hl (by decide) rfl (fun ls hl => ?_)
            obtain ⟨y3, ey3⟩ : ∃ y : Int32, y = (nI j) + 1 := ⟨_, rfl⟩
            refine lv_iinc (v := y3) (lv' := [(3, .int y3), (2, .int y2), (4, .int 0), (0, .ref h0), (1, .int i)]) hx hb d_PD_left_71 hl (k := 2) rfl (by rw [ey3]; rfl) (by decide) rfl (fun ls hl => ?_)
            refine lv_goto (tgt := 14) hx hb d_PD_left_74 (by decide) ?_
            exact ih (j + 1) y3 y2 hj (by omega) (by rw [ey3, nI_1]) (by rw [ey2, e2, p_pop, hb0]; exact Int32.sub_zero _) (by rw [← hg2, hs, p_ls, if_neg (fun h => by omega)]) ls (lv_sub hl [0, 1, 3, 4] rfl)
          · have hb1 : b / 2 ^ j % 2 = 1 := (q_eq rfl (show (1 : Int32) = nI 1 from rfl) (by omega) (by omega)).mp c3
            refine lv_iconst (v := 1) hx hb d_PD_left_40 (by decide) ?_
            refine lv_goto (tgt := 45) hx hb d_PD_left_41 (by decide) ?_
            refine lv_istore (lv' := [(4, .int 1), (3, .int (nI j)), (2, .int x2), (0, .ref h0), (1, .int i)]) hx hb d_PD_left_45 hl (by decide) rfl (fun ls hl => ?_)
            refine lv_iload hx hb d_PD_left_47 (lv_at hl 0 rfl) ?_
            refine lv_if_eq (tgt := 58) hx hb d_PD_left_49 (by decide) (fun h => absurd h (by decide)) (fun _ => ?_)
            refine lv_iload_n hx hb d_PD_left_52 rfl (lv_at hl 2 rfl) ?_
            refine lv_if_ne (tgt := 58) hx hb d_PD_left_53 (by decide) (fun c4 => ?_) (fun c4 => ?_)
            · refine lv_iload_n hx hb d_PD_left_58 rfl (lv_at hl 2 rfl) ?_
              refine lv_iload hx hb d_PD_left_59 (lv_at hl 0 rfl) ?_
              refine lv_if_eq (tgt := 68) hx hb d_PD_left_61 (by decide) (fun h => absurd h (by decide)) (fun _ => ?_)
              refine lv_iconst (v := 1) hx hb d_PD_left_64 (by decide) ?_
              refine lv_goto (tgt := 69) hx hb d_PD_left_65 (by decide) ?_
              refine lv_isub hx hb d_PD_left_69 ?_
              refine lv_topi (fun y2 ey2 => ?_)
              refine lv_istore_n (lv' := [(2, .int y2), (4, .int 1), (3, .int (nI j)), (0, .ref h0), (1, .int i)]) hx hb d_PD_left_70 rfl hl (by decide) rfl (fun ls hl => ?_)
              obtain ⟨y3, ey3⟩ : ∃ y : Int32, y = (nI j) + 1 := ⟨_, rfl⟩
              refine lv_iinc (v := y3) (lv' := [(3, .int y3), (2, .int y2), (4, .int 1), (0, .ref h0), (1, .int i)]) hx hb d_PD_left_71 hl (k := 2) rfl (by rw [ey3]; rfl) (by decide) rfl (fun ls hl => ?_)
              refine lv_goto (tgt := 14) hx hb d_PD_left_74 (by decide) ?_
              exact ih (j + 1) y3 y2 hj (by omega) (by rw [ey3, nI_1]) (by rw [ey2, e2, p_pop, hb1, ← nI_1, Int32.sub_sub]) (by rw [← hg2, hs, p_ls, if_neg (fun h => c4 (by rw [e2]; exact q_sub0.mpr h.2))]) ls (lv_sub hl [0, 1, 3, 4] rfl)
            · refine lv_iload_n hx hb d_PD_left_56 rfl (lv_at hl 1 rfl) ?_
              exact e_i hx hb hr hlocks (by rw [← hg2, hs, p_ls, if_pos ⟨hb1, q_sub0.mp (by rw [← e2]; exact c4)⟩]) d_PD_left_57
    exact loop (n + 1) 0 0 i (Nat.zero_le _) (by omega) nI_0.symm (Int32.sub_zero _).symm rfl ls (lv_sub hl [0, 1, 2, 3] rfl)
  · refine lv_iconst (v := -1) hx hb d_PD_left_8 (by decide) ?_
    exact e_i hx hb hr hlocks ((p_ls_out hn c1).symm) d_PD_left_9
theorem d_PD_told_0 : decode b_PD_told 0 = .ok (.iconst 0, 1) := by decide +kernel
theorem d_PD_told_1 : decode b_PD_told 1 = .ok (.istore_n 2, 1) := by decide +kernel
theorem d_PD_told_2 : decode b_PD_told 2 = .ok (.iload_n 2, 1) := by decide +kernel
theorem d_PD_told_3 : decode b_PD_told 3 = .ok (.aload_n 0, 1) := by decide +kernel
theorem d_PD_told_4 : decode b_PD_told 4 = .ok (.getfield 20, 3) := by decide +kernel
theorem d_PD_told_7 : decode b_PD_told 7 = .ok (.invokevirtual 43, 3) := by decide +kernel
theorem d_PD_told_10 : decode b_PD_told 10 = .ok (.if_icmp .ge 39, 3) := by decide +kernel
theorem d_PD_told_13 : decode b_PD_told 13 = .ok (.aload_n 0, 1) := by decide +kernel
theorem d_PD_told_14 : decode b_PD_told 14 = .ok (.getfield 20, 3) := by decide +kernel
theorem d_PD_told_17 : decode b_PD_told 17 = .ok (.iload_n 2, 1) := by decide +kernel
theorem d_PD_told_18 : decode b_PD_told 18 = .ok (.invokevirtual 68, 3) := by decide +kernel
theorem d_PD_told_21 : decode b_PD_told 21 = .ok (.checkcast 93, 3) := by decide +kernel
theorem d_PD_told_24 : decode b_PD_told 24 = .ok (.getfield 95, 3) := by decide +kernel
theorem d_PD_told_27 : decode b_PD_told 27 = .ok (.iload_n 1, 1) := by decide +kernel
theorem d_PD_told_28 : decode b_PD_told 28 = .ok (.if_icmp .ne 15, 3) := by decide +kernel
theorem d_PD_told_31 : decode b_PD_told 31 = .ok (.aload_n 0, 1) := by decide +kernel
theorem d_PD_told_32 : decode b_PD_told 32 = .ok (.getfield 20, 3) := by decide +kernel
theorem d_PD_told_35 : decode b_PD_told 35 = .ok (.iload_n 2, 1) := by decide +kernel
theorem d_PD_told_36 : decode b_PD_told 36 = .ok (.invokevirtual 68, 3) := by decide +kernel
theorem d_PD_told_39 : decode b_PD_told 39 = .ok (.checkcast 93, 3) := by decide +kernel
theorem d_PD_told_42 : decode b_PD_told 42 = .ok (.areturn, 1) := by decide +kernel
theorem d_PD_told_43 : decode b_PD_told 43 = .ok (.iinc 2 1, 3) := by decide +kernel
theorem d_PD_told_46 : decode b_PD_told 46 = .ok (.goto (-44), 3) := by decide +kernel
theorem d_PD_told_49 : decode b_PD_told 49 = .ok (.aconst_null, 1) := by decide +kernel
theorem d_PD_told_50 : decode b_PD_told 50 = .ok (.areturn, 1) := by decide +kernel
abbrev rm_PD_told : Room := { frames := 3, cells := 0, slots := 0, locals := 65 }
set_option maxHeartbeats 4000000 in
set_option maxRecDepth 100000 in
theorem c_PD_told (l : Launch) (D : va_G) (t0 h0 Lv av nv : Nat) (ev : Nat → Nat) (vb vt : Nat → Int32) (sd : Int64) (dv : Value) (lf : Int32) (hnv : nv ≤ 100) (hdis : ∀ i j, i < nv → j < nv → vb i = vb j → i = j) (b : Int32) : Met l y_PD_told (Cond.code y_PD_told b_PD_told 3 (some (.object "PostDrawer$Verdict")) :: gw) rm_PD_told (cP D [.ref h0, .int b] (fun H => ob D 0 h0 [.long sd, dv, .ref Lv, .int lf] H ∧ vq D t0 Lv av nv ev vb vt H)) (rV (va_rf ((p_at vb b nv).map ev))) 0 0 (fun _ => False) := by
  refine mt_B (by decide) (Nat.le_of_ble_eq_true rfl) ?_
  intro p e s m below meth c ls ⟨hx, hb, hr, hlocks, hin, hml, hown, hg⟩ ⟨hk, hp⟩ hl
  have hown : s.vm.findClass R_PD = some m.cls := hown
  have hl : lv_has ls 3 [(0, .ref h0), (1, .int b)] := hl
  obtain ⟨ho, ⟨mc, hL, hcase⟩, hpt⟩ := hp
  refine lv_iconst (v := 0) hx hb d_PD_told_0 (by decide) ?_
  refine lv_istore_n (lv' := [(2, .int 0), (0, .ref h0), (1, .int b)]) hx hb d_PD_told_1 rfl hl (by decide) rfl (fun ls hl => ?_)
  have loop : ∀ (fu : Nat) (j : Nat) (x2 : Int32), (j ≤ nv) → (nv - j < fu) → (x2 = nI j) → (∀ i, i < j → ¬ vb i = b) → ∀ ls : Array Slot, lv_has ls 3 [(2, .int x2), (0, .ref h0), (1, .int b)] → W p l e rm_PD_told s m ([.ref h0, .int b] : List Value).toArray below meth c s.heap [] 0 0 (MQ below (rV (va_rf ((p_at vb b nv).map ev))) ([.ref h0, .int b] : List Value).toArray s 0 0 (fun _ => False)) (F0 m 2 ls []) := by
    intro fu
    induction fu with
    | zero => intro j x2 h1 h2 e2 hno; exact absurd h2 (Nat.not_lt_zero _)
    | succ fu ih =>
      intro j x2 h1 h2 e2 hno ls hl
      refine lv_iload_n hx hb d_PD_told_2 rfl (lv_at hl 0 rfl) ?_
      refine lv_aload_n hx hb d_PD_told_3 rfl (lv_at hl 1 rfl) ?_
      refine x_get hx hb hg hown hk ho rfl i_PD 2 (by decide) w_51 rfl d_PD_told_4 ?_
      refine k_V hx hb hml hown hg hk Lv [] [.int x2] (c_AL_size l D Lv av (nI nv) mc) z_AL_size w_212 w_165 w_166 (rc_ob hk (hL) rfl) (hL) d_PD_told_7 rfl rfl ⟨Nat.le_of_ble_eq_true rfl, Nat.le_of_ble_eq_true rfl⟩ rfl hl.1 rfl (Nat.le_of_ble_eq_true rfl) ⟨Nat.zero_le _, Nat.zero_le _⟩ ?_
      refine lv_icmp_ge (tgt := 49) hx hb d_PD_told_10 (by decide) (fun c1 => ?_) (fun c1 => ?_)
      · have hj : j = nv := by have := (q_le rfl e2 (by omega) (by omega)).mp c1; omega
        refine lv_null hx hb d_PD_told_49 ?_
        exact e_r hx hb hr (Or.inl ⟨_, rfl⟩) hlocks (by rw [p_at_none (fun i hi => hno i (by omega))]; rfl) d_PD_told_50
      · have hj : j < nv := Nat.not_le.mp (fun h => c1 ((q_le rfl e2 (by omega) (by omega)).mpr h))
        subst e2
        rcases hcase with hc0 | ⟨hne, cap, f, haq, hnc, hc1, hc2, hf⟩
        · exact absurd hc0.2 (by omega)
        refine lv_aload_n hx hb d_PD_told_13 rfl (lv_at hl 1 rfl) ?_
        refine x_get hx hb hg hown hk ho rfl i_PD 2 (by decide) w_51 rfl d_PD_told_14 ?_
        refine lv_iload_n hx hb d_PD_told_17 rfl (lv_at hl 0 rfl) ?_
        refine k_V hx hb hml hown hg hk Lv [.int (nI j)] [] (c_AL_get l D Lv av nv cap j (ev j) mc f (hj) hnc (by omega) (hf j (hj))) z_AL_get w_221 w_169 w_170 (rc_ob hk hL rfl) (⟨hL, haq⟩) d_PD_told_18 rfl rfl ⟨Nat.le_of_ble_eq_true rfl, Nat.le_of_ble_eq_true rfl⟩ rfl hl.1 rfl (Nat.le_of_ble_eq_true rfl) ⟨Nat.zero_le _, Nat.zero_le _⟩ ?_
        refine va_castY hx hb hown (hg _ w_248) (hk.m 11 rfl) (rc_ob hk (hpt j hj) rfl) d_PD_told_21 ?_
        refine x_getN hx hb hg hown hk (hpt j hj) rfl i_VD 0 (by decide) 8 rfl rfl d_PD_told_24 ?_
        refine lv_iload_n hx hb d_PD_told_27 rfl (lv_at hl 2 rfl) ?_
        refine lv_icmp_ne (tgt := 43) hx hb d_PD_told_28 (by decide) (fun c2 => ?_) (fun c2 => ?_)
        · obtain ⟨y2, ey2⟩ : ∃ y : Int32, y = (nI j) + 1 := ⟨_, rfl⟩
          refine lv_iinc (v := y2) (lv' := [(2, .int y2), (0, .ref h0), (1, .int b)]) hx hb d_PD_told_43 hl (k := 0) rfl (by rw [ey2]; rfl) (by decide) rfl (fun ls hl => ?_)
          refine lv_goto (tgt := 2) hx hb d_PD_told_46 (by decide) ?_
          exact ih (j + 1) y2 hj (by omega) (by rw [ey2, nI_1]) (lt_s hno c2) ls (lv_sub hl [0, 1, 2] rfl)
        · refine lv_aload_n hx hb d_PD_told_31 rfl (lv_at hl 1 rfl) ?_
          refine x_get hx hb hg hown hk ho rfl i_PD 2 (by decide) w_51 rfl d_PD_told_32 ?_
          refine lv_iload_n hx hb d_PD_told_35 rfl (lv_at hl 0 rfl) ?_
          refine k_V hx hb hml hown hg hk Lv [.int (nI j)] [] (c_AL_get l D Lv av nv cap j (ev j) mc f (hj) hnc (by omega) (hf j (hj))) z_AL_get w_221 w_169 w_170 (rc_ob hk hL rfl) (⟨hL, haq⟩) d_PD_told_36 rfl rfl ⟨Nat.le_of_ble_eq_true rfl, Nat.le_of_ble_eq_true rfl⟩ rfl hl.1 rfl (Nat.le_of_ble_eq_true rfl) ⟨Nat.zero_le _, Nat.zero_le _⟩ ?_
          refine va_castY hx hb hown (hg _ w_248) (hk.m 11 rfl) (rc_ob hk (hpt j hj) rfl) d_PD_told_39 ?_
          exact e_r hx hb hr (Or.inl ⟨_, rfl⟩) hlocks (by rw [p_at_some hdis hj c2]; rfl) d_PD_told_42
  exact loop (nv + 1) 0 0 (Nat.zero_le _) (by omega) nI_0.symm (fun i hi => absurd hi (Nat.not_lt_zero _)) ls (lv_sub hl [0, 1, 2] rfl)
theorem d_PD_stays_0 : decode b_PD_stays 0 = .ok (.aload_n 0, 1) := by decide +kernel
theorem d_PD_stays_1 : decode b_PD_stays 1 = .ok (.iload_n 1, 1) := by decide +kernel
theorem d_PD_stays_2 : decode b_PD_stays 2 = .ok (.invokevirtual 98, 3) := by decide +kernel
theorem d_PD_stays_5 : decode b_PD_stays 5 = .ok (.astore_n 2, 1) := by decide +kernel
theorem d_PD_stays_6 : decode b_PD_stays 6 = .ok (.aload_n 2, 1) := by decide +kernel
theorem d_PD_stays_7 : decode b_PD_stays 7 = .ok (.ifnull 14, 3) := by decide +kernel
theorem d_PD_stays_10 : decode b_PD_stays 10 = .ok (.aload_n 2, 1) := by decide +kernel
theorem d_PD_stays_11 : decode b_PD_stays 11 = .ok (.getfield 109, 3) := by decide +kernel
theorem d_PD_stays_14 : decode b_PD_stays 14 = .ok (.ifCond .eq 7, 3) := by decide +kernel
theorem d_PD_stays_17 : decode b_PD_stays 17 = .ok (.iconst 1, 1) := by decide +kernel
theorem d_PD_stays_18 : decode b_PD_stays 18 = .ok (.goto 4, 3) := by decide +kernel
theorem d_PD_stays_21 : decode b_PD_stays 21 = .ok (.iconst 0, 1) := by decide +kernel
theorem d_PD_stays_22 : decode b_PD_stays 22 = .ok (.ireturn, 1) := by decide +kernel
abbrev rm_PD_stays : Room := { frames := 4, cells := 0, slots := 0, locals := 87 }
set_option maxHeartbeats 4000000 in
set_option maxRecDepth 100000 in
theorem c_PD_stays (l : Launch) (D : va_G) (t0 h0 Lv av nv : Nat) (ev : Nat → Nat) (vb vt : Nat → Int32) (sd : Int64) (dv : Value) (lf : Int32) (hnv : nv ≤ 100) (hdis : ∀ i j, i < nv → j < nv → vb i = vb j → i = j) (ht : ∀ i, i < nv → vt i = 0 ∨ vt i = 1) (b : Int32) : Met l y_PD_stays (Cond.code y_PD_stays b_PD_stays 3 (some .boolean) :: gw) rm_PD_stays (cP D [.ref h0, .int b] (fun H => ob D 0 h0 [.long sd, dv, .ref Lv, .int lf] H ∧ vq D t0 Lv av nv ev vb vt H)) (rV (.int (p_st vb vt nv b))) 0 0 (fun _ => False) := by
  refine mt_B (by decide) (Nat.le_of_ble_eq_true rfl) ?_
  intro p e s m below meth c ls ⟨hx, hb, hr, hlocks, hin, hml, hown, hg⟩ ⟨hk, hp⟩ hl
  have hown : s.vm.findClass R_PD = some m.cls := hown
  have hl : lv_has ls 3 [(0, .ref h0), (1, .int b)] := hl
  obtain ⟨ho, hv⟩ := hp
  refine lv_aload_n hx hb d_PD_stays_0 rfl (lv_at hl 0 rfl) ?_
  refine lv_iload_n hx hb d_PD_stays_1 rfl (lv_at hl 1 rfl) ?_
  refine k_V hx hb hml hown hg hk h0 [.int b] [] (c_PD_told l D t0 h0 Lv av nv ev vb vt sd dv lf hnv hdis b) z_PD_told w_244 w_246 s_PD_told (rc_ob hk ho rfl) (⟨ho, hv⟩) d_PD_stays_2 rfl rfl ⟨Nat.le_of_ble_eq_true rfl, Nat.le_of_ble_eq_true rfl⟩ rfl hl.1 rfl (Nat.le_of_ble_eq_true rfl) ⟨Nat.zero_le _, Nat.zero_le _⟩ ?_
  cases h1 : p_at vb b nv with
  | none =>
    have hst : p_st vb vt nv b = 0 := by unfold p_st; rw [h1]
    refine lv_astore_nN (lv' := [(2, .null), (0, .ref h0), (1, .int b)]) hx hb d_PD_stays_5 rfl hl (by decide) rfl (fun ls hl => ?_)
    refine lv_aload_nN hx hb d_PD_stays_6 rfl (lv_at hl 0 rfl) ?_
    refine lv_ifnullN (tgt := 21) hx hb d_PD_stays_7 (by decide) ?_
    refine lv_iconst (v := 0) hx hb d_PD_stays_21 (by decide) ?_
    exact e_z hx hb hr hlocks (hst.symm) (by decide) d_PD_stays_22
  | some k =>
    have hst : p_st vb vt nv b = vt k := by unfold p_st; rw [h1]
    have hkv := (p_at_lt h1).1
    refine lv_astore_n (lv' := [(2, .ref (ev k)), (0, .ref h0), (1, .int b)]) hx hb d_PD_stays_5 rfl hl (by decide) rfl (fun ls hl => ?_)
    refine lv_aload_n hx hb d_PD_stays_6 rfl (lv_at hl 0 rfl) ?_
    refine lv_ifnull hx hb d_PD_stays_7 ?_
    refine lv_aload_n hx hb d_PD_stays_10 rfl (lv_at hl 0 rfl) ?_
    refine x_getN hx hb hg hown hk (hv.2 k hkv) rfl i_VD 1 (by decide) 9 rfl rfl d_PD_stays_11 ?_
    refine lv_if_eq (tgt := 21) hx hb d_PD_stays_14 (by decide) (fun c2 => ?_) (fun c2 => ?_)
    · refine lv_iconst (v := 0) hx hb d_PD_stays_21 (by decide) ?_
      exact e_z hx hb hr hlocks (by rw [hst, c2]) (by decide) d_PD_stays_22
    · refine lv_iconst (v := 1) hx hb d_PD_stays_17 (by decide) ?_
      refine lv_goto (tgt := 22) hx hb d_PD_stays_18 (by decide) ?_
      exact e_z hx hb hr hlocks (by rw [hst]; exact ((ht k hkv).resolve_left c2).symm) (by decide) d_PD_stays_22
theorem d_PD_lessened_0 : decode b_PD_lessened 0 = .ok (.iload_n 1, 1) := by decide +kernel
theorem d_PD_lessened_1 : decode b_PD_lessened 1 = .ok (.istore_n 2, 1) := by decide +kernel
theorem d_PD_lessened_2 : decode b_PD_lessened 2 = .ok (.iconst 0, 1) := by decide +kernel
theorem d_PD_lessened_3 : decode b_PD_lessened 3 = .ok (.istore_n 3, 1) := by decide +kernel
theorem d_PD_lessened_4 : decode b_PD_lessened 4 = .ok (.iload_n 3, 1) := by decide +kernel
theorem d_PD_lessened_5 : decode b_PD_lessened 5 = .ok (.aload_n 0, 1) := by decide +kernel
theorem d_PD_lessened_6 : decode b_PD_lessened 6 = .ok (.getfield 34, 3) := by decide +kernel
theorem d_PD_lessened_9 : decode b_PD_lessened 9 = .ok (.getfield 38, 3) := by decide +kernel
theorem d_PD_lessened_12 : decode b_PD_lessened 12 = .ok (.invokevirtual 43, 3) := by decide +kernel
theorem d_PD_lessened_15 : decode b_PD_lessened 15 = .ok (.if_icmp .ge 41, 3) := by decide +kernel
theorem d_PD_lessened_18 : decode b_PD_lessened 18 = .ok (.iload_n 2, 1) := by decide +kernel
theorem d_PD_lessened_19 : decode b_PD_lessened 19 = .ok (.iconst 1, 1) := by decide +kernel
theorem d_PD_lessened_20 : decode b_PD_lessened 20 = .ok (.iload_n 3, 1) := by decide +kernel
theorem d_PD_lessened_21 : decode b_PD_lessened 21 = .ok (.ishl, 1) := by decide +kernel
theorem d_PD_lessened_22 : decode b_PD_lessened 22 = .ok (.iconst (-1), 1) := by decide +kernel
theorem d_PD_lessened_23 : decode b_PD_lessened 23 = .ok (.ixor, 1) := by decide +kernel
theorem d_PD_lessened_24 : decode b_PD_lessened 24 = .ok (.iand, 1) := by decide +kernel
theorem d_PD_lessened_25 : decode b_PD_lessened 25 = .ok (.istore 4, 2) := by decide +kernel
theorem d_PD_lessened_27 : decode b_PD_lessened 27 = .ok (.iload 4, 2) := by decide +kernel
theorem d_PD_lessened_29 : decode b_PD_lessened 29 = .ok (.iload_n 2, 1) := by decide +kernel
theorem d_PD_lessened_30 : decode b_PD_lessened 30 = .ok (.if_icmp .eq 20, 3) := by decide +kernel
theorem d_PD_lessened_33 : decode b_PD_lessened 33 = .ok (.iload 4, 2) := by decide +kernel
theorem d_PD_lessened_35 : decode b_PD_lessened 35 = .ok (.ifCond .eq 15, 3) := by decide +kernel
theorem d_PD_lessened_38 : decode b_PD_lessened 38 = .ok (.aload_n 0, 1) := by decide +kernel
theorem d_PD_lessened_39 : decode b_PD_lessened 39 = .ok (.iload 4, 2) := by decide +kernel
theorem d_PD_lessened_41 : decode b_PD_lessened 41 = .ok (.invokevirtual 113, 3) := by decide +kernel
theorem d_PD_lessened_44 : decode b_PD_lessened 44 = .ok (.ifCond .eq 6, 3) := by decide +kernel
theorem d_PD_lessened_47 : decode b_PD_lessened 47 = .ok (.iload 4, 2) := by decide +kernel
theorem d_PD_lessened_49 : decode b_PD_lessened 49 = .ok (.istore_n 2, 1) := by decide +kernel
theorem d_PD_lessened_50 : decode b_PD_lessened 50 = .ok (.iinc 3 1, 3) := by decide +kernel
theorem d_PD_lessened_53 : decode b_PD_lessened 53 = .ok (.goto (-49), 3) := by decide +kernel
theorem d_PD_lessened_56 : decode b_PD_lessened 56 = .ok (.iload_n 2, 1) := by decide +kernel
theorem d_PD_lessened_57 : decode b_PD_lessened 57 = .ok (.ireturn, 1) := by decide +kernel
abbrev rm_PD_lessened : Room := { frames := 5, cells := 0, slots := 0, locals := 109 }
set_option maxHeartbeats 4000000 in
set_option maxRecDepth 100000 in
theorem c_PD_lessened (l : Launch) (D : va_G) (t0 h0 d Lv n : Nat) (R : Nat → Prop) (sd ds : Int64) (dk lf : Int32) (hn0 : 0 < n) (hn : n ≤ 16) (av nv : Nat) (ev : Nat → Nat) (vb vt : Nat → Int32) (hnv : nv ≤ 100) (hdis : ∀ i j, i < nv → j < nv → vb i = vb j → i = j) (ht : ∀ i, i < nv → vt i = 0 ∨ vt i = 1) (b : Nat) (hbb : b < 2 ^ 16) : Met l y_PD_lessened (Cond.code y_PD_lessened b_PD_lessened 5 (some .int) :: gw) rm_PD_lessened (cP D [.ref h0, .int (nI b)] (fun H => ob D 0 h0 [.long sd, .ref d, .ref Lv, .int lf] H ∧ drw D t0 R d ds dk n H ∧ vq D t0 Lv av nv ev vb vt H)) (rV (.int (nI (p_pas (fun x => p_st vb vt nv (nI x)) b n)))) 0 0 (fun _ => False) := by
  refine mt_B (by decide) (Nat.le_of_ble_eq_true rfl) ?_
  intro p e s m below meth c ls ⟨hx, hb, hr, hlocks, hin, hml, hown, hg⟩ ⟨hk, hp⟩ hl
  have hown : s.vm.findClass R_PD = some m.cls := hown
  have hl : lv_has ls 5 [(0, .ref h0), (1, .int (nI b))] := hl
  obtain ⟨ho, hdr, hv⟩ := hp
  obtain ⟨L, arr, el, ⟨hd, ⟨mc, hL, hcase⟩, hpt⟩, hR1, hne, hR2⟩ := id hdr
  rcases hcase with hc0 | ⟨-, cap, f, haq, hnc, hc1, hc2, hf⟩
  · exact absurd hc0.1 hne
  refine lv_iload_n hx hb d_PD_lessened_0 rfl (lv_at hl 1 rfl) ?_
  refine lv_istore_n (lv' := [(2, .int (nI b)), (0, .ref h0), (1, .int (nI b))]) hx hb d_PD_lessened_1 rfl hl (by decide) rfl (fun ls hl => ?_)
  refine lv_iconst (v := 0) hx hb d_PD_lessened_2 (by decide) ?_
  refine lv_istore_n (lv' := [(3, .int 0), (2, .int (nI b)), (0, .ref h0), (1, .int (nI b))]) hx hb d_PD_lessened_3 rfl hl (by decide) rfl (fun ls hl => ?_)
  have loop : ∀ (fu : Nat) (j : Nat) (x3 x2 : Int32), (j ≤ n) → (n - j < fu) → (x3 = nI j) → (x2 = nI (p_pas (fun x => p_st vb vt nv (nI x)) b j)) → ∀ ls : Array Slot, lv_has ls 5 [(3, .int x3), (2, .int x2), (0, .ref h0), (1, .int (nI b))] → W p l e rm_PD_lessened s m ([.ref h0, .int (nI b)] : List Value).toArray below meth c s.heap [] 0 0 (MQ below (rV (.int (nI (p_pas (fun x => p_st vb vt nv (nI x)) b n)))) ([.ref h0, .int (nI b)] : List Value).toArray s 0 0 (fun _ => False)) (F0 m 4 ls []) := by
    intro fu
    induction fu with
    | zero => intro j x3 x2 h1 h2 e3 e2; exact absurd h2 (Nat.not_lt_zero _)
    | succ fu ih =>
      intro j x3 x2 h1 h2 e3 e2 ls hl
      have hle := p_pas_le (fun x => p_st vb vt nv (nI x)) b j
      refine lv_iload_n hx hb d_PD_lessened_4 rfl (lv_at hl 0 rfl) ?_
      refine lv_aload_n hx hb d_PD_lessened_5 rfl (lv_at hl 2 rfl) ?_
      refine x_get hx hb hg hown hk ho rfl i_PD 1 (by decide) w_50 rfl d_PD_lessened_6 ?_
      refine x_getN hx hb hg hown hk hd rfl i_DR 2 (by decide) 6 rfl rfl d_PD_lessened_9 ?_
      refine k_V hx hb hml hown hg hk L [] [.int x3] (c_AL_size l D L arr (nI n) mc) z_AL_size w_212 w_165 w_166 (rc_ob hk (hL) rfl) (hL) d_PD_lessened_12 rfl rfl ⟨Nat.le_of_ble_eq_true rfl, Nat.le_of_ble_eq_true rfl⟩ rfl hl.1 rfl (Nat.le_of_ble_eq_true rfl) ⟨Nat.zero_le _, Nat.zero_le _⟩ ?_
      refine lv_icmp_ge (tgt := 56) hx hb d_PD_lessened_15 (by decide) (fun c1 => ?_) (fun c1 => ?_)
      · refine lv_iload_n hx hb d_PD_lessened_56 rfl (lv_at hl 1 rfl) ?_
        exact e_i hx hb hr hlocks (by rw [e2, show j = n by have := (q_le rfl e3 (by omega) (by omega)).mp c1; omega]) d_PD_lessened_57
      · have hj : j < n := Nat.not_le.mp (fun h => c1 ((q_le rfl e3 (by omega) (by omega)).mpr h))
        generalize hbs : p_pas (fun x => p_st vb vt nv (nI x)) b j = bs at e2 hle
        subst e3 e2
        refine lv_iload_n hx hb d_PD_lessened_18 rfl (lv_at hl 1 rfl) ?_
        refine lv_iconst (v := 1) hx hb d_PD_lessened_19 (by decide) ?_
        refine lv_iload_n hx hb d_PD_lessened_20 rfl (lv_at hl 0 rfl) ?_
        refine lv_ishl hx hb d_PD_lessened_21 ?_
        refine lv_iconst (v := -1) hx hb d_PD_lessened_22 (by decide) ?_
        refine lv_ixor hx hb d_PD_lessened_23 ?_
        refine lv_iand hx hb d_PD_lessened_24 ?_
        rw [q_clr (by omega) (by omega)]
        by_cases hbit : bs / 2 ^ j % 2 = 1
        · rw [if_pos hbit]
          have hge := q_bge hbit
          have hpj := Nat.two_pow_pos j
          refine lv_istore (lv' := [(4, .int (nI (bs - 2 ^ j))), (3, .int (nI j)), (2, .int (nI bs)), (0, .ref h0), (1, .int (nI b))]) hx hb d_PD_lessened_25 hl (by decide) rfl (fun ls hl => ?_)
          refine lv_iload hx hb d_PD_lessened_27 (lv_at hl 0 rfl) ?_
          refine lv_iload_n hx hb d_PD_lessened_29 rfl (lv_at hl 2 rfl) ?_
          refine lv_icmp_eq (tgt := 50) hx hb d_PD_lessened_30 (by decide) (fun c2 => absurd ((nI_eq (by omega) (by omega)).mp c2) (by omega)) (fun c2 => ?_)
          refine lv_iload hx hb d_PD_lessened_33 (lv_at hl 0 rfl) ?_
          refine lv_if_eq (tgt := 50) hx hb d_PD_lessened_35 (by decide) (fun c3 => ?_) (fun c3 => ?_)
          · have hz0 : bs = 2 ^ j := by have := (nI_eq (b := 0) (by omega) (by decide)).mp c3; omega
            obtain ⟨y3, ey3⟩ : ∃ y : Int32, y = (nI j) + 1 := ⟨_, rfl⟩
            refine lv_iinc (v := y3) (lv' := [(3, .int y3), (4, .int (nI (bs - 2 ^ j))), (2, .int (nI bs)), (0, .ref h0), (1, .int (nI b))]) hx hb d_PD_lessened_50 hl (k := 1) rfl (by rw [ey3]; rfl) (by decide) rfl (fun ls hl => ?_)
            refine lv_goto (tgt := 4) hx hb d_PD_lessened_53 (by decide) ?_
            exact ih (j + 1) y3 (nI bs) hj (by omega) (by rw [ey3, nI_1]) (by rw [p_pas, hbs, p_step_no (fun h => h.2.1 hz0)]) ls (lv_sub hl [0, 2, 3, 4] rfl)
          · refine lv_aload_n hx hb d_PD_lessened_38 rfl (lv_at hl 3 rfl) ?_
            refine lv_iload hx hb d_PD_lessened_39 (lv_at hl 0 rfl) ?_
            refine k_V hx hb hml hown hg hk h0 [.int (nI (bs - 2 ^ j))] [] (c_PD_stays l D t0 h0 Lv av nv ev vb vt sd (.ref d) lf hnv hdis ht (nI (bs - 2 ^ j))) z_PD_stays w_267 w_269 s_PD_stays (rc_ob hk ho rfl) (⟨ho, hv⟩) d_PD_lessened_41 rfl rfl ⟨Nat.le_of_ble_eq_true rfl, Nat.le_of_ble_eq_true rfl⟩ rfl hl.1 rfl (Nat.le_of_ble_eq_true rfl) ⟨Nat.zero_le _, Nat.zero_le _⟩ ?_
            refine lv_if_eq (tgt := 50) hx hb d_PD_lessened_44 (by decide) (fun c4 => ?_) (fun c4 => ?_)
            · obtain ⟨y3, ey3⟩ : ∃ y : Int32, y = (nI j) + 1 := ⟨_, rfl⟩
              refine lv_iinc (v := y3) (lv' := [(3, .int y3), (4, .int (nI (bs - 2 ^ j))), (2, .int (nI bs)), (0, .ref h0), (1, .int (nI b))]) hx hb d_PD_lessened_50 hl (k := 1) rfl (by rw [ey3]; rfl) (by decide) rfl (fun ls hl => ?_)
              refine lv_goto (tgt := 4) hx hb d_PD_lessened_53 (by decide) ?_
              exact ih (j + 1) y3 (nI bs) hj (by omega) (by rw [ey3, nI_1]) (by rw [p_pas, hbs, p_step_no (fun h => h.2.2 c4)]) ls (lv_sub hl [0, 2, 3, 4] rfl)
            · refine lv_iload hx hb d_PD_lessened_47 (lv_at hl 0 rfl) ?_
              refine lv_istore_n (lv' := [(2, .int (nI (bs - 2 ^ j))), (4, .int (nI (bs - 2 ^ j))), (3, .int (nI j)), (0, .ref h0), (1, .int (nI b))]) hx hb d_PD_lessened_49 rfl hl (by decide) rfl (fun ls hl => ?_)
              obtain ⟨y3, ey3⟩ : ∃ y : Int32, y = (nI j) + 1 := ⟨_, rfl⟩
              refine lv_iinc (v := y3) (lv' := [(3, .int y3), (2, .int (nI (bs - 2 ^ j))), (4, .int (nI (bs - 2 ^ j))), (0, .ref h0), (1, .int (nI b))]) hx hb d_PD_lessened_50 hl (k := 2) rfl (by rw [ey3]; rfl) (by decide) rfl (fun ls hl => ?_)
              refine lv_goto (tgt := 4) hx hb d_PD_lessened_53 (by decide) ?_
              exact ih (j + 1) y3 (nI (bs - 2 ^ j)) hj (by omega) (by rw [ey3, nI_1]) (by rw [p_pas, hbs, p_step_yes ⟨hbit, fun h => c3 (by rw [h, Nat.sub_self]; rfl), c4⟩]) ls (lv_sub hl [0, 1, 3, 4] rfl)
        · rw [if_neg hbit]
          refine lv_istore (lv' := [(4, .int (nI bs)), (3, .int (nI j)), (2, .int (nI bs)), (0, .ref h0), (1, .int (nI b))]) hx hb d_PD_lessened_25 hl (by decide) rfl (fun ls hl => ?_)
          refine lv_iload hx hb d_PD_lessened_27 (lv_at hl 0 rfl) ?_
          refine lv_iload_n hx hb d_PD_lessened_29 rfl (lv_at hl 2 rfl) ?_
          refine lv_icmp_eq (tgt := 50) hx hb d_PD_lessened_30 (by decide) (fun c2 => ?_) (fun c2 => absurd rfl c2)
          obtain ⟨y3, ey3⟩ : ∃ y : Int32, y = (nI j) + 1 := ⟨_, rfl⟩
          refine lv_iinc (v := y3) (lv' := [(3, .int y3), (4, .int (nI bs)), (2, .int (nI bs)), (0, .ref h0), (1, .int (nI b))]) hx hb d_PD_lessened_50 hl (k := 1) rfl (by rw [ey3]; rfl) (by decide) rfl (fun ls hl => ?_)
          refine lv_goto (tgt := 4) hx hb d_PD_lessened_53 (by decide) ?_
          exact ih (j + 1) y3 (nI bs) hj (by omega) (by rw [ey3, nI_1]) (by rw [p_pas, hbs, p_step_no (fun h => hbit h.1)]) ls (lv_sub hl [0, 2, 3, 4] rfl)
  exact loop (n + 1) 0 0 (nI b) (Nat.zero_le _) (by omega) nI_0.symm rfl ls (lv_sub hl [0, 1, 2, 3] rfl)
theorem d_PD_minimal_0 : decode b_PD_minimal 0 = .ok (.aload_n 0, 1) := by decide +kernel
theorem d_PD_minimal_1 : decode b_PD_minimal 1 = .ok (.getfield 34, 3) := by decide +kernel
theorem d_PD_minimal_4 : decode b_PD_minimal 4 = .ok (.ifnull 33, 3) := by decide +kernel
theorem d_PD_minimal_7 : decode b_PD_minimal 7 = .ok (.aload_n 0, 1) := by decide +kernel
theorem d_PD_minimal_8 : decode b_PD_minimal 8 = .ok (.aload_n 0, 1) := by decide +kernel
theorem d_PD_minimal_9 : decode b_PD_minimal 9 = .ok (.getfield 60, 3) := by decide +kernel
theorem d_PD_minimal_12 : decode b_PD_minimal 12 = .ok (.invokevirtual 113, 3) := by decide +kernel
theorem d_PD_minimal_15 : decode b_PD_minimal 15 = .ok (.ifCond .eq 22, 3) := by decide +kernel
theorem d_PD_minimal_18 : decode b_PD_minimal 18 = .ok (.aload_n 0, 1) := by decide +kernel
theorem d_PD_minimal_19 : decode b_PD_minimal 19 = .ok (.aload_n 0, 1) := by decide +kernel
theorem d_PD_minimal_20 : decode b_PD_minimal 20 = .ok (.getfield 60, 3) := by decide +kernel
theorem d_PD_minimal_23 : decode b_PD_minimal 23 = .ok (.invokevirtual 115, 3) := by decide +kernel
theorem d_PD_minimal_26 : decode b_PD_minimal 26 = .ok (.aload_n 0, 1) := by decide +kernel
theorem d_PD_minimal_27 : decode b_PD_minimal 27 = .ok (.getfield 60, 3) := by decide +kernel
theorem d_PD_minimal_30 : decode b_PD_minimal 30 = .ok (.if_icmp .ne 7, 3) := by decide +kernel
theorem d_PD_minimal_33 : decode b_PD_minimal 33 = .ok (.iconst 1, 1) := by decide +kernel
theorem d_PD_minimal_34 : decode b_PD_minimal 34 = .ok (.goto 4, 3) := by decide +kernel
theorem d_PD_minimal_37 : decode b_PD_minimal 37 = .ok (.iconst 0, 1) := by decide +kernel
theorem d_PD_minimal_38 : decode b_PD_minimal 38 = .ok (.ireturn, 1) := by decide +kernel
abbrev rm_PD_minimal : Room := { frames := 6, cells := 0, slots := 0, locals := 133 }
set_option maxHeartbeats 4000000 in
set_option maxRecDepth 100000 in
theorem c_PD_minimal_0 (l : Launch) (D : va_G) (h0 Lv : Nat) (sd : Int64) (lf : Int32) : Met l y_PD_minimal (Cond.code y_PD_minimal b_PD_minimal 1 (some .boolean) :: gw) rm_PD_minimal (cP D [.ref h0] (fun H => ob D 0 h0 [.long sd, .null, .ref Lv, .int lf] H)) (rV (.int 0)) 0 0 (fun _ => False) := by
  refine mt_B (by decide) (Nat.le_of_ble_eq_true rfl) ?_
  intro p e s m below meth c ls ⟨hx, hb, hr, hlocks, hin, hml, hown, hg⟩ ⟨hk, hp⟩ hl
  have hown : s.vm.findClass R_PD = some m.cls := hown
  have hl : lv_has ls 1 [(0, .ref h0)] := hl
  refine lv_aload_n hx hb d_PD_minimal_0 rfl (lv_at hl 0 rfl) ?_
  refine x_get hx hb hg hown hk hp rfl i_PD 1 (by decide) w_50 rfl d_PD_minimal_1 ?_
  refine lv_ifnullN (tgt := 37) hx hb d_PD_minimal_4 (by decide) ?_
  refine lv_iconst (v := 0) hx hb d_PD_minimal_37 (by decide) ?_
  exact e_z hx hb hr hlocks (rfl) (by decide) d_PD_minimal_38
set_option maxHeartbeats 4000000 in
set_option maxRecDepth 100000 in
theorem c_PD_minimal (l : Launch) (D : va_G) (b : Nat) (hbb : b < 2 ^ 16) (t0 h0 d Lv n : Nat) (R : Nat → Prop) (sd ds : Int64) (dk : Int32) (hn0 : 0 < n) (hn : n ≤ 16) (av nv : Nat) (ev : Nat → Nat) (vb vt : Nat → Int32) (hnv : nv ≤ 100) (hdis : ∀ i j, i < nv → j < nv → vb i = vb j → i = j) (ht : ∀ i, i < nv → vt i = 0 ∨ vt i = 1) : Met l y_PD_minimal (Cond.code y_PD_minimal b_PD_minimal 1 (some .boolean) :: gw) rm_PD_minimal (cP D [.ref h0] (fun H => ob D 0 h0 [.long sd, .ref d, .ref Lv, .int (nI b)] H ∧ drw D t0 R d ds dk n H ∧ vq D t0 Lv av nv ev vb vt H)) (rV (.int (p_min (fun x => p_st vb vt nv (nI x)) n b))) 0 0 (fun _ => False) := by
  refine mt_B (by decide) (Nat.le_of_ble_eq_true rfl) ?_
  intro p e s m below meth c ls ⟨hx, hb, hr, hlocks, hin, hml, hown, hg⟩ ⟨hk, hp⟩ hl
  have hown : s.vm.findClass R_PD = some m.cls := hown
  have hl : lv_has ls 1 [(0, .ref h0)] := hl
  obtain ⟨ho, hdr, hv⟩ := hp
  obtain ⟨L, arr, el, ⟨hd, ⟨mc, hL, hcase⟩, hpt⟩, hR1, hne, hR2⟩ := id hdr
  rcases hcase with hc0 | ⟨-, cap, f, haq, hnc, hc1, hc2, hf⟩
  · exact absurd hc0.1 hne
  refine lv_aload_n hx hb d_PD_minimal_0 rfl (lv_at hl 0 rfl) ?_
  refine x_get hx hb hg hown hk ho rfl i_PD 1 (by decide) w_50 rfl d_PD_minimal_1 ?_
  refine lv_ifnull hx hb d_PD_minimal_4 ?_
  refine lv_aload_n hx hb d_PD_minimal_7 rfl (lv_at hl 0 rfl) ?_
  refine lv_aload_n hx hb d_PD_minimal_8 rfl (lv_at hl 0 rfl) ?_
  refine x_get hx hb hg hown hk ho rfl i_PD 3 (by decide) w_52 rfl d_PD_minimal_9 ?_
  refine k_V hx hb hml hown hg hk h0 [.int (nI b)] [] (c_PD_stays l D t0 h0 Lv av nv ev vb vt sd (.ref d) (nI b) hnv hdis ht (nI b)) z_PD_stays w_267 w_269 s_PD_stays (rc_ob hk ho rfl) (⟨ho, hv⟩) d_PD_minimal_12 rfl rfl ⟨Nat.le_of_ble_eq_true rfl, Nat.le_of_ble_eq_true rfl⟩ rfl hl.1 rfl (Nat.le_of_ble_eq_true rfl) ⟨Nat.zero_le _, Nat.zero_le _⟩ ?_
  have hn1 : ¬ n = 0 := by omega
  refine lv_if_eq (tgt := 37) hx hb d_PD_minimal_15 (by decide) (fun c1 => ?_) (fun c1 => ?_)
  · refine lv_iconst (v := 0) hx hb d_PD_minimal_37 (by decide) ?_
    exact e_z hx hb hr hlocks (by rw [p_min, if_neg hn1, if_pos c1]) (by decide) d_PD_minimal_38
  · refine lv_aload_n hx hb d_PD_minimal_18 rfl (lv_at hl 0 rfl) ?_
    refine lv_aload_n hx hb d_PD_minimal_19 rfl (lv_at hl 0 rfl) ?_
    refine x_get hx hb hg hown hk ho rfl i_PD 3 (by decide) w_52 rfl d_PD_minimal_20 ?_
    refine k_V hx hb hml hown hg hk h0 [.int (nI b)] [] (c_PD_lessened l D t0 h0 d Lv n R sd ds dk (nI b) hn0 hn av nv ev vb vt hnv hdis ht b hbb) z_PD_lessened w_271 w_273 s_PD_lessened (rc_ob hk ho rfl) (⟨ho, hdr, hv⟩) d_PD_minimal_23 rfl rfl ⟨Nat.le_of_ble_eq_true rfl, Nat.le_of_ble_eq_true rfl⟩ rfl hl.1 rfl (Nat.le_of_ble_eq_true rfl) ⟨Nat.zero_le _, Nat.zero_le _⟩ ?_
    have hle := p_pas_le (fun x => p_st vb vt nv (nI x)) b n
    refine lv_aload_n hx hb d_PD_minimal_26 rfl (lv_at hl 0 rfl) ?_
    refine x_get hx hb hg hown hk ho rfl i_PD 3 (by decide) w_52 rfl d_PD_minimal_27 ?_
    refine lv_icmp_ne (tgt := 37) hx hb d_PD_minimal_30 (by decide) (fun c2 => ?_) (fun c2 => ?_)
    · refine lv_iconst (v := 0) hx hb d_PD_minimal_37 (by decide) ?_
      exact e_z hx hb hr hlocks (by rw [p_min, if_neg hn1, if_neg c1, if_neg (fun h => c2 (by rw [h]))]) (by decide) d_PD_minimal_38
    · refine lv_iconst (v := 1) hx hb d_PD_minimal_33 (by decide) ?_
      refine lv_goto (tgt := 38) hx hb d_PD_minimal_34 (by decide) ?_
      exact e_z hx hb hr hlocks (by rw [p_min, if_neg hn1, if_neg c1, if_pos ((nI_eq (by omega) (by omega)).mp c2)]) (by decide) d_PD_minimal_38
end
section
/-! PICTURES 3: the drawer as a whole -/
def dpt (D : va_G) (t0 : Nat) (RX : Nat → Prop) (Lv av : Nat) (dv : Option Nat) (dr : Option (Int64 × Int32 × Nat)) (H : Heap) : Prop := match dr with
  | none => dv = none
  | some q => ∃ d, dv = some d ∧ RX d ∧ drw D t0 (fun x => RX x ∧ ¬ x = Lv ∧ ¬ x = av) d q.1 q.2.1 q.2.2 H
/-- the drawer at h0, its cells in RX: seed, drawing, what is left, verdicts -/
def px (D : va_G) (t0 : Nat) (RX : Nat → Prop) (h0 : Nat) (sd : Int64) (dr : Option (Int64 × Int32 × Nat)) (lf nv : Nat) (vb vt : Nat → Int32) (H : Heap) : Prop := ∃ (Lv av : Nat) (ev : Nat → Nat) (dv : Option Nat), ob D 0 h0 [.long sd, va_rf dv, .ref Lv, .int (nI lf)] H ∧ RX h0 ∧ vq D t0 Lv av nv ev vb vt H ∧ RX Lv ∧ (¬ av = t0 → RX av) ∧ (∀ i, i < nv → RX (ev i)) ∧ (∀ i j, i < nv → j < nv → ev i = ev j → i = j) ∧ dpt D t0 RX Lv av dv dr H
theorem dpt_mono {D : va_G} {t0 : Nat} {RX R2 : Nat → Prop} {Lv av : Nat} {dv : Option Nat} {dr : Option (Int64 × Int32 × Nat)} {H : Heap} (h : dpt D t0 RX Lv av dv dr H) (hR : ∀ q, RX q → R2 q) : dpt D t0 R2 Lv av dv dr H := by
  cases dr with
  | none => exact h
  | some q =>
    obtain ⟨d, h1, h2, h3⟩ := h
    exact ⟨d, h1, hR _ h2, drw_mono h3 (fun x _ g => ⟨hR _ g.1, g.2⟩)⟩
theorem px_mono {D : va_G} {t0 : Nat} {RX R2 : Nat → Prop} {h0 : Nat} {sd : Int64} {dr : Option (Int64 × Int32 × Nat)} {lf nv : Nat} {vb vt : Nat → Int32} {H : Heap} (h : px D t0 RX h0 sd dr lf nv vb vt H) (hR : ∀ q, RX q → R2 q) : px D t0 R2 h0 sd dr lf nv vb vt H := by
  obtain ⟨Lv, av, ev, dv, h1, h2, h3, h4, h5, h6, h7, h8⟩ := h
  exact ⟨Lv, av, ev, dv, h1, hR _ h2, h3, hR _ h4, fun q => hR _ (h5 q), fun i hi => hR _ (h6 i hi), h7, dpt_mono h8 hR⟩
theorem vq_kept {D : va_G} {t0 Lv av nv : Nat} {ev : Nat → Nat} {vb vt : Nat → Int32} {H H1 : Heap} (h : vq D t0 Lv av nv ev vb vt H) (e1 : H1[Lv]? = H[Lv]?) (e2 : ¬ av = t0 → H1[av]? = H[av]?) (e3 : ∀ i, i < nv → H1[ev i]? = H[ev i]?) : vq D t0 Lv av nv ev vb vt H1 :=
  ⟨al_kept h.1 e1 e2, fun i hi => va_at.kept (h.2 i hi) (e3 i hi)⟩
theorem px_kept {D : va_G} {t0 : Nat} {RX : Nat → Prop} {h0 : Nat} {sd : Int64} {dr : Option (Int64 × Int32 × Nat)} {lf nv : Nat} {vb vt : Nat → Int32} {H H1 : Heap} (h : px D t0 RX h0 sd dr lf nv vb vt H) (e : ∀ q, q < H.size → RX q → H1[q]? = H[q]?) : px D t0 RX h0 sd dr lf nv vb vt H1 := by
  obtain ⟨Lv, av, ev, dv, h1, h2, h3, h4, h5, h6, h7, h8⟩ := h
  refine ⟨Lv, av, ev, dv, va_at.kept h1 (e _ (ob_lt h1) h2), h2, vq_kept h3 (e _ (kd_lt (al_kd h3.1).1) h4) (fun q => e _ (kd_lt ((al_kd h3.1).2 q)) (h5 q)) (fun i hi => e _ (ob_lt (h3.2 i hi)) (h6 i hi)), h4, h5, h6, h7, ?_⟩
  cases dr with
  | none => exact h8
  | some q =>
    obtain ⟨d, g1, g2, g3⟩ := h8
    have hd : d < H.size := by
      obtain ⟨L, arr, el, ⟨g4, -⟩, -⟩ := g3
      exact ob_lt g4
    exact ⟨d, g1, g2, drw_kept g3 (e d hd g2) (fun x hx g => e x hx g.1)⟩
/-- what the drawer's methods may change -/
def xA (RX : Nat → Prop) (sz : Nat) : Nat → Prop := fun q => RX q ∨ sz ≤ q
theorem p_like_iff {s1 s2 : Int64} {kd : Int32} {n : Nat} : (∀ i, i < n → ∀ w, w < 5 → p_pf (p_mix s1 kd (nI i)) (p_flt s1 kd n i) w = p_pf (p_mix s2 kd (nI i)) (p_flt s2 kd n i) w) ↔ ∀ i, i < n → p_alike s1 s2 kd n i := by
  constructor
  · intro h i hi
    refine ⟨?_, fun w h1 h2 => ?_⟩
    · have h9 := h i hi 0 (by decide)
      unfold p_pf at h9
      rw [if_pos rfl, if_pos rfl] at h9
      exact h9
    · have h9 := h i hi w h2
      unfold p_pf at h9
      rw [if_neg (by omega), if_neg (by omega)] at h9
      exact h9
  · intro h i hi w hw
    unfold p_pf
    by_cases h0 : w = 0
    · rw [if_pos h0, if_pos h0]
      exact (h i hi).1
    · rw [if_neg h0, if_neg h0]
      exact (h i hi).2 w (by omega) hw
theorem p_sh_lt {st : Nat → Int32} {n : Nat} (h : ∀ r, p_fix st n (2 ^ n - 1) = r → r ≤ 2 ^ n - 1) : p_sh st n ≤ 2 ^ n - 1 := by
  unfold p_sh
  split
  · exact Nat.le_refl _
  · exact h _ rfl
theorem p_fix_le (st : Nat → Int32) (n b : Nat) : p_fix st n b ≤ b := by
  unfold p_fix
  by_cases h : ∃ r, p_re st n b r
  · rw [dif_pos h]
    obtain ⟨⟨k, hk⟩, -⟩ := Classical.choose_spec h
    rw [hk]
    exact p_it_le st n b k
  · rw [dif_neg h]
    exact Nat.le_refl _
theorem p_dr_no {k z : Int32} (h : p_in k 0 4 = 0 ∨ p_in z 0 15 = 0) : (if p_in k 0 4 = 0 then 0 else p_in z 0 15) = (0 : Int32) := by
  by_cases h1 : p_in k 0 4 = 0
  · rw [if_pos h1]
  · rw [if_neg h1]
    exact h.resolve_left h1
theorem p_dr_ok {k : Int32} {j : Nat} (hk : ¬ p_in k 0 4 = 0) (hj : j < 16) : ¬ (if p_in k 0 4 = 0 then 0 else p_in (nI j) 0 15) = (0 : Int32) := by
  rw [if_neg hk]
  exact fun h => p_in_0 h ⟨nI_pos' (by omega), nI_le (b := 15) (by omega) (by decide)⟩
/-- a field of the drawer is written: the drawing stays -/
theorem dpt_h0 {D : va_G} {s : State} {t0 : Nat} {RX : Nat → Prop} {Lv av h0 : Nat} {dv : Option Nat} {dr : Option (Int64 × Int32 × Nat)} {H H1 : Heap} {fs : List Value} (hk : kn D s) (h : dpt D t0 RX Lv av dv dr H) (ho : ob D 0 h0 fs H) (hn : ∀ q : Nat, q ≠ h0 → H1[q]? = H[q]?) : dpt D t0 RX Lv av dv dr H1 := by
  cases dr with
  | none => exact h
  | some q =>
    obtain ⟨d, h1, h2, L, arr, el, ⟨g1, g2, g3⟩, g4, g5, g6⟩ := h
    refine ⟨d, h1, h2, L, arr, el, ⟨va_at.kept g1 (hn _ (kd_ne hk (kd_ob g1) (kd_ob ho) (by decide) (by decide) (by decide))), al_kept g2 (hn _ (kd_ne hk (al_kd g2).1 (kd_ob ho) (by decide) (by decide) (by decide))) (fun q => hn _ (kd_ne hk ((al_kd g2).2 q) (kd_ob ho) (by decide) (by decide) (by decide))), fun i hi => va_at.kept (g3 i hi) (hn _ (kd_ne hk (kd_ob (g3 i hi)) (kd_ob ho) (by decide) (by decide) (by decide)))⟩, g4, g5, g6⟩
/-- the shared empty array is no object of ours -/
theorem t0_not {D : va_G} {s : State} {t0 i : Nat} {A : Nat → Prop} {H : Heap} (hk : kn D s) (hz : zz t0 A s H) (h : kd D H t0 i) (hi : i < 6) (h6 : i ≠ 6) : False := by
  obtain ⟨-, cell, h1, ⟨-, k, hkc, comp, hkind⟩, -⟩ := hz
  obtain ⟨c, h2, h3⟩ := h
  cases h1.symm.trans h2
  have hc : ∃ q, classes[i]? = some q := by
    rcases (show i = 0 ∨ i = 1 ∨ i = 2 ∨ i = 3 ∨ i = 4 ∨ i = 5 by omega) with rfl | rfl | rfl | rfl | rfl | rfl <;> exact ⟨_, rfl⟩
  obtain ⟨q, hq⟩ := hc
  obtain ⟨-, -, kC, g1, g2⟩ := hk.1.1 i q hq
  rw [h3] at hkc
  cases hkc.symm.trans g1
  rw [g2] at hkind
  cases hkind
end
section
/-! THE DRAWER: constructor, seed, draw, same (printed by gen/pdmut.py) -/
theorem d_PD_init_0 : decode b_PD_init 0 = .ok (.aload_n 0, 1) := by decide +kernel
theorem d_PD_init_1 : decode b_PD_init 1 = .ok (.invokespecial 11, 3) := by decide +kernel
theorem d_PD_init_4 : decode b_PD_init 4 = .ok (.aload_n 0, 1) := by decide +kernel
theorem d_PD_init_5 : decode b_PD_init 5 = .ok (.new 17, 3) := by decide +kernel
theorem d_PD_init_8 : decode b_PD_init 8 = .ok (.dup, 1) := by decide +kernel
theorem d_PD_init_9 : decode b_PD_init 9 = .ok (.invokespecial 19, 3) := by decide +kernel
theorem d_PD_init_12 : decode b_PD_init 12 = .ok (.putfield 20, 3) := by decide +kernel
theorem d_PD_init_15 : decode b_PD_init 15 = .ok (.aload_n 0, 1) := by decide +kernel
theorem d_PD_init_16 : decode b_PD_init 16 = .ok (.iload_n 1, 1) := by decide +kernel
theorem d_PD_init_17 : decode b_PD_init 17 = .ok (.i2l, 1) := by decide +kernel
theorem d_PD_init_18 : decode b_PD_init 18 = .ok (.putfield 26, 3) := by decide +kernel
theorem d_PD_init_21 : decode b_PD_init 21 = .ok (.return_, 1) := by decide +kernel
abbrev rm_PD_init : Room := { frames := 4, cells := 1, slots := 3, locals := 80 }
abbrev rm_PD_initR : Room := { frames := 4, cells := 0, slots := 0, locals := 80 }
set_option maxHeartbeats 4000000 in
set_option maxRecDepth 100000 in
theorem c_PD_init (l : Launch) (D : va_G) (h0 t0 sz : Nat) (sv : Int32) : Met l y_PD_init (Cond.code y_PD_init b_PD_init 2 none :: gw) rm_PD_init (cZ D t0 (fun q => q = h0 ∨ sz ≤ q) [.ref h0, .int sv] (fun H => H.size = sz ∧ ob D 0 h0 [.long 0, .null, .null, .int 0] H)) (mV (fun q => q = h0 ∨ sz ≤ q) (fun v H => v = none ∧ ∀ vb vt, px D t0 (fun q => q = h0 ∨ sz ≤ q) h0 sv.toInt64 none 0 0 vb vt H)) 1 3 (fun q => q = h0 ∨ sz ≤ q) := by
  refine mt_B (by decide) (Nat.le_of_ble_eq_true rfl) ?_
  intro p e s m below meth c ls ⟨hx, hb, hr, hlocks, hin, hml, hown, hg⟩ ⟨hk, hz, hp⟩ hl
  have hown : s.vm.findClass R_PD = some m.cls := hown
  have hS : va_S (fun q => q = h0 ∨ sz ≤ q) s.heap s.heap [] := va_S.rf
  have hl : lv_has ls 2 [(0, .ref h0), (1, .int sv)] := hl
  obtain ⟨hsz, ho⟩ := hp
  have ht0 := zz_lt hz
  have hol := ob_lt ho
  refine lv_aload_n hx hb d_PD_init_0 rfl (lv_at hl 0 rfl) ?_
  refine o_I hx hb hml hown hg w_20 hl.1 d_PD_init_1 (Nat.le_of_ble_eq_true rfl) (Nat.le_of_ble_eq_true rfl) ?_
  refine lv_aload_n hx hb d_PD_init_4 rfl (lv_at hl 0 rfl) ?_
  refine x_new hx hb hg hown hk hS 4 rfl i_AL T_AL k_AL w_23 w_24 w_4 (fs := [.null, .int 0, .int 0]) (fun q hq => by rcases (show q = 0 ∨ q = 1 ∨ q = 2 by omega) with rfl | rfl | rfl <;> rfl) (Nat.le_of_ble_eq_true rfl) (Nat.le_of_ble_eq_true rfl) d_PD_init_5 (fun H1 hL hz1 ho1 hS => ?_)
  have ho : ob D 0 h0 [.long 0, .null, .null, .int 0] H1 := va_at.kept ho (ho1 h0 hol)
  refine lv_dup hx hb d_PD_init_8 rfl ?_
  refine m_I hx hb hml hown hg s.heap.size [] [.ref s.heap.size, .ref h0] (c_AL_init l D s.heap.size t0) z_AL_init w_25 w_26 rfl (pre_Z hk (hz.at hS (fun q h => Or.inr (by omega))) hL) d_PD_init_9 rfl rfl ⟨Nat.le_of_ble_eq_true rfl, Nat.le_of_ble_eq_true rfl⟩ rfl hl.1 rfl (Nat.le_of_ble_eq_true rfl) ⟨Nat.le_of_ble_eq_true rfl, Nat.le_of_ble_eq_true rfl⟩ hS (fun q h => Or.inr (by omega)) (fun v H2 locs2 hp1 hz2 hk1 hS => ?_)
  obtain ⟨rfl, hL⟩ := hp1
  have ho : ob D 0 h0 [.long 0, .null, .null, .int 0] H2 := va_at.kept ho (hk1 h0 (by omega) (by omega))
  show W p l e rm_PD_init s m _ below meth c H2 locs2 (0 + 1 + 0) (0 + 3 + 0) _ (F0 m 12 ls [.ref s.heap.size, .ref h0])
  refine x_putF hx hb hg hown hin hk ho hS (Or.inl rfl) rfl i_PD T_PD k_PD n_PD 2 (by decide) w_51 rfl rfl (by decide +kernel) (ty := T_PD 2) rfl rfl (Nat.le_of_ble_eq_true rfl) d_PD_init_12 (fun H2 locs2 ho hz3 ho3 hS => ?_)
  have hL : ob D 4 s.heap.size [.ref t0, .int 0, .int 0] H2 := va_at.kept hL (ho3 _ (by omega))
  refine lv_aload_n hx hb d_PD_init_15 rfl (lv_at hl 0 rfl) ?_
  refine lv_iload_n hx hb d_PD_init_16 rfl (lv_at hl 1 rfl) ?_
  refine lv_i2l (v := sv.toInt64) hx hb d_PD_init_17 rfl ?_
  refine x_put hx hb hg hown hk ho hS (Or.inl rfl) rfl i_PD T_PD k_PD n_PD 0 (by decide) w_49 (fun _ h => h) rfl (by decide +kernel) (ty := .long) rfl rfl (Nat.le_of_ble_eq_true rfl) d_PD_init_18 (fun H2 locs2 ho hz3 ho3 hS => ?_)
  have hL : ob D 4 s.heap.size [.ref t0, .int 0, .int 0] H2 := va_at.kept hL (ho3 _ (by omega))
  exact f_v hx hb hr hlocks hS ⟨rfl, fun vb vt => ⟨s.heap.size, t0, (fun _ => 0), none, ho, Or.inl rfl, ⟨⟨0, hL, Or.inl ⟨rfl, rfl⟩⟩, fun i hi => absurd hi (Nat.not_lt_zero _)⟩, Or.inr (by omega), fun h => absurd rfl h, fun i hi => absurd hi (Nat.not_lt_zero _), fun i _ hi => absurd hi (Nat.not_lt_zero _), rfl⟩⟩ d_PD_init_21
theorem d_PD_seed_0 : decode b_PD_seed 0 = .ok (.aload_n 0, 1) := by decide +kernel
theorem d_PD_seed_1 : decode b_PD_seed 1 = .ok (.getfield 26, 3) := by decide +kernel
theorem d_PD_seed_4 : decode b_PD_seed 4 = .ok (.lstore_n 3, 1) := by decide +kernel
theorem d_PD_seed_5 : decode b_PD_seed 5 = .ok (.aload_n 0, 1) := by decide +kernel
theorem d_PD_seed_6 : decode b_PD_seed 6 = .ok (.lload_n 1, 1) := by decide +kernel
theorem d_PD_seed_7 : decode b_PD_seed 7 = .ok (.putfield 26, 3) := by decide +kernel
theorem d_PD_seed_10 : decode b_PD_seed 10 = .ok (.lload_n 3, 1) := by decide +kernel
theorem d_PD_seed_11 : decode b_PD_seed 11 = .ok (.lreturn, 1) := by decide +kernel
abbrev rm_PD_seed : Room := { frames := 0, cells := 0, slots := 0, locals := 0 }
set_option maxHeartbeats 4000000 in
set_option maxRecDepth 100000 in
theorem c_PD_seed (l : Launch) (D : va_G) (t0 h0 sz : Nat) (RX : Nat → Prop) (sd : Int64) (dr : Option (Int64 × Int32 × Nat)) (lf nv : Nat) (vb vt : Nat → Int32) (s2 : Int64) : Met l y_PD_seed (Cond.code y_PD_seed b_PD_seed 5 (some .long) :: gw) rm_PD_seed (cP D [.ref h0, .long s2] (fun H => H.size = sz ∧ px D t0 RX h0 sd dr lf nv vb vt H)) (mV (xA RX sz) (fun v H => v = some (.long sd) ∧ px D t0 (xA RX sz) h0 s2 dr lf nv vb vt H)) 0 0 (xA RX sz) := by
  refine mt_B (by decide) (Nat.le_of_ble_eq_true rfl) ?_
  intro p e s m below meth c ls ⟨hx, hb, hr, hlocks, hin, hml, hown, hg⟩ ⟨hk, hp⟩ hl
  have hown : s.vm.findClass R_PD = some m.cls := hown
  have hS : va_S (xA RX sz) s.heap s.heap [] := va_S.rf
  have hl : lv_has ls 5 [(0, .ref h0), (1, .long s2)] := hl
  obtain ⟨hsz, Lv, av, ev, dv, ho, hR0, hv, hRL, hRa, hRe, hinj, hdp⟩ := hp
  refine lv_aload_n hx hb d_PD_seed_0 rfl (lv_at hl 0 rfl) ?_
  refine x_get hx hb hg hown hk ho rfl i_PD 0 (by decide) w_49 rfl d_PD_seed_1 ?_
  refine lv_lstore_n (lv' := [(3, .long sd), (0, .ref h0), (1, .long s2)]) hx hb d_PD_seed_4 rfl hl (by decide) rfl (fun ls hl => ?_)
  refine lv_aload_n hx hb d_PD_seed_5 rfl (lv_at hl 1 rfl) ?_
  refine lv_lload_n hx hb d_PD_seed_6 rfl (lv_at hl 2 rfl) ?_
  refine x_put hx hb hg hown hk ho hS (Or.inl hR0) rfl i_PD T_PD k_PD n_PD 0 (by decide) w_49 (fun _ h => h) rfl (by decide +kernel) (ty := .long) rfl rfl (Nat.le_of_ble_eq_true rfl) d_PD_seed_7 (fun H locs ho2 hz3 ho3 hS => ?_)
  have hvk : vq D t0 Lv av nv ev vb vt H := vq_kept hv (ho3 _ (kd_ne hk (al_kd hv.1).1 (kd_ob ho) (by decide) (by decide) (by decide))) (fun q => ho3 _ (kd_ne hk ((al_kd hv.1).2 q) (kd_ob ho) (by decide) (by decide) (by decide))) (fun i hi => ho3 _ (kd_ne hk (kd_ob (hv.2 i hi)) (kd_ob ho) (by decide) (by decide) (by decide)))
  have hdk : dpt D t0 RX Lv av dv dr H := dpt_h0 hk hdp ho ho3
  refine lv_lload_n hx hb d_PD_seed_10 rfl (lv_at hl 0 rfl) ?_
  exact f_l hx hb hr hlocks hS ⟨rfl, px_mono (RX := RX) ⟨Lv, av, ev, dv, ho2, hR0, hvk, hRL, hRa, hRe, hinj, hdk⟩ (fun q h => Or.inl h)⟩ d_PD_seed_11
theorem d_PD_draw_0 : decode b_PD_draw 0 = .ok (.iload_n 1, 1) := by decide +kernel
theorem d_PD_draw_1 : decode b_PD_draw 1 = .ok (.iload_n 2, 1) := by decide +kernel
theorem d_PD_draw_2 : decode b_PD_draw 2 = .ok (.invokestatic 47, 3) := by decide +kernel
theorem d_PD_draw_5 : decode b_PD_draw 5 = .ok (.ifCond .ne 6, 3) := by decide +kernel
theorem d_PD_draw_8 : decode b_PD_draw 8 = .ok (.bipush (-12), 2) := by decide +kernel
theorem d_PD_draw_10 : decode b_PD_draw 10 = .ok (.ireturn, 1) := by decide +kernel
theorem d_PD_draw_11 : decode b_PD_draw 11 = .ok (.aload_n 0, 1) := by decide +kernel
theorem d_PD_draw_12 : decode b_PD_draw 12 = .ok (.new 39, 3) := by decide +kernel
theorem d_PD_draw_15 : decode b_PD_draw 15 = .ok (.dup, 1) := by decide +kernel
theorem d_PD_draw_16 : decode b_PD_draw 16 = .ok (.aload_n 0, 1) := by decide +kernel
theorem d_PD_draw_17 : decode b_PD_draw 17 = .ok (.getfield 26, 3) := by decide +kernel
theorem d_PD_draw_20 : decode b_PD_draw 20 = .ok (.iload_n 1, 1) := by decide +kernel
theorem d_PD_draw_21 : decode b_PD_draw 21 = .ok (.iload_n 2, 1) := by decide +kernel
theorem d_PD_draw_22 : decode b_PD_draw 22 = .ok (.invokespecial 51, 3) := by decide +kernel
theorem d_PD_draw_25 : decode b_PD_draw 25 = .ok (.putfield 34, 3) := by decide +kernel
theorem d_PD_draw_28 : decode b_PD_draw 28 = .ok (.aload_n 0, 1) := by decide +kernel
theorem d_PD_draw_29 : decode b_PD_draw 29 = .ok (.getfield 20, 3) := by decide +kernel
theorem d_PD_draw_32 : decode b_PD_draw 32 = .ok (.invokevirtual 54, 3) := by decide +kernel
theorem d_PD_draw_35 : decode b_PD_draw 35 = .ok (.aload_n 0, 1) := by decide +kernel
theorem d_PD_draw_36 : decode b_PD_draw 36 = .ok (.aload_n 0, 1) := by decide +kernel
theorem d_PD_draw_37 : decode b_PD_draw 37 = .ok (.invokevirtual 57, 3) := by decide +kernel
theorem d_PD_draw_40 : decode b_PD_draw 40 = .ok (.putfield 60, 3) := by decide +kernel
theorem d_PD_draw_43 : decode b_PD_draw 43 = .ok (.aload_n 0, 1) := by decide +kernel
theorem d_PD_draw_44 : decode b_PD_draw 44 = .ok (.getfield 34, 3) := by decide +kernel
theorem d_PD_draw_47 : decode b_PD_draw 47 = .ok (.getfield 38, 3) := by decide +kernel
theorem d_PD_draw_50 : decode b_PD_draw 50 = .ok (.invokevirtual 43, 3) := by decide +kernel
theorem d_PD_draw_53 : decode b_PD_draw 53 = .ok (.ireturn, 1) := by decide +kernel
abbrev rm_PD_draw : Room := { frames := 8, cells := 34, slots := 2438, locals := 230 }
abbrev rm_PD_drawR : Room := { frames := 8, cells := 0, slots := 0, locals := 230 }
set_option maxHeartbeats 4000000 in
set_option maxRecDepth 100000 in
theorem c_PD_draw_no (l : Launch) (D : va_G) (h0 : Nat) (k z : Int32) (hno : p_in k 0 4 = 0 ∨ p_in z 0 15 = 0) : Met l y_PD_draw (Cond.code y_PD_draw b_PD_draw 3 (some .int) :: gw) rm_PD_drawR (cP D [.ref h0, .int k, .int z] (fun _ => True)) (rV (.int (-12))) 0 0 (fun _ => False) := by
  refine mt_B (by decide) (Nat.le_of_ble_eq_true rfl) ?_
  intro p e s m below meth c ls ⟨hx, hb, hr, hlocks, hin, hml, hown, hg⟩ ⟨hk, hp⟩ hl
  have hown : s.vm.findClass R_PD = some m.cls := hown
  have hl : lv_has ls 3 [(0, .ref h0), (1, .int k), (2, .int z)] := hl
  refine lv_iload_n hx hb d_PD_draw_0 rfl (lv_at hl 1 rfl) ?_
  refine lv_iload_n hx hb d_PD_draw_1 rfl (lv_at hl 2 rfl) ?_
  refine k_S hx hb hml hown hg hk [.int k, .int z] [] (c_PD_isDrawing l D k z) z_PD_isDrawing w_70 w_71 (trivial) d_PD_draw_2 rfl rfl ⟨Nat.le_of_ble_eq_true rfl, Nat.le_of_ble_eq_true rfl⟩ rfl hl.1 rfl (Nat.le_of_ble_eq_true rfl) ⟨Nat.zero_le _, Nat.zero_le _⟩ ?_
  refine lv_if_ne (tgt := 11) hx hb d_PD_draw_5 (by decide) (fun c1 => absurd (p_dr_no hno) c1) (fun c1 => ?_)
  refine lv_bipush (v := -12) hx hb d_PD_draw_8 (by decide) ?_
  exact e_i hx hb hr hlocks (rfl) d_PD_draw_10
set_option maxHeartbeats 4000000 in
set_option maxRecDepth 100000 in
theorem c_PD_draw_ok (l : Launch) (D : va_G) (t0 h0 sz : Nat) (RX : Nat → Prop) (sd : Int64) (dr : Option (Int64 × Int32 × Nat)) (lf nv : Nat) (vb vt : Nat → Int32) (hnv : nv ≤ 100) (k : Int32) (j : Nat) (hkk : ¬ p_in k 0 4 = 0) (hj : j < 16) : Met l y_PD_draw (Cond.code y_PD_draw b_PD_draw 3 (some .int) :: gw) rm_PD_draw (cZ D t0 (xA RX sz) [.ref h0, .int k, .int (nI j)] (fun H => H.size = sz ∧ px D t0 RX h0 sd dr lf nv vb vt H)) (mV (xA RX sz) (fun v H => v = some (.int (nI (j + 1))) ∧ px D t0 (xA RX sz) h0 sd (some (sd, k, j + 1)) (2 ^ (j + 1) - 1) 0 vb vt H)) 34 2438 (xA RX sz) := by
  refine mt_B (by decide) (Nat.le_of_ble_eq_true rfl) ?_
  intro p e s m below meth c ls ⟨hx, hb, hr, hlocks, hin, hml, hown, hg⟩ ⟨hk, hz, hp⟩ hl
  have hown : s.vm.findClass R_PD = some m.cls := hown
  have hS : va_S (xA RX sz) s.heap s.heap [] := va_S.rf
  have hl : lv_has ls 3 [(0, .ref h0), (1, .int k), (2, .int (nI j))] := hl
  obtain ⟨hsz, Lv, av, ev, dv, ho, hR0, hv, hRL, hRa, hRe, hinj, hdp⟩ := hp
  have ht0 := zz_lt hz
  have hol := ob_lt ho
  have hLl := kd_lt (al_kd hv.1).1
  refine lv_iload_n hx hb d_PD_draw_0 rfl (lv_at hl 1 rfl) ?_
  refine lv_iload_n hx hb d_PD_draw_1 rfl (lv_at hl 2 rfl) ?_
  refine k_S hx hb hml hown hg hk [.int k, .int (nI j)] [] (c_PD_isDrawing l D k (nI j)) z_PD_isDrawing w_70 w_71 (trivial) d_PD_draw_2 rfl rfl ⟨Nat.le_of_ble_eq_true rfl, Nat.le_of_ble_eq_true rfl⟩ rfl hl.1 rfl (Nat.le_of_ble_eq_true rfl) ⟨Nat.zero_le _, Nat.zero_le _⟩ ?_
  refine lv_if_ne (tgt := 11) hx hb d_PD_draw_5 (by decide) (fun c1 => ?_) (fun c1 => absurd c1 (p_dr_ok hkk hj))
  refine lv_aload_n hx hb d_PD_draw_11 rfl (lv_at hl 0 rfl) ?_
  refine x_new hx hb hg hown hk hS 1 rfl i_DR T_DR k_DR w_76 w_77 w_6 (fs := [.long 0, .int 0, .null]) (fun q hq => by rcases (show q = 0 ∨ q = 1 ∨ q = 2 by omega) with rfl | rfl | rfl <;> rfl) (Nat.le_of_ble_eq_true rfl) (Nat.le_of_ble_eq_true rfl) d_PD_draw_12 (fun H1 hd hz1 ho1 hS => ?_)
  have ho1x : ob D 0 h0 [.long sd, va_rf dv, .ref Lv, .int (nI lf)] H1 := va_at.kept ho (ho1 h0 hol)
  refine lv_dup hx hb d_PD_draw_15 rfl ?_
  refine lv_aload_n hx hb d_PD_draw_16 rfl (lv_at hl 0 rfl) ?_
  refine x_get hx hb hg hown hk ho1x rfl i_PD 0 (by decide) w_49 rfl d_PD_draw_17 ?_
  refine lv_iload_n hx hb d_PD_draw_20 rfl (lv_at hl 1 rfl) ?_
  refine lv_iload_n hx hb d_PD_draw_21 rfl (lv_at hl 2 rfl) ?_
  refine m_I hx hb hml hown hg s.heap.size [.long sd, .int k, .int (nI j)] [.ref s.heap.size, .ref h0] (c_DR_init l D s.heap.size t0 H1.size sd k j hj) z_DR_init w_78 w_79 rfl (pre_Z hk (hz.at hS (fun q h => Or.inr (by rcases h with h | h <;> omega))) ⟨rfl, hd⟩) d_PD_draw_22 rfl rfl ⟨Nat.le_of_ble_eq_true rfl, Nat.le_of_ble_eq_true rfl⟩ rfl hl.1 rfl (Nat.le_of_ble_eq_true rfl) ⟨Nat.le_of_ble_eq_true rfl, Nat.le_of_ble_eq_true rfl⟩ hS (fun q h => Or.inr (by rcases h with h | h <;> omega)) (fun v H2 locs2 hp1 hz2 hk1 hS => ?_)
  obtain ⟨rfl, hdr⟩ := hp1
  have hold : ∀ q, q < s.heap.size → H2[q]? = s.heap[q]? := fun q hq => (hk1 q (by omega) (by omega)).trans (ho1 q hq)
  have ho2 : ob D 0 h0 [.long sd, va_rf dv, .ref Lv, .int (nI lf)] H2 := va_at.kept ho (hold h0 hol)
  have hv2 : al D t0 Lv av nv ev H2 := al_kept hv.1 (hold _ hLl) (fun q => hold _ (kd_lt ((al_kd hv.1).2 q)))
  show W p l e rm_PD_draw s m _ below meth c H2 locs2 (0 + 1 + 33) (0 + 3 + 2435) _ (F0 m 25 ls [.ref s.heap.size, .ref h0])
  refine x_put hx hb hg hown hk ho2 hS (Or.inl hR0) rfl i_PD T_PD k_PD n_PD 1 (by decide) w_50 (fun _ h => h) rfl (by decide +kernel) (ty := T_PD 1) rfl rfl (Nat.le_of_ble_eq_true rfl) d_PD_draw_25 (fun H3 locs3 ho3 hz3 hn3 hS => ?_)
  have ho3 : ob D 0 h0 [.long sd, .ref s.heap.size, .ref Lv, .int (nI lf)] H3 := ho3
  have hdr3 := drw_kept hdr (hn3 _ (by omega)) (fun q _ g => hn3 q (by omega))
  have hv3 : al D t0 Lv av nv ev H3 := al_kept hv2 (hn3 _ (kd_ne hk (al_kd hv2).1 (kd_ob ho2) (by decide) (by decide) (by decide))) (fun q => hn3 _ (kd_ne hk ((al_kd hv2).2 q) (kd_ob ho2) (by decide) (by decide) (by decide)))
  refine lv_aload_n hx hb d_PD_draw_28 rfl (lv_at hl 0 rfl) ?_
  refine x_get hx hb hg hown hk ho3 rfl i_PD 2 (by decide) w_51 rfl d_PD_draw_29 ?_
  refine m_V hx hb hml hown hg Lv [] [] (c_AL_clear l D Lv av t0 nv ev hnv) z_AL_clear w_204 w_205 w_206 (by obtain ⟨mc9, g9, -⟩ := hv3; exact rc_ob hk g9 rfl) (pre_P hk hv3) d_PD_draw_32 rfl rfl ⟨Nat.le_of_ble_eq_true rfl, Nat.le_of_ble_eq_true rfl⟩ rfl hl.1 rfl (Nat.le_of_ble_eq_true rfl) ⟨Nat.le_of_ble_eq_true rfl, Nat.le_of_ble_eq_true rfl⟩ hS (fun q h => Or.inl (by rcases h with h | h; rw [h]; exact hRL; rw [h.1]; exact hRa h.2)) (fun v H4 locs4 hp1 hz4 hk4 hS => ?_)
  obtain ⟨rfl, hv4⟩ := hp1
  have hav : ¬ av = t0 → av < s.heap.size := fun q => kd_lt ((al_kd hv.1).2 q)
  have hncl : ∀ q, ¬ q = Lv → (¬ av = t0 → ¬ q = av) → ¬ clA Lv av t0 q := fun q g1 g2 g3 => by rcases g3 with g3 | g3; exact g1 g3; exact g2 g3.2 g3.1
  have ho4 : ob D 0 h0 [.long sd, .ref s.heap.size, .ref Lv, .int (nI lf)] H4 := va_at.kept ho3 (hk4 _ (ob_lt ho3) (hncl _ (kd_ne hk (kd_ob ho3) (al_kd hv3).1 (by decide) (by decide) (by decide)) (fun q => kd_ne hk (kd_ob ho3) ((al_kd hv3).2 q) (by decide) (by decide) (by decide))))
  have hz23 : s.heap.size < H2.size := by omega
  have hdr4 := drw_kept hdr3 (hk4 _ (by omega) (hncl _ (by omega) (fun q => by have := hav q; omega))) (fun q g1 g2 => hk4 q g1 (hncl _ (by omega) (fun g3 => by have := hav g3; omega)))
  show W p l e rm_PD_draw s m _ below meth c H4 locs4 34 2438 _ (F0 m 35 ls [])
  refine lv_aload_n hx hb d_PD_draw_35 rfl (lv_at hl 0 rfl) ?_
  refine lv_aload_n hx hb d_PD_draw_36 rfl (lv_at hl 0 rfl) ?_
  refine k_V hx hb hml hown hg hk h0 [] [.ref h0] (c_PD_all l D t0 h0 s.heap.size Lv (j + 1) (fun q => H1.size ≤ q) sd sd k (nI lf) (by omega) (by omega)) z_PD_all w_208 w_210 s_PD_all (rc_ob hk ho4 rfl) (⟨ho4, hdr4⟩) d_PD_draw_37 rfl rfl ⟨Nat.le_of_ble_eq_true rfl, Nat.le_of_ble_eq_true rfl⟩ rfl hl.1 rfl (Nat.le_of_ble_eq_true rfl) ⟨Nat.le_of_ble_eq_true rfl, Nat.le_of_ble_eq_true rfl⟩ ?_
  refine x_put hx hb hg hown hk ho4 hS (Or.inl hR0) rfl i_PD T_PD k_PD n_PD 3 (by decide) w_52 (fun _ h => h) rfl (by decide +kernel) (ty := .int) rfl rfl (Nat.le_of_ble_eq_true rfl) d_PD_draw_40 (fun H5 locs5 ho5 hz5 hn5 hS => ?_)
  have ho5 : ob D 0 h0 [.long sd, .ref s.heap.size, .ref Lv, .int (nI (2 ^ (j + 1) - 1))] H5 := ho5
  have hdr5 := drw_kept hdr4 (hn5 _ (by omega)) (fun q _ g => hn5 q (by omega))
  have hv5 : al D t0 Lv av 0 ev H5 := al_kept (hv4 ev) (hn5 _ (kd_ne hk (al_kd (hv4 ev)).1 (kd_ob ho4) (by decide) (by decide) (by decide))) (fun q => hn5 _ (kd_ne hk ((al_kd (hv4 ev)).2 q) (kd_ob ho4) (by decide) (by decide) (by decide)))
  obtain ⟨L, arr, el, ⟨hdd, ⟨mc, hLL, hcase⟩, hpt⟩, -⟩ := id hdr5
  refine lv_aload_n hx hb d_PD_draw_43 rfl (lv_at hl 0 rfl) ?_
  refine x_get hx hb hg hown hk ho5 rfl i_PD 1 (by decide) w_50 rfl d_PD_draw_44 ?_
  refine x_getN hx hb hg hown hk hdd rfl i_DR 2 (by decide) 6 rfl rfl d_PD_draw_47 ?_
  refine k_V hx hb hml hown hg hk L [] [] (c_AL_size l D L arr (nI (j + 1)) mc) z_AL_size w_212 w_165 w_166 (rc_ob hk (hLL) rfl) (hLL) d_PD_draw_50 rfl rfl ⟨Nat.le_of_ble_eq_true rfl, Nat.le_of_ble_eq_true rfl⟩ rfl hl.1 rfl (Nat.le_of_ble_eq_true rfl) ⟨Nat.le_of_ble_eq_true rfl, Nat.le_of_ble_eq_true rfl⟩ ?_
  exact f_i hx hb hr hlocks hS ⟨rfl, Lv, av, ev, some s.heap.size, ho5, Or.inl hR0, ⟨hv5, fun i hi => absurd hi (Nat.not_lt_zero _)⟩, Or.inl hRL, fun q => Or.inl (hRa q), fun i hi => absurd hi (Nat.not_lt_zero _), fun i _ hi => absurd hi (Nat.not_lt_zero _), s.heap.size, rfl, Or.inr (by omega), drw_mono hdr5 (fun q _ g => ⟨Or.inr (by omega), by omega, fun g3 => by by_cases g4 : av = t0; omega; have := hav g4; omega⟩)⟩ d_PD_draw_53
theorem d_PD_same_0 : decode b_PD_same 0 = .ok (.iload_n 3, 1) := by decide +kernel
theorem d_PD_same_1 : decode b_PD_same 1 = .ok (.iload 4, 2) := by decide +kernel
theorem d_PD_same_3 : decode b_PD_same 3 = .ok (.invokestatic 47, 3) := by decide +kernel
theorem d_PD_same_6 : decode b_PD_same 6 = .ok (.ifCond .eq 38, 3) := by decide +kernel
theorem d_PD_same_9 : decode b_PD_same 9 = .ok (.new 39, 3) := by decide +kernel
theorem d_PD_same_12 : decode b_PD_same 12 = .ok (.dup, 1) := by decide +kernel
theorem d_PD_same_13 : decode b_PD_same 13 = .ok (.aload_n 0, 1) := by decide +kernel
theorem d_PD_same_14 : decode b_PD_same 14 = .ok (.getfield 26, 3) := by decide +kernel
theorem d_PD_same_17 : decode b_PD_same 17 = .ok (.iload_n 3, 1) := by decide +kernel
theorem d_PD_same_18 : decode b_PD_same 18 = .ok (.iload 4, 2) := by decide +kernel
theorem d_PD_same_20 : decode b_PD_same 20 = .ok (.invokespecial 51, 3) := by decide +kernel
theorem d_PD_same_23 : decode b_PD_same 23 = .ok (.new 39, 3) := by decide +kernel
theorem d_PD_same_26 : decode b_PD_same 26 = .ok (.dup, 1) := by decide +kernel
theorem d_PD_same_27 : decode b_PD_same 27 = .ok (.lload_n 1, 1) := by decide +kernel
theorem d_PD_same_28 : decode b_PD_same 28 = .ok (.iload_n 3, 1) := by decide +kernel
theorem d_PD_same_29 : decode b_PD_same 29 = .ok (.iload 4, 2) := by decide +kernel
theorem d_PD_same_31 : decode b_PD_same 31 = .ok (.invokespecial 51, 3) := by decide +kernel
theorem d_PD_same_34 : decode b_PD_same 34 = .ok (.invokevirtual 121, 3) := by decide +kernel
theorem d_PD_same_37 : decode b_PD_same 37 = .ok (.ifCond .eq 7, 3) := by decide +kernel
theorem d_PD_same_40 : decode b_PD_same 40 = .ok (.iconst 1, 1) := by decide +kernel
theorem d_PD_same_41 : decode b_PD_same 41 = .ok (.goto 4, 3) := by decide +kernel
theorem d_PD_same_44 : decode b_PD_same 44 = .ok (.iconst 0, 1) := by decide +kernel
theorem d_PD_same_45 : decode b_PD_same 45 = .ok (.ireturn, 1) := by decide +kernel
abbrev rm_PD_same : Room := { frames := 8, cells := 68, slots := 4876, locals := 230 }
abbrev rm_PD_sameR : Room := { frames := 8, cells := 0, slots := 0, locals := 230 }
set_option maxHeartbeats 4000000 in
set_option maxRecDepth 100000 in
theorem c_PD_same_no (l : Launch) (D : va_G) (h0 : Nat) (o : Int64) (k z : Int32) (hno : p_in k 0 4 = 0 ∨ p_in z 0 15 = 0) : Met l y_PD_same (Cond.code y_PD_same b_PD_same 5 (some .boolean) :: gw) rm_PD_sameR (cP D [.ref h0, .long o, .int k, .int z] (fun _ => True)) (rV (.int 0)) 0 0 (fun _ => False) := by
  refine mt_B (by decide) (Nat.le_of_ble_eq_true rfl) ?_
  intro p e s m below meth c ls ⟨hx, hb, hr, hlocks, hin, hml, hown, hg⟩ ⟨hk, hp⟩ hl
  have hown : s.vm.findClass R_PD = some m.cls := hown
  have hl : lv_has ls 5 [(0, .ref h0), (1, .long o), (3, .int k), (4, .int z)] := hl
  refine lv_iload_n hx hb d_PD_same_0 rfl (lv_at hl 2 rfl) ?_
  refine lv_iload hx hb d_PD_same_1 (lv_at hl 3 rfl) ?_
  refine k_S hx hb hml hown hg hk [.int k, .int z] [] (c_PD_isDrawing l D k z) z_PD_isDrawing w_70 w_71 (trivial) d_PD_same_3 rfl rfl ⟨Nat.le_of_ble_eq_true rfl, Nat.le_of_ble_eq_true rfl⟩ rfl hl.1 rfl (Nat.le_of_ble_eq_true rfl) ⟨Nat.zero_le _, Nat.zero_le _⟩ ?_
  refine lv_if_eq (tgt := 44) hx hb d_PD_same_6 (by decide) (fun c1 => ?_) (fun c1 => absurd (p_dr_no hno) c1)
  refine lv_iconst (v := 0) hx hb d_PD_same_44 (by decide) ?_
  exact e_z hx hb hr hlocks (rfl) (by decide) d_PD_same_45
set_option maxHeartbeats 4000000 in
set_option maxRecDepth 100000 in
theorem c_PD_same_ok (l : Launch) (D : va_G) (t0 h0 sz : Nat) (RX : Nat → Prop) (sd : Int64) (dr : Option (Int64 × Int32 × Nat)) (lf nv : Nat) (vb vt : Nat → Int32) (o : Int64) (k : Int32) (j : Nat) (hkk : ¬ p_in k 0 4 = 0) (hj : j < 16) : Met l y_PD_same (Cond.code y_PD_same b_PD_same 5 (some .boolean) :: gw) rm_PD_same (cZ D t0 (xA RX sz) [.ref h0, .long o, .int k, .int (nI j)] (fun H => H.size = sz ∧ px D t0 RX h0 sd dr lf nv vb vt H)) (mV (xA RX sz) (fun v H => v = some (.int (p_tf (∀ i, i < j + 1 → p_alike sd o k (j + 1) i))) ∧ px D t0 (xA RX sz) h0 sd dr lf nv vb vt H)) 68 4876 (xA RX sz) := by
  refine mt_B (by decide) (Nat.le_of_ble_eq_true rfl) ?_
  intro p e s m below meth c ls ⟨hx, hb, hr, hlocks, hin, hml, hown, hg⟩ ⟨hk, hz, hp⟩ hl
  have hown : s.vm.findClass R_PD = some m.cls := hown
  have hS : va_S (xA RX sz) s.heap s.heap [] := va_S.rf
  have hl : lv_has ls 5 [(0, .ref h0), (1, .long o), (3, .int k), (4, .int (nI j))] := hl
  obtain ⟨hsz, hpx⟩ := hp
  obtain ⟨Lv, av, ev, dv, ho, -⟩ := id hpx
  have ht0 := zz_lt hz
  have hol := ob_lt ho
  refine lv_iload_n hx hb d_PD_same_0 rfl (lv_at hl 2 rfl) ?_
  refine lv_iload hx hb d_PD_same_1 (lv_at hl 3 rfl) ?_
  refine k_S hx hb hml hown hg hk [.int k, .int (nI j)] [] (c_PD_isDrawing l D k (nI j)) z_PD_isDrawing w_70 w_71 (trivial) d_PD_same_3 rfl rfl ⟨Nat.le_of_ble_eq_true rfl, Nat.le_of_ble_eq_true rfl⟩ rfl hl.1 rfl (Nat.le_of_ble_eq_true rfl) ⟨Nat.zero_le _, Nat.zero_le _⟩ ?_
  refine lv_if_eq (tgt := 44) hx hb d_PD_same_6 (by decide) (fun c1 => absurd c1 (p_dr_ok hkk hj)) (fun c1 => ?_)
  refine x_new hx hb hg hown hk hS 1 rfl i_DR T_DR k_DR w_76 w_77 w_6 (fs := [.long 0, .int 0, .null]) (fun q hq => by rcases (show q = 0 ∨ q = 1 ∨ q = 2 by omega) with rfl | rfl | rfl <;> rfl) (Nat.le_of_ble_eq_true rfl) (Nat.le_of_ble_eq_true rfl) d_PD_same_9 (fun H1 hd hz1 ho1 hS => ?_)
  have ho1x : ob D 0 h0 [.long sd, va_rf dv, .ref Lv, .int (nI lf)] H1 := va_at.kept ho (ho1 h0 hol)
  refine lv_dup hx hb d_PD_same_12 rfl ?_
  refine lv_aload_n hx hb d_PD_same_13 rfl (lv_at hl 0 rfl) ?_
  refine x_get hx hb hg hown hk ho1x rfl i_PD 0 (by decide) w_49 rfl d_PD_same_14 ?_
  refine lv_iload_n hx hb d_PD_same_17 rfl (lv_at hl 2 rfl) ?_
  refine lv_iload hx hb d_PD_same_18 (lv_at hl 3 rfl) ?_
  refine m_I hx hb hml hown hg s.heap.size [.long sd, .int k, .int (nI j)] [.ref s.heap.size] (c_DR_init l D s.heap.size t0 H1.size sd k j hj) z_DR_init w_78 w_79 rfl (pre_Z hk (hz.at hS (fun q h => Or.inr (by rcases h with h | h <;> omega))) ⟨rfl, hd⟩) d_PD_same_20 rfl rfl ⟨Nat.le_of_ble_eq_true rfl, Nat.le_of_ble_eq_true rfl⟩ rfl hl.1 rfl (Nat.le_of_ble_eq_true rfl) ⟨Nat.le_of_ble_eq_true rfl, Nat.le_of_ble_eq_true rfl⟩ hS (fun q h => Or.inr (by rcases h with h | h <;> omega)) (fun v H2 locs2 hp1 hz2 hk1 hS => ?_)
  obtain ⟨rfl, hdr⟩ := hp1
  have hold : ∀ q, q < s.heap.size → H2[q]? = s.heap[q]? := fun q hq => (hk1 q (by omega) (by omega)).trans (ho1 q hq)
  have hdl : s.heap.size < H2.size := by omega
  show W p l e rm_PD_same s m _ below meth c H2 locs2 (0 + 1 + 33) (0 + 3 + 2435) _ (F0 m 23 ls [.ref s.heap.size])
  refine x_new hx hb hg hown hk hS 1 rfl i_DR T_DR k_DR w_76 w_77 w_6 (fs := [.long 0, .int 0, .null]) (fun q hq => by rcases (show q = 0 ∨ q = 1 ∨ q = 2 by omega) with rfl | rfl | rfl <;> rfl) (Nat.le_of_ble_eq_true rfl) (Nat.le_of_ble_eq_true rfl) d_PD_same_23 (fun H3 hd3 hz3 ho3 hS => ?_)
  have hdr3 := drw_kept hdr (ho3 _ hdl) (fun q g _ => ho3 q g)
  refine lv_dup hx hb d_PD_same_26 rfl ?_
  refine lv_lload_n hx hb d_PD_same_27 rfl (lv_at hl 1 rfl) ?_
  refine lv_iload_n hx hb d_PD_same_28 rfl (lv_at hl 2 rfl) ?_
  refine lv_iload hx hb d_PD_same_29 (lv_at hl 3 rfl) ?_
  refine m_I hx hb hml hown hg H2.size [.long o, .int k, .int (nI j)] [.ref H2.size, .ref s.heap.size] (c_DR_init l D H2.size t0 H3.size o k j hj) z_DR_init w_78 w_79 rfl (pre_Z hk (hz.at hS (fun q h => Or.inr (by rcases h with h | h <;> omega))) ⟨rfl, hd3⟩) d_PD_same_31 rfl rfl ⟨Nat.le_of_ble_eq_true rfl, Nat.le_of_ble_eq_true rfl⟩ rfl hl.1 rfl (Nat.le_of_ble_eq_true rfl) ⟨Nat.le_of_ble_eq_true rfl, Nat.le_of_ble_eq_true rfl⟩ hS (fun q h => Or.inr (by rcases h with h | h <;> omega)) (fun v H4 locs4 hp1 hz4 hk4 hS => ?_)
  obtain ⟨rfl, hdr2⟩ := hp1
  have hold4 : ∀ q, q < H2.size → H4[q]? = H2[q]? := fun q hq => (hk4 q (by omega) (by omega)).trans (ho3 q hq)
  have hdr4 := drw_kept hdr (hold4 _ hdl) (fun q g _ => hold4 q g)
  show W p l e rm_PD_same s m _ below meth c H4 locs4 68 4876 _ (F0 m 34 ls [.ref H2.size, .ref s.heap.size])
  obtain ⟨L, arr, el, hdw, -⟩ := id hdr4
  obtain ⟨L2, arr2, el2, hdw2, -⟩ := id hdr2
  refine k_V hx hb hml hown hg hk s.heap.size [.ref H2.size] [] (c_DR_isLike l D t0 s.heap.size L arr (j + 1) el (fun i => p_mix sd k (nI i)) (fun i => p_flt sd k (j + 1) i) sd k H2.size L2 arr2 el2 (fun i => p_mix o k (nI i)) (fun i => p_flt o k (j + 1) i) o k (fun i _ => p_flt_01 _ _ _ _) (fun i _ => p_flt_01 _ _ _ _) (by omega)) z_DR_isLike w_291 w_292 w_293 (rc_ob hk hdw.1 rfl) (⟨hdw, hdw2⟩) d_PD_same_34 rfl rfl ⟨Nat.le_of_ble_eq_true rfl, Nat.le_of_ble_eq_true rfl⟩ rfl hl.1 rfl (Nat.le_of_ble_eq_true rfl) ⟨Nat.le_of_ble_eq_true rfl, Nat.le_of_ble_eq_true rfl⟩ ?_
  rw [show p_tf (∀ i, i < j + 1 → ∀ w, w < 5 → p_pf ((fun i => p_mix sd k (nI i)) i) ((fun i => p_flt sd k (j + 1) i) i) w = p_pf ((fun i => p_mix o k (nI i)) i) ((fun i => p_flt o k (j + 1) i) i) w) = p_tf (∀ i, i < j + 1 → p_alike sd o k (j + 1) i) from p_tf_c p_like_iff]
  refine lv_if_eq (tgt := 44) hx hb d_PD_same_37 (by decide) (fun c2 => ?_) (fun c2 => ?_)
  · refine lv_iconst (v := 0) hx hb d_PD_same_44 (by decide) ?_
    exact f_z hx hb hr hlocks (by decide) hS ⟨by rw [c2], px_mono (px_kept hpx (fun q g1 g2 => (hold4 q (by omega)).trans (hold q g1))) (fun q h => Or.inl h)⟩ d_PD_same_45
  · refine lv_iconst (v := 1) hx hb d_PD_same_40 (by decide) ?_
    refine lv_goto (tgt := 45) hx hb d_PD_same_41 (by decide) ?_
    exact f_z hx hb hr hlocks (by decide) hS ⟨by rw [(p_tf_01 _).resolve_left c2], px_mono (px_kept hpx (fun q g1 g2 => (hold4 q (by omega)).trans (hold q g1))) (fun q h => Or.inl h)⟩ d_PD_same_45
end
section
/-! THE DRAWER: verdict, shorter (printed by gen/pdmut2.py) -/
/-- the drawer while it shortens: what is left is cur -/
def sw (D : va_G) (t0 h0 d Lv av n nv : Nat) (RR : Nat → Prop) (ev : Nat → Nat) (sd ds : Int64) (dk : Int32) (vb vt : Nat → Int32) (cur : Nat) (H : Heap) : Prop := ob D 0 h0 [.long sd, .ref d, .ref Lv, .int (nI cur)] H ∧ drw D t0 RR d ds dk n H ∧ vq D t0 Lv av nv ev vb vt H
theorem sw_put {D : va_G} {s : State} {t0 h0 d Lv av n nv : Nat} {RR : Nat → Prop} {ev : Nat → Nat} {sd ds : Int64} {dk : Int32} {vb vt : Nat → Int32} {cur c2 : Nat} {H H1 : Heap} (hk : kn D s) (h : sw D t0 h0 d Lv av n nv RR ev sd ds dk vb vt cur H) (ho : ob D 0 h0 [.long sd, .ref d, .ref Lv, .int (nI c2)] H1) (hn : ∀ q : Nat, q ≠ h0 → H1[q]? = H[q]?) : sw D t0 h0 d Lv av n nv RR ev sd ds dk vb vt c2 H1 := by
  obtain ⟨h1, h2, h3⟩ := h
  obtain ⟨L, arr, el, ⟨g1, g2, g3⟩, g4⟩ := h2
  refine ⟨ho, ⟨L, arr, el, ⟨va_at.kept g1 (hn _ (kd_ne hk (kd_ob g1) (kd_ob h1) (by decide) (by decide) (by decide))), al_kept g2 (hn _ (kd_ne hk (al_kd g2).1 (kd_ob h1) (by decide) (by decide) (by decide))) (fun q => hn _ (kd_ne hk ((al_kd g2).2 q) (kd_ob h1) (by decide) (by decide) (by decide))), fun i hi => va_at.kept (g3 i hi) (hn _ (kd_ne hk (kd_ob (g3 i hi)) (kd_ob h1) (by decide) (by decide) (by decide)))⟩, g4⟩, vq_kept h3 (hn _ (kd_ne hk (al_kd h3.1).1 (kd_ob h1) (by decide) (by decide) (by decide))) (fun q => hn _ (kd_ne hk ((al_kd h3.1).2 q) (kd_ob h1) (by decide) (by decide) (by decide))) (fun i hi => hn _ (kd_ne hk (kd_ob (h3.2 i hi)) (kd_ob h1) (by decide) (by decide) (by decide)))⟩
theorem d_PD_verdict_0 : decode b_PD_verdict 0 = .ok (.aload_n 0, 1) := by decide +kernel
theorem d_PD_verdict_1 : decode b_PD_verdict 1 = .ok (.getfield 34, 3) := by decide +kernel
theorem d_PD_verdict_4 : decode b_PD_verdict 4 = .ok (.ifnonnull 6, 3) := by decide +kernel
theorem d_PD_verdict_7 : decode b_PD_verdict 7 = .ok (.bipush (-13), 2) := by decide +kernel
theorem d_PD_verdict_9 : decode b_PD_verdict 9 = .ok (.ireturn, 1) := by decide +kernel
theorem d_PD_verdict_10 : decode b_PD_verdict 10 = .ok (.iload_n 1, 1) := by decide +kernel
theorem d_PD_verdict_11 : decode b_PD_verdict 11 = .ok (.iconst 1, 1) := by decide +kernel
theorem d_PD_verdict_12 : decode b_PD_verdict 12 = .ok (.if_icmp .lt 11, 3) := by decide +kernel
theorem d_PD_verdict_15 : decode b_PD_verdict 15 = .ok (.iload_n 1, 1) := by decide +kernel
theorem d_PD_verdict_16 : decode b_PD_verdict 16 = .ok (.aload_n 0, 1) := by decide +kernel
theorem d_PD_verdict_17 : decode b_PD_verdict 17 = .ok (.invokevirtual 57, 3) := by decide +kernel
theorem d_PD_verdict_20 : decode b_PD_verdict 20 = .ok (.if_icmp .le 6, 3) := by decide +kernel
theorem d_PD_verdict_23 : decode b_PD_verdict 23 = .ok (.bipush (-12), 2) := by decide +kernel
theorem d_PD_verdict_25 : decode b_PD_verdict 25 = .ok (.ireturn, 1) := by decide +kernel
theorem d_PD_verdict_26 : decode b_PD_verdict 26 = .ok (.aload_n 0, 1) := by decide +kernel
theorem d_PD_verdict_27 : decode b_PD_verdict 27 = .ok (.iload_n 1, 1) := by decide +kernel
theorem d_PD_verdict_28 : decode b_PD_verdict 28 = .ok (.invokevirtual 98, 3) := by decide +kernel
theorem d_PD_verdict_31 : decode b_PD_verdict 31 = .ok (.astore_n 3, 1) := by decide +kernel
theorem d_PD_verdict_32 : decode b_PD_verdict 32 = .ok (.aload_n 3, 1) := by decide +kernel
theorem d_PD_verdict_33 : decode b_PD_verdict 33 = .ok (.ifnonnull 36, 3) := by decide +kernel
theorem d_PD_verdict_36 : decode b_PD_verdict 36 = .ok (.aload_n 0, 1) := by decide +kernel
theorem d_PD_verdict_37 : decode b_PD_verdict 37 = .ok (.getfield 20, 3) := by decide +kernel
theorem d_PD_verdict_40 : decode b_PD_verdict 40 = .ok (.invokevirtual 43, 3) := by decide +kernel
theorem d_PD_verdict_43 : decode b_PD_verdict 43 = .ok (.bipush 100, 2) := by decide +kernel
theorem d_PD_verdict_45 : decode b_PD_verdict 45 = .ok (.if_icmp .ne 6, 3) := by decide +kernel
theorem d_PD_verdict_48 : decode b_PD_verdict 48 = .ok (.bipush (-14), 2) := by decide +kernel
theorem d_PD_verdict_50 : decode b_PD_verdict 50 = .ok (.ireturn, 1) := by decide +kernel
theorem d_PD_verdict_51 : decode b_PD_verdict 51 = .ok (.new 93, 3) := by decide +kernel
theorem d_PD_verdict_54 : decode b_PD_verdict 54 = .ok (.dup, 1) := by decide +kernel
theorem d_PD_verdict_55 : decode b_PD_verdict 55 = .ok (.iload_n 1, 1) := by decide +kernel
theorem d_PD_verdict_56 : decode b_PD_verdict 56 = .ok (.invokespecial 102, 3) := by decide +kernel
theorem d_PD_verdict_59 : decode b_PD_verdict 59 = .ok (.astore_n 3, 1) := by decide +kernel
theorem d_PD_verdict_60 : decode b_PD_verdict 60 = .ok (.aload_n 0, 1) := by decide +kernel
theorem d_PD_verdict_61 : decode b_PD_verdict 61 = .ok (.getfield 20, 3) := by decide +kernel
theorem d_PD_verdict_64 : decode b_PD_verdict 64 = .ok (.aload_n 3, 1) := by decide +kernel
theorem d_PD_verdict_65 : decode b_PD_verdict 65 = .ok (.invokevirtual 105, 3) := by decide +kernel
theorem d_PD_verdict_68 : decode b_PD_verdict 68 = .ok (.pop, 1) := by decide +kernel
theorem d_PD_verdict_69 : decode b_PD_verdict 69 = .ok (.aload_n 3, 1) := by decide +kernel
theorem d_PD_verdict_70 : decode b_PD_verdict 70 = .ok (.iload_n 2, 1) := by decide +kernel
theorem d_PD_verdict_71 : decode b_PD_verdict 71 = .ok (.putfield 109, 3) := by decide +kernel
theorem d_PD_verdict_74 : decode b_PD_verdict 74 = .ok (.aload_n 0, 1) := by decide +kernel
theorem d_PD_verdict_75 : decode b_PD_verdict 75 = .ok (.getfield 20, 3) := by decide +kernel
theorem d_PD_verdict_78 : decode b_PD_verdict 78 = .ok (.invokevirtual 43, 3) := by decide +kernel
theorem d_PD_verdict_81 : decode b_PD_verdict 81 = .ok (.ireturn, 1) := by decide +kernel
abbrev rm_PD_verdict : Room := { frames := 7, cells := 2, slots := 152, locals := 200 }
abbrev rm_PD_verdictR : Room := { frames := 7, cells := 0, slots := 0, locals := 200 }
set_option maxHeartbeats 4000000 in
set_option maxRecDepth 100000 in
theorem c_PD_verdict_0 (l : Launch) (D : va_G) (h0 Lv : Nat) (sd : Int64) (lf : Int32) (b st : Int32) : Met l y_PD_verdict (Cond.code y_PD_verdict b_PD_verdict 4 (some .int) :: gw) rm_PD_verdictR (cP D [.ref h0, .int b, .int st] (fun H => ob D 0 h0 [.long sd, .null, .ref Lv, .int lf] H)) (rV (.int (-13))) 0 0 (fun _ => False) := by
  refine mt_B (by decide) (Nat.le_of_ble_eq_true rfl) ?_
  intro p e s m below meth c ls ⟨hx, hb, hr, hlocks, hin, hml, hown, hg⟩ ⟨hk, hp⟩ hl
  have hown : s.vm.findClass R_PD = some m.cls := hown
  have hl : lv_has ls 4 [(0, .ref h0), (1, .int b), (2, .int st)] := hl
  refine lv_aload_n hx hb d_PD_verdict_0 rfl (lv_at hl 0 rfl) ?_
  refine x_get hx hb hg hown hk hp rfl i_PD 1 (by decide) w_50 rfl d_PD_verdict_1 ?_
  refine lv_ifnonnullN hx hb d_PD_verdict_4 ?_
  refine lv_bipush (v := -13) hx hb d_PD_verdict_7 (by decide) ?_
  exact e_i hx hb hr hlocks (rfl) d_PD_verdict_9
set_option maxHeartbeats 4000000 in
set_option maxRecDepth 100000 in
theorem c_PD_verdict_1 (l : Launch) (D : va_G) (t0 h0 d Lv n : Nat) (R : Nat → Prop) (sd ds : Int64) (dk lf : Int32) (hn0 : 0 < n) (hn : n ≤ 16) (b st : Int32) (hno : p_in b 1 (nI (2 ^ n - 1)) = 0) : Met l y_PD_verdict (Cond.code y_PD_verdict b_PD_verdict 4 (some .int) :: gw) rm_PD_verdictR (cP D [.ref h0, .int b, .int st] (fun H => ob D 0 h0 [.long sd, .ref d, .ref Lv, .int lf] H ∧ drw D t0 R d ds dk n H)) (rV (.int (-12))) 0 0 (fun _ => False) := by
  refine mt_B (by decide) (Nat.le_of_ble_eq_true rfl) ?_
  intro p e s m below meth c ls ⟨hx, hb, hr, hlocks, hin, hml, hown, hg⟩ ⟨hk, hp⟩ hl
  have hown : s.vm.findClass R_PD = some m.cls := hown
  have hl : lv_has ls 4 [(0, .ref h0), (1, .int b), (2, .int st)] := hl
  obtain ⟨ho, hdr⟩ := hp
  obtain ⟨L, arr, el, ⟨hd, ⟨mc, hL, hcase⟩, hpt⟩, hR1, hne, hR2⟩ := id hdr
  rcases hcase with hc0 | ⟨-, cap, f, haq, hnc, hc1, hc2, hf⟩
  · exact absurd hc0.1 hne
  refine lv_aload_n hx hb d_PD_verdict_0 rfl (lv_at hl 0 rfl) ?_
  refine x_get hx hb hg hown hk ho rfl i_PD 1 (by decide) w_50 rfl d_PD_verdict_1 ?_
  refine lv_ifnonnull (tgt := 10) hx hb d_PD_verdict_4 (by decide) ?_
  refine lv_iload_n hx hb d_PD_verdict_10 rfl (lv_at hl 1 rfl) ?_
  refine lv_iconst (v := 1) hx hb d_PD_verdict_11 (by decide) ?_
  refine lv_icmp_lt (tgt := 23) hx hb d_PD_verdict_12 (by decide) (fun c1 => ?_) (fun c1 => ?_)
  · refine lv_bipush (v := -12) hx hb d_PD_verdict_23 (by decide) ?_
    exact e_i hx hb hr hlocks (rfl) d_PD_verdict_25
  · refine lv_iload_n hx hb d_PD_verdict_15 rfl (lv_at hl 1 rfl) ?_
    refine lv_aload_n hx hb d_PD_verdict_16 rfl (lv_at hl 0 rfl) ?_
    refine k_V hx hb hml hown hg hk h0 [] [.int b] (c_PD_all l D t0 h0 d Lv n R sd ds dk lf hn0 hn) z_PD_all w_208 w_210 s_PD_all (rc_ob hk ho rfl) (⟨ho, hdr⟩) d_PD_verdict_17 rfl rfl ⟨Nat.le_of_ble_eq_true rfl, Nat.le_of_ble_eq_true rfl⟩ rfl hl.1 rfl (Nat.le_of_ble_eq_true rfl) ⟨Nat.zero_le _, Nat.zero_le _⟩ ?_
    refine lv_icmp_le (tgt := 26) hx hb d_PD_verdict_20 (by decide) (fun c2 => absurd ⟨Int32.not_lt.mp c1, c2⟩ (p_in_0 hno)) (fun c2 => ?_)
    refine lv_bipush (v := -12) hx hb d_PD_verdict_23 (by decide) ?_
    exact e_i hx hb hr hlocks (rfl) d_PD_verdict_25
set_option maxHeartbeats 4000000 in
set_option maxRecDepth 100000 in
theorem c_PD_verdict_2 (l : Launch) (D : va_G) (t0 h0 d Lv n : Nat) (R : Nat → Prop) (sd ds : Int64) (dk : Int32) (lf : Nat) (hn0 : 0 < n) (hn : n ≤ 16) (av nv : Nat) (ev : Nat → Nat) (vb vt : Nat → Int32) (hnv : nv ≤ 100) (hdis : ∀ i j, i < nv → j < nv → vb i = vb j → i = j) (ht : ∀ i, i < nv → vt i = 0 ∨ vt i = 1) (b st : Int32) (hyes : ¬ p_in b 1 (nI (2 ^ n - 1)) = 0) (hat : p_at vb b nv = none) (h100 : nv = 100) : Met l y_PD_verdict (Cond.code y_PD_verdict b_PD_verdict 4 (some .int) :: gw) rm_PD_verdictR (cP D [.ref h0, .int b, .int st] (fun H => ob D 0 h0 [.long sd, .ref d, .ref Lv, .int (nI lf)] H ∧ drw D t0 R d ds dk n H ∧ vq D t0 Lv av nv ev vb vt H)) (rV (.int (-14))) 0 0 (fun _ => False) := by
  refine mt_B (by decide) (Nat.le_of_ble_eq_true rfl) ?_
  intro p e s m below meth c ls ⟨hx, hb, hr, hlocks, hin, hml, hown, hg⟩ ⟨hk, hp⟩ hl
  have hown : s.vm.findClass R_PD = some m.cls := hown
  have hl : lv_has ls 4 [(0, .ref h0), (1, .int b), (2, .int st)] := hl
  obtain ⟨ho, hdr, hv⟩ := hp
  obtain ⟨L, arr, el, ⟨hd, ⟨mc, hL, hcase⟩, hpt⟩, hR1, hne, hR2⟩ := id hdr
  rcases hcase with hc0 | ⟨-, cap, f, haq, hnc, hc1, hc2, hf⟩
  · exact absurd hc0.1 hne
  refine lv_aload_n hx hb d_PD_verdict_0 rfl (lv_at hl 0 rfl) ?_
  refine x_get hx hb hg hown hk ho rfl i_PD 1 (by decide) w_50 rfl d_PD_verdict_1 ?_
  refine lv_ifnonnull (tgt := 10) hx hb d_PD_verdict_4 (by decide) ?_
  refine lv_iload_n hx hb d_PD_verdict_10 rfl (lv_at hl 1 rfl) ?_
  refine lv_iconst (v := 1) hx hb d_PD_verdict_11 (by decide) ?_
  refine lv_icmp_lt (tgt := 23) hx hb d_PD_verdict_12 (by decide) (fun c1 => absurd c1 (Int32.not_lt.mpr (p_in_1 hyes).1)) (fun c1 => ?_)
  refine lv_iload_n hx hb d_PD_verdict_15 rfl (lv_at hl 1 rfl) ?_
  refine lv_aload_n hx hb d_PD_verdict_16 rfl (lv_at hl 0 rfl) ?_
  refine k_V hx hb hml hown hg hk h0 [] [.int b] (c_PD_all l D t0 h0 d Lv n (R) sd ds dk (nI lf) hn0 hn) z_PD_all w_208 w_210 s_PD_all (rc_ob hk ho rfl) (⟨ho, hdr⟩) d_PD_verdict_17 rfl rfl ⟨Nat.le_of_ble_eq_true rfl, Nat.le_of_ble_eq_true rfl⟩ rfl hl.1 rfl (Nat.le_of_ble_eq_true rfl) ⟨Nat.zero_le _, Nat.zero_le _⟩ ?_
  refine lv_icmp_le (tgt := 26) hx hb d_PD_verdict_20 (by decide) (fun c2 => ?_) (fun c2 => absurd (p_in_1 hyes).2 c2)
  refine lv_aload_n hx hb d_PD_verdict_26 rfl (lv_at hl 0 rfl) ?_
  refine lv_iload_n hx hb d_PD_verdict_27 rfl (lv_at hl 1 rfl) ?_
  refine k_V hx hb hml hown hg hk h0 [.int b] [] (c_PD_told l D t0 h0 Lv av nv ev vb vt sd (.ref d) (nI lf) hnv hdis b) z_PD_told w_244 w_246 s_PD_told (rc_ob hk ho rfl) (⟨ho, hv⟩) d_PD_verdict_28 rfl rfl ⟨Nat.le_of_ble_eq_true rfl, Nat.le_of_ble_eq_true rfl⟩ rfl hl.1 rfl (Nat.le_of_ble_eq_true rfl) ⟨Nat.zero_le _, Nat.zero_le _⟩ ?_
  rw [hat]
  obtain ⟨mcv, hLv, -⟩ := id hv.1
  refine lv_astore_nN (lv' := [(3, .null), (0, .ref h0), (1, .int b), (2, .int st)]) hx hb d_PD_verdict_31 rfl hl (by decide) rfl (fun ls hl => ?_)
  refine lv_aload_nN hx hb d_PD_verdict_32 rfl (lv_at hl 0 rfl) ?_
  refine lv_ifnonnullN hx hb d_PD_verdict_33 ?_
  refine lv_aload_n hx hb d_PD_verdict_36 rfl (lv_at hl 1 rfl) ?_
  refine x_get hx hb hg hown hk ho rfl i_PD 2 (by decide) w_51 rfl d_PD_verdict_37 ?_
  refine k_V hx hb hml hown hg hk Lv [] [] (c_AL_size l D Lv av (nI nv) mcv) z_AL_size w_212 w_165 w_166 (rc_ob hk (hLv) rfl) (hLv) d_PD_verdict_40 rfl rfl ⟨Nat.le_of_ble_eq_true rfl, Nat.le_of_ble_eq_true rfl⟩ rfl hl.1 rfl (Nat.le_of_ble_eq_true rfl) ⟨Nat.zero_le _, Nat.zero_le _⟩ ?_
  refine lv_bipush (v := 100) hx hb d_PD_verdict_43 (by decide) ?_
  refine lv_icmp_ne (tgt := 51) hx hb d_PD_verdict_45 (by decide) (fun c3 => absurd (show nI nv = 100 by rw [h100]; rfl) c3) (fun c3 => ?_)
  refine lv_bipush (v := -14) hx hb d_PD_verdict_48 (by decide) ?_
  exact e_i hx hb hr hlocks (rfl) d_PD_verdict_50
set_option maxHeartbeats 4000000 in
set_option maxRecDepth 100000 in
theorem c_PD_verdict_3 (l : Launch) (D : va_G) (t0 h0 sz : Nat) (RX : Nat → Prop) (sd ds : Int64) (dk : Int32) (n lf nv : Nat) (vb vt : Nat → Int32) (hn0 : 0 < n) (hn : n ≤ 16) (hnv : nv ≤ 100) (hdis : ∀ i j, i < nv → j < nv → vb i = vb j → i = j) (b st : Int32) (hst : st = 0 ∨ st = 1) (hyes : ¬ p_in b 1 (nI (2 ^ n - 1)) = 0) (hat : p_at vb b nv = none) (h100 : nv < 100) : Met l y_PD_verdict (Cond.code y_PD_verdict b_PD_verdict 4 (some .int) :: gw) rm_PD_verdict (cZ D t0 (xA RX sz) [.ref h0, .int b, .int st] (fun H => H.size = sz ∧ px D t0 RX h0 sd (some (ds, dk, n)) lf nv vb vt H)) (mV (xA RX sz) (fun v H => v = some (.int (nI (nv + 1))) ∧ px D t0 (xA RX sz) h0 sd (some (ds, dk, n)) lf (nv + 1) (upd vb nv b) (upd vt nv st) H)) 2 152 (xA RX sz) := by
  refine mt_B (by decide) (Nat.le_of_ble_eq_true rfl) ?_
  intro p e s m below meth c ls ⟨hx, hb, hr, hlocks, hin, hml, hown, hg⟩ ⟨hk, hz, hp⟩ hl
  have hown : s.vm.findClass R_PD = some m.cls := hown
  have hS : va_S (xA RX sz) s.heap s.heap [] := va_S.rf
  have hl : lv_has ls 4 [(0, .ref h0), (1, .int b), (2, .int st)] := hl
  obtain ⟨hsz, Lv, av, ev, dv, ho, hR0, hv, hRL, hRa, hRe, hinj, hdp⟩ := hp
  obtain ⟨d, rfl, hRd, hdr⟩ := hdp
  have ho : ob D 0 h0 [.long sd, .ref d, .ref Lv, .int (nI lf)] s.heap := ho
  obtain ⟨mcv, hLv, -⟩ := id hv.1
  have hol := ob_lt ho
  refine lv_aload_n hx hb d_PD_verdict_0 rfl (lv_at hl 0 rfl) ?_
  refine x_get hx hb hg hown hk ho rfl i_PD 1 (by decide) w_50 rfl d_PD_verdict_1 ?_
  refine lv_ifnonnull (tgt := 10) hx hb d_PD_verdict_4 (by decide) ?_
  have hdt0 : ¬ d = t0 := fun e9 => by obtain ⟨L, arr, el, ⟨g1, -⟩, -⟩ := id hdr; exact t0_not hk hz (e9 ▸ kd_ob g1) (by decide) (by decide)
  refine lv_iload_n hx hb d_PD_verdict_10 rfl (lv_at hl 1 rfl) ?_
  refine lv_iconst (v := 1) hx hb d_PD_verdict_11 (by decide) ?_
  refine lv_icmp_lt (tgt := 23) hx hb d_PD_verdict_12 (by decide) (fun c1 => absurd c1 (Int32.not_lt.mpr (p_in_1 hyes).1)) (fun c1 => ?_)
  refine lv_iload_n hx hb d_PD_verdict_15 rfl (lv_at hl 1 rfl) ?_
  refine lv_aload_n hx hb d_PD_verdict_16 rfl (lv_at hl 0 rfl) ?_
  refine k_V hx hb hml hown hg hk h0 [] [.int b] (c_PD_all l D t0 h0 d Lv n (fun x => RX x ∧ ¬ x = Lv ∧ ¬ x = av) sd ds dk (nI lf) hn0 hn) z_PD_all w_208 w_210 s_PD_all (rc_ob hk ho rfl) (⟨ho, hdr⟩) d_PD_verdict_17 rfl rfl ⟨Nat.le_of_ble_eq_true rfl, Nat.le_of_ble_eq_true rfl⟩ rfl hl.1 rfl (Nat.le_of_ble_eq_true rfl) ⟨Nat.zero_le _, Nat.zero_le _⟩ ?_
  refine lv_icmp_le (tgt := 26) hx hb d_PD_verdict_20 (by decide) (fun c2 => ?_) (fun c2 => absurd (p_in_1 hyes).2 c2)
  refine lv_aload_n hx hb d_PD_verdict_26 rfl (lv_at hl 0 rfl) ?_
  refine lv_iload_n hx hb d_PD_verdict_27 rfl (lv_at hl 1 rfl) ?_
  refine k_V hx hb hml hown hg hk h0 [.int b] [] (c_PD_told l D t0 h0 Lv av nv ev vb vt sd (.ref d) (nI lf) hnv hdis b) z_PD_told w_244 w_246 s_PD_told (rc_ob hk ho rfl) (⟨ho, hv⟩) d_PD_verdict_28 rfl rfl ⟨Nat.le_of_ble_eq_true rfl, Nat.le_of_ble_eq_true rfl⟩ rfl hl.1 rfl (Nat.le_of_ble_eq_true rfl) ⟨Nat.zero_le _, Nat.zero_le _⟩ ?_
  rw [hat]
  refine lv_astore_nN (lv' := [(3, .null), (0, .ref h0), (1, .int b), (2, .int st)]) hx hb d_PD_verdict_31 rfl hl (by decide) rfl (fun ls hl => ?_)
  refine lv_aload_nN hx hb d_PD_verdict_32 rfl (lv_at hl 0 rfl) ?_
  refine lv_ifnonnullN hx hb d_PD_verdict_33 ?_
  refine lv_aload_n hx hb d_PD_verdict_36 rfl (lv_at hl 1 rfl) ?_
  refine x_get hx hb hg hown hk ho rfl i_PD 2 (by decide) w_51 rfl d_PD_verdict_37 ?_
  refine k_V hx hb hml hown hg hk Lv [] [] (c_AL_size l D Lv av (nI nv) mcv) z_AL_size w_212 w_165 w_166 (rc_ob hk (hLv) rfl) (hLv) d_PD_verdict_40 rfl rfl ⟨Nat.le_of_ble_eq_true rfl, Nat.le_of_ble_eq_true rfl⟩ rfl hl.1 rfl (Nat.le_of_ble_eq_true rfl) ⟨Nat.zero_le _, Nat.zero_le _⟩ ?_
  refine lv_bipush (v := 100) hx hb d_PD_verdict_43 (by decide) ?_
  refine lv_icmp_ne (tgt := 51) hx hb d_PD_verdict_45 (by decide) (fun c3 => ?_) (fun c3 => absurd ((nI_eq (b := 100) (by omega) (by decide)).mp c3) (by omega))
  have ht0 := zz_lt hz
  refine x_new hx hb hg hown hk hS 3 rfl i_VD T_VD k_VD w_248 w_249 w_14 (fs := [.int 0, .int 0]) (fun q hq => by rcases (show q = 0 ∨ q = 1 by omega) with rfl | rfl <;> rfl) (Nat.le_of_ble_eq_true rfl) (Nat.le_of_ble_eq_true rfl) d_PD_verdict_51 (fun H1 hnw hz1 ho1 hS => ?_)
  refine lv_dup hx hb d_PD_verdict_54 rfl ?_
  refine lv_iload_n hx hb d_PD_verdict_55 rfl (lv_at hl 2 rfl) ?_
  refine m_I hx hb hml hown hg s.heap.size [.int b] [.ref s.heap.size] (c_VD_init l D s.heap.size b) z_VD_init w_250 w_251 rfl (pre_P hk hnw) d_PD_verdict_56 rfl rfl ⟨Nat.le_of_ble_eq_true rfl, Nat.le_of_ble_eq_true rfl⟩ rfl hl.1 rfl (Nat.le_of_ble_eq_true rfl) ⟨Nat.le_of_ble_eq_true rfl, Nat.le_of_ble_eq_true rfl⟩ hS (fun q h => Or.inr (by omega)) (fun v H2 locs2 hp1 hz2 hk1 hS => ?_)
  obtain ⟨rfl, hnw⟩ := hp1
  have hold : ∀ q, q < s.heap.size → H2[q]? = s.heap[q]? := fun q hq => (hk1 q (by omega) (by omega)).trans (ho1 q hq)
  have ho2 : ob D 0 h0 [.long sd, .ref d, .ref Lv, .int (nI lf)] H2 := va_at.kept ho (hold _ hol)
  have hv2 : vq D t0 Lv av nv ev vb vt H2 := vq_kept hv (hold _ (ob_lt hLv)) (fun q => hold _ (kd_lt ((al_kd hv.1).2 q))) (fun i hi => hold _ (ob_lt (hv.2 i hi)))
  show W p l e rm_PD_verdict s m _ below meth c H2 locs2 (0 + 1 + 0) (0 + 2 + 0) _ (F0 m 59 ls [.ref s.heap.size])
  refine lv_astore_n (lv' := [(3, .ref s.heap.size), (0, .ref h0), (1, .int b), (2, .int st)]) hx hb d_PD_verdict_59 rfl hl (by decide) rfl (fun ls hl => ?_)
  refine lv_aload_n hx hb d_PD_verdict_60 rfl (lv_at hl 1 rfl) ?_
  refine x_get hx hb hg hown hk ho2 rfl i_PD 2 (by decide) w_51 rfl d_PD_verdict_61 ?_
  refine lv_aload_n hx hb d_PD_verdict_64 rfl (lv_at hl 0 rfl) ?_
  have hnl := ob_lt hnw
  have hz9 : s.heap.size ≤ H2.size := by omega
  refine m_V hx hb hml hown hg Lv [.ref s.heap.size] [] (c_AL_add l D Lv av t0 nv s.heap.size H2.size ev (by omega)) z_AL_add w_262 w_108 w_109 (by obtain ⟨mc9, g9, -⟩ := hv2.1; exact rc_ob hk g9 rfl) (pre_Z hk (hz.at hS (fun x h => by rcases h with h | h | h; exact Or.inl (by rw [h]; exact hRL); exact Or.inl (by rw [h.1]; exact hRa h.2); exact Or.inr (by omega))) ⟨rfl, hv2.1, fun i hi => ⟨3, _, Or.inr rfl, hv2.2 i hi⟩, ⟨3, _, Or.inr rfl, hnw⟩⟩) d_PD_verdict_65 rfl rfl ⟨Nat.le_of_ble_eq_true rfl, Nat.le_of_ble_eq_true rfl⟩ rfl hl.1 rfl (Nat.le_of_ble_eq_true rfl) ⟨Nat.le_of_ble_eq_true rfl, Nat.le_of_ble_eq_true rfl⟩ hS (fun x h => by rcases h with h | h | h; exact Or.inl (by rw [h]; exact hRL); exact Or.inl (by rw [h.1]; exact hRa h.2); exact Or.inr (by omega)) (fun v H3 locs3 hp1 hz3 hk3 hS => ?_)
  obtain ⟨rfl, av3, ha1, ha2, hal3⟩ := hp1
  have hkeep : ∀ (x i : Nat), kd D H2 x i → i < 9 → i ≠ 4 → i ≠ 6 → H3[x]? = H2[x]? := fun x i g1 g2 g3 g4 => hk3 x (kd_lt g1) (al_out hk hv2.1 g1 g2 g3 g4 (Nat.le_refl _))
  have hnw3 : ob D 3 s.heap.size [.int b, .int 0] H3 := va_at.kept hnw (hkeep _ _ (kd_ob hnw) (by decide) (by decide) (by decide))
  show W p l e rm_PD_verdict s m _ below meth c H3 locs3 2 152 _ (F0 m 68 ls [.int 1])
  refine lv_pop hx hb d_PD_verdict_68 rfl ?_
  refine lv_aload_n hx hb d_PD_verdict_69 rfl (lv_at hl 0 rfl) ?_
  refine lv_iload_n hx hb d_PD_verdict_70 rfl (lv_at hl 3 rfl) ?_
  refine x_putN hx hb hg hown hk hnw3 hS (Or.inr (by omega)) rfl i_VD T_VD k_VD n_VD 1 (by decide) 9 rfl rfl (by decide +kernel) (ty := .boolean) (by rcases hst with h | h <;> rw [h] <;> rfl) (by rcases hst with h | h <;> rw [h] <;> rfl) (Nat.le_of_ble_eq_true rfl) d_PD_verdict_71 (fun H4 locs4 hnw4 hz4 hn4 hS => ?_)
  have hnw4 : ob D 3 s.heap.size [.int b, .int st] H4 := hnw4
  have hk4 : ∀ (x i : Nat), x < s.heap.size → kd D H2 x i → i < 9 → i ≠ 4 → i ≠ 6 → H4[x]? = H2[x]? := fun x i g0 g1 g2 g3 g4 => (hn4 x (by omega)).trans (hkeep x i g1 g2 g3 g4)
  have ho4 : ob D 0 h0 [.long sd, .ref d, .ref Lv, .int (nI lf)] H4 := va_at.kept ho2 (hk4 _ _ hol (kd_ob ho2) (by decide) (by decide) (by decide))
  have hal4 : al D t0 Lv av3 (nv + 1) (va_up ev nv s.heap.size) H4 := al_kept hal3 (hn4 _ (kd_ne hk (al_kd hal3).1 (kd_ob hnw3) (by decide) (by decide) (by decide))) (fun q => hn4 _ (kd_ne hk ((al_kd hal3).2 q) (kd_ob hnw3) (by decide) (by decide) (by decide)))
  have hfin : ∀ q, q < s.heap.size → ¬ q = Lv → ¬ q = av → H4[q]? = s.heap[q]? := fun q g1 g2 g3 => ((hn4 q (by omega)).trans (hk3 q (by omega) (fun h => by rcases h with h | h | h; exact g2 h; exact g3 h.1; omega))).trans (hold q g1)
  have hdr4 : drw D t0 (fun x => xA RX sz x ∧ ¬ x = Lv ∧ ¬ x = av3) d ds dk n H4 := by
    have h9 := drw_mono (R2 := fun x => x < s.heap.size ∧ (RX x ∧ ¬ x = Lv ∧ ¬ x = av)) hdr (fun q hq g => ⟨hq, g⟩)
    have hdd : ob D 1 d [.long ds, .int dk, .ref (Classical.choose hdr)] s.heap := (Classical.choose_spec hdr).choose_spec.choose_spec.1.1
    have hdav : ¬ d = av := by
      intro e9
      by_cases g : av = t0
      · exact hdt0 (e9.trans g)
      · exact kd_ne hk (kd_ob hdd) ((al_kd hv.1).2 g) (by decide) (by decide) (by decide) e9
    have h10 := drw_kept h9 (hfin d (ob_lt hdd) (kd_ne hk (kd_ob hdd) (kd_ob hLv) (by decide) (by decide) (by decide)) hdav) (fun q _ g => hfin q g.1 g.2.2.1 g.2.2.2)
    exact drw_mono h10 (fun q _ g => ⟨Or.inl g.2.1, g.2.2.1, fun e9 => by rcases ha1 with ha1 | ha1; exact g.2.2.2 (e9.trans ha1); omega⟩)
  obtain ⟨mc4, hLv4, -⟩ := id hal4
  refine lv_aload_n hx hb d_PD_verdict_74 rfl (lv_at hl 1 rfl) ?_
  refine x_get hx hb hg hown hk ho4 rfl i_PD 2 (by decide) w_51 rfl d_PD_verdict_75 ?_
  refine k_V hx hb hml hown hg hk Lv [] [] (c_AL_size l D Lv av3 (nI (nv + 1)) mc4) z_AL_size w_212 w_165 w_166 (rc_ob hk (hLv4) rfl) (hLv4) d_PD_verdict_78 rfl rfl ⟨Nat.le_of_ble_eq_true rfl, Nat.le_of_ble_eq_true rfl⟩ rfl hl.1 rfl (Nat.le_of_ble_eq_true rfl) ⟨Nat.le_of_ble_eq_true rfl, Nat.le_of_ble_eq_true rfl⟩ ?_
  refine f_i hx hb hr hlocks hS ⟨rfl, Lv, av3, va_up ev nv s.heap.size, some d, ho4, Or.inl hR0, ⟨hal4, fun i hi => ?_⟩, Or.inl hRL, fun q => by rcases ha1 with ha1 | ha1; exact Or.inl (by rw [ha1]; exact hRa (by rw [← ha1]; exact q)); exact Or.inr (by omega), fun i hi => ?_, fun i i2 hi hi2 e9 => ?_, d, rfl, Or.inl hRd, hdr4⟩ d_PD_verdict_81
  · by_cases hiq : i = nv
    · subst hiq; rw [va_up_self, pk_us, pk_us]; exact hnw4
    · rw [va_up_ne _ _ hiq, pk_un hiq, pk_un hiq]; have h9 := hv2.2 i (by omega); exact va_at.kept h9 (hk4 _ _ (ob_lt (hv.2 i (by omega))) (kd_ob h9) (by decide) (by decide) (by decide))
  · by_cases hiq : i = nv
    · subst hiq; rw [va_up_self]; exact Or.inr (by omega)
    · rw [va_up_ne _ _ hiq]; exact Or.inl (hRe i (by omega))
  · have hold2 : ∀ i, i < nv → ev i < s.heap.size := fun i hi => ob_lt (hv.2 i hi)
    by_cases h1 : i = nv <;> by_cases h2 : i2 = nv
    · omega
    · subst h1; rw [va_up_self, va_up_ne _ _ h2] at e9; have := hold2 i2 (by omega); omega
    · subst h2; rw [va_up_self, va_up_ne _ _ h1] at e9; have := hold2 i (by omega); omega
    · rw [va_up_ne _ _ h1, va_up_ne _ _ h2] at e9; exact hinj i i2 (by omega) (by omega) e9
set_option maxHeartbeats 4000000 in
set_option maxRecDepth 100000 in
theorem c_PD_verdict_4 (l : Launch) (D : va_G) (t0 h0 sz : Nat) (RX : Nat → Prop) (sd ds : Int64) (dk : Int32) (n lf nv : Nat) (vb vt : Nat → Int32) (hn0 : 0 < n) (hn : n ≤ 16) (hnv : nv ≤ 100) (hdis : ∀ i j, i < nv → j < nv → vb i = vb j → i = j) (b st : Int32) (hst : st = 0 ∨ st = 1) (hyes : ¬ p_in b 1 (nI (2 ^ n - 1)) = 0) (k : Nat) (hat : p_at vb b nv = some k) : Met l y_PD_verdict (Cond.code y_PD_verdict b_PD_verdict 4 (some .int) :: gw) rm_PD_verdict (cP D [.ref h0, .int b, .int st] (fun H => H.size = sz ∧ px D t0 RX h0 sd (some (ds, dk, n)) lf nv vb vt H)) (mV (xA RX sz) (fun v H => v = some (.int (nI nv)) ∧ px D t0 (xA RX sz) h0 sd (some (ds, dk, n)) lf nv (upd vb k b) (upd vt k st) H)) 2 152 (xA RX sz) := by
  refine mt_B (by decide) (Nat.le_of_ble_eq_true rfl) ?_
  intro p e s m below meth c ls ⟨hx, hb, hr, hlocks, hin, hml, hown, hg⟩ ⟨hk, hp⟩ hl
  have hown : s.vm.findClass R_PD = some m.cls := hown
  have hS : va_S (xA RX sz) s.heap s.heap [] := va_S.rf
  have hl : lv_has ls 4 [(0, .ref h0), (1, .int b), (2, .int st)] := hl
  obtain ⟨hsz, Lv, av, ev, dv, ho, hR0, hv, hRL, hRa, hRe, hinj, hdp⟩ := hp
  obtain ⟨d, rfl, hRd, hdr⟩ := hdp
  have ho : ob D 0 h0 [.long sd, .ref d, .ref Lv, .int (nI lf)] s.heap := ho
  obtain ⟨mcv, hLv, -⟩ := id hv.1
  have hol := ob_lt ho
  refine lv_aload_n hx hb d_PD_verdict_0 rfl (lv_at hl 0 rfl) ?_
  refine x_get hx hb hg hown hk ho rfl i_PD 1 (by decide) w_50 rfl d_PD_verdict_1 ?_
  refine lv_ifnonnull (tgt := 10) hx hb d_PD_verdict_4 (by decide) ?_
  refine lv_iload_n hx hb d_PD_verdict_10 rfl (lv_at hl 1 rfl) ?_
  refine lv_iconst (v := 1) hx hb d_PD_verdict_11 (by decide) ?_
  refine lv_icmp_lt (tgt := 23) hx hb d_PD_verdict_12 (by decide) (fun c1 => absurd c1 (Int32.not_lt.mpr (p_in_1 hyes).1)) (fun c1 => ?_)
  refine lv_iload_n hx hb d_PD_verdict_15 rfl (lv_at hl 1 rfl) ?_
  refine lv_aload_n hx hb d_PD_verdict_16 rfl (lv_at hl 0 rfl) ?_
  refine k_V hx hb hml hown hg hk h0 [] [.int b] (c_PD_all l D t0 h0 d Lv n (fun x => RX x ∧ ¬ x = Lv ∧ ¬ x = av) sd ds dk (nI lf) hn0 hn) z_PD_all w_208 w_210 s_PD_all (rc_ob hk ho rfl) (⟨ho, hdr⟩) d_PD_verdict_17 rfl rfl ⟨Nat.le_of_ble_eq_true rfl, Nat.le_of_ble_eq_true rfl⟩ rfl hl.1 rfl (Nat.le_of_ble_eq_true rfl) ⟨Nat.zero_le _, Nat.zero_le _⟩ ?_
  refine lv_icmp_le (tgt := 26) hx hb d_PD_verdict_20 (by decide) (fun c2 => ?_) (fun c2 => absurd (p_in_1 hyes).2 c2)
  refine lv_aload_n hx hb d_PD_verdict_26 rfl (lv_at hl 0 rfl) ?_
  refine lv_iload_n hx hb d_PD_verdict_27 rfl (lv_at hl 1 rfl) ?_
  have hkv := p_at_lt hat
  refine k_V hx hb hml hown hg hk h0 [.int b] [] (c_PD_told l D t0 h0 Lv av nv ev vb vt sd (.ref d) (nI lf) hnv hdis b) z_PD_told w_244 w_246 s_PD_told (rc_ob hk ho rfl) (⟨ho, hv⟩) d_PD_verdict_28 rfl rfl ⟨Nat.le_of_ble_eq_true rfl, Nat.le_of_ble_eq_true rfl⟩ rfl hl.1 rfl (Nat.le_of_ble_eq_true rfl) ⟨Nat.zero_le _, Nat.zero_le _⟩ ?_
  rw [hat]
  show W p l e rm_PD_verdict s m _ below meth c s.heap [] 0 0 _ (F0 m 31 ls [.ref (ev k)])
  refine lv_astore_n (lv' := [(3, .ref (ev k)), (0, .ref h0), (1, .int b), (2, .int st)]) hx hb d_PD_verdict_31 rfl hl (by decide) rfl (fun ls hl => ?_)
  refine lv_aload_n hx hb d_PD_verdict_32 rfl (lv_at hl 0 rfl) ?_
  refine lv_ifnonnull (tgt := 69) hx hb d_PD_verdict_33 (by decide) ?_
  refine lv_aload_n hx hb d_PD_verdict_69 rfl (lv_at hl 0 rfl) ?_
  refine lv_iload_n hx hb d_PD_verdict_70 rfl (lv_at hl 3 rfl) ?_
  refine x_putN hx hb hg hown hk (hv.2 k hkv.1) hS (Or.inl (hRe k hkv.1)) rfl i_VD T_VD k_VD n_VD 1 (by decide) 9 rfl rfl (by decide +kernel) (ty := .boolean) (by rcases hst with h | h <;> rw [h] <;> rfl) (by rcases hst with h | h <;> rw [h] <;> rfl) (Nat.le_of_ble_eq_true rfl) d_PD_verdict_71 (fun H4 locs4 hnw4 hz4 hn4 hS => ?_)
  have hnw4 : ob D 3 (ev k) [.int (vb k), .int st] H4 := hnw4
  have hkx := kd_ob (hv.2 k hkv.1)
  have ho4 : ob D 0 h0 [.long sd, .ref d, .ref Lv, .int (nI lf)] H4 := va_at.kept ho (hn4 _ (kd_ne hk (kd_ob ho) hkx (by decide) (by decide) (by decide)))
  have hal4 : al D t0 Lv av nv ev H4 := al_kept hv.1 (hn4 _ (kd_ne hk (al_kd hv.1).1 hkx (by decide) (by decide) (by decide))) (fun q => hn4 _ (kd_ne hk ((al_kd hv.1).2 q) hkx (by decide) (by decide) (by decide)))
  have hdr4 : drw D t0 (fun x => RX x ∧ ¬ x = Lv ∧ ¬ x = av) d ds dk n H4 := by
    obtain ⟨L, arr, el, ⟨g1, g2, g3⟩, g4⟩ := hdr
    exact ⟨L, arr, el, ⟨va_at.kept g1 (hn4 _ (kd_ne hk (kd_ob g1) hkx (by decide) (by decide) (by decide))), al_kept g2 (hn4 _ (kd_ne hk (al_kd g2).1 hkx (by decide) (by decide) (by decide))) (fun q => hn4 _ (kd_ne hk ((al_kd g2).2 q) hkx (by decide) (by decide) (by decide))), fun i hi => va_at.kept (g3 i hi) (hn4 _ (kd_ne hk (kd_ob (g3 i hi)) hkx (by decide) (by decide) (by decide)))⟩, g4⟩
  refine W.widen (k := 2) (n := 152) (Nat.le_of_ble_eq_true rfl) (Nat.le_of_ble_eq_true rfl) ?_
  obtain ⟨mc4, hLv4, -⟩ := id hal4
  refine lv_aload_n hx hb d_PD_verdict_74 rfl (lv_at hl 1 rfl) ?_
  refine x_get hx hb hg hown hk ho4 rfl i_PD 2 (by decide) w_51 rfl d_PD_verdict_75 ?_
  refine k_V hx hb hml hown hg hk Lv [] [] (c_AL_size l D Lv av (nI nv) mc4) z_AL_size w_212 w_165 w_166 (rc_ob hk (hLv4) rfl) (hLv4) d_PD_verdict_78 rfl rfl ⟨Nat.le_of_ble_eq_true rfl, Nat.le_of_ble_eq_true rfl⟩ rfl hl.1 rfl (Nat.le_of_ble_eq_true rfl) ⟨Nat.le_of_ble_eq_true rfl, Nat.le_of_ble_eq_true rfl⟩ ?_
  refine f_i hx hb hr hlocks hS ⟨rfl, px_mono (RX := RX) ⟨Lv, av, ev, some d, ho4, hR0, ⟨hal4, fun i hi => ?_⟩, hRL, hRa, hRe, hinj, d, rfl, hRd, hdr4⟩ (fun q h => Or.inl h)⟩ d_PD_verdict_81
  by_cases hiq : i = k
  · subst hiq; rw [pk_us, pk_us, ← hkv.2]; exact hnw4
  · rw [pk_un hiq, pk_un hiq]; exact va_at.kept (hv.2 i hi) (hn4 _ (fun e9 => hiq (hinj i k hi hkv.1 e9)))
theorem d_PD_shorter_0 : decode b_PD_shorter 0 = .ok (.aload_n 0, 1) := by decide +kernel
theorem d_PD_shorter_1 : decode b_PD_shorter 1 = .ok (.getfield 34, 3) := by decide +kernel
theorem d_PD_shorter_4 : decode b_PD_shorter 4 = .ok (.ifnonnull 6, 3) := by decide +kernel
theorem d_PD_shorter_7 : decode b_PD_shorter 7 = .ok (.bipush (-13), 2) := by decide +kernel
theorem d_PD_shorter_9 : decode b_PD_shorter 9 = .ok (.ireturn, 1) := by decide +kernel
theorem d_PD_shorter_10 : decode b_PD_shorter 10 = .ok (.aload_n 0, 1) := by decide +kernel
theorem d_PD_shorter_11 : decode b_PD_shorter 11 = .ok (.aload_n 0, 1) := by decide +kernel
theorem d_PD_shorter_12 : decode b_PD_shorter 12 = .ok (.invokevirtual 57, 3) := by decide +kernel
theorem d_PD_shorter_15 : decode b_PD_shorter 15 = .ok (.putfield 60, 3) := by decide +kernel
theorem d_PD_shorter_18 : decode b_PD_shorter 18 = .ok (.aload_n 0, 1) := by decide +kernel
theorem d_PD_shorter_19 : decode b_PD_shorter 19 = .ok (.aload_n 0, 1) := by decide +kernel
theorem d_PD_shorter_20 : decode b_PD_shorter 20 = .ok (.getfield 60, 3) := by decide +kernel
theorem d_PD_shorter_23 : decode b_PD_shorter 23 = .ok (.invokevirtual 113, 3) := by decide +kernel
theorem d_PD_shorter_26 : decode b_PD_shorter 26 = .ok (.ifCond .eq 33, 3) := by decide +kernel
theorem d_PD_shorter_29 : decode b_PD_shorter 29 = .ok (.iconst 0, 1) := by decide +kernel
theorem d_PD_shorter_30 : decode b_PD_shorter 30 = .ok (.istore_n 1, 1) := by decide +kernel
theorem d_PD_shorter_31 : decode b_PD_shorter 31 = .ok (.iload_n 1, 1) := by decide +kernel
theorem d_PD_shorter_32 : decode b_PD_shorter 32 = .ok (.aload_n 0, 1) := by decide +kernel
theorem d_PD_shorter_33 : decode b_PD_shorter 33 = .ok (.getfield 60, 3) := by decide +kernel
theorem d_PD_shorter_36 : decode b_PD_shorter 36 = .ok (.if_icmp .eq 23, 3) := by decide +kernel
theorem d_PD_shorter_39 : decode b_PD_shorter 39 = .ok (.aload_n 0, 1) := by decide +kernel
theorem d_PD_shorter_40 : decode b_PD_shorter 40 = .ok (.getfield 60, 3) := by decide +kernel
theorem d_PD_shorter_43 : decode b_PD_shorter 43 = .ok (.istore_n 1, 1) := by decide +kernel
theorem d_PD_shorter_44 : decode b_PD_shorter 44 = .ok (.aload_n 0, 1) := by decide +kernel
theorem d_PD_shorter_45 : decode b_PD_shorter 45 = .ok (.aload_n 0, 1) := by decide +kernel
theorem d_PD_shorter_46 : decode b_PD_shorter 46 = .ok (.aload_n 0, 1) := by decide +kernel
theorem d_PD_shorter_47 : decode b_PD_shorter 47 = .ok (.getfield 60, 3) := by decide +kernel
theorem d_PD_shorter_50 : decode b_PD_shorter 50 = .ok (.invokevirtual 115, 3) := by decide +kernel
theorem d_PD_shorter_53 : decode b_PD_shorter 53 = .ok (.putfield 60, 3) := by decide +kernel
theorem d_PD_shorter_56 : decode b_PD_shorter 56 = .ok (.goto (-25), 3) := by decide +kernel
theorem d_PD_shorter_59 : decode b_PD_shorter 59 = .ok (.iconst 0, 1) := by decide +kernel
theorem d_PD_shorter_60 : decode b_PD_shorter 60 = .ok (.istore_n 1, 1) := by decide +kernel
theorem d_PD_shorter_61 : decode b_PD_shorter 61 = .ok (.iconst 0, 1) := by decide +kernel
theorem d_PD_shorter_62 : decode b_PD_shorter 62 = .ok (.istore_n 2, 1) := by decide +kernel
theorem d_PD_shorter_63 : decode b_PD_shorter 63 = .ok (.iload_n 2, 1) := by decide +kernel
theorem d_PD_shorter_64 : decode b_PD_shorter 64 = .ok (.aload_n 0, 1) := by decide +kernel
theorem d_PD_shorter_65 : decode b_PD_shorter 65 = .ok (.getfield 34, 3) := by decide +kernel
theorem d_PD_shorter_68 : decode b_PD_shorter 68 = .ok (.getfield 38, 3) := by decide +kernel
theorem d_PD_shorter_71 : decode b_PD_shorter 71 = .ok (.invokevirtual 43, 3) := by decide +kernel
theorem d_PD_shorter_74 : decode b_PD_shorter 74 = .ok (.if_icmp .ge 20, 3) := by decide +kernel
theorem d_PD_shorter_77 : decode b_PD_shorter 77 = .ok (.iload_n 1, 1) := by decide +kernel
theorem d_PD_shorter_78 : decode b_PD_shorter 78 = .ok (.aload_n 0, 1) := by decide +kernel
theorem d_PD_shorter_79 : decode b_PD_shorter 79 = .ok (.getfield 60, 3) := by decide +kernel
theorem d_PD_shorter_82 : decode b_PD_shorter 82 = .ok (.iload_n 2, 1) := by decide +kernel
theorem d_PD_shorter_83 : decode b_PD_shorter 83 = .ok (.ishr, 1) := by decide +kernel
theorem d_PD_shorter_84 : decode b_PD_shorter 84 = .ok (.iconst 1, 1) := by decide +kernel
theorem d_PD_shorter_85 : decode b_PD_shorter 85 = .ok (.iand, 1) := by decide +kernel
theorem d_PD_shorter_86 : decode b_PD_shorter 86 = .ok (.iadd, 1) := by decide +kernel
theorem d_PD_shorter_87 : decode b_PD_shorter 87 = .ok (.istore_n 1, 1) := by decide +kernel
theorem d_PD_shorter_88 : decode b_PD_shorter 88 = .ok (.iinc 2 1, 3) := by decide +kernel
theorem d_PD_shorter_91 : decode b_PD_shorter 91 = .ok (.goto (-28), 3) := by decide +kernel
theorem d_PD_shorter_94 : decode b_PD_shorter 94 = .ok (.iload_n 1, 1) := by decide +kernel
theorem d_PD_shorter_95 : decode b_PD_shorter 95 = .ok (.ireturn, 1) := by decide +kernel
abbrev rm_PD_shorter : Room := { frames := 6, cells := 0, slots := 0, locals := 133 }
set_option maxHeartbeats 4000000 in
set_option maxRecDepth 100000 in
theorem c_PD_shorter_0 (l : Launch) (D : va_G) (h0 Lv : Nat) (sd : Int64) (lf : Int32) : Met l y_PD_shorter (Cond.code y_PD_shorter b_PD_shorter 3 (some .int) :: gw) rm_PD_shorter (cP D [.ref h0] (fun H => ob D 0 h0 [.long sd, .null, .ref Lv, .int lf] H)) (rV (.int (-13))) 0 0 (fun _ => False) := by
  refine mt_B (by decide) (Nat.le_of_ble_eq_true rfl) ?_
  intro p e s m below meth c ls ⟨hx, hb, hr, hlocks, hin, hml, hown, hg⟩ ⟨hk, hp⟩ hl
  have hown : s.vm.findClass R_PD = some m.cls := hown
  have hl : lv_has ls 3 [(0, .ref h0)] := hl
  refine lv_aload_n hx hb d_PD_shorter_0 rfl (lv_at hl 0 rfl) ?_
  refine x_get hx hb hg hown hk hp rfl i_PD 1 (by decide) w_50 rfl d_PD_shorter_1 ?_
  refine lv_ifnonnullN hx hb d_PD_shorter_4 ?_
  refine lv_bipush (v := -13) hx hb d_PD_shorter_7 (by decide) ?_
  exact e_i hx hb hr hlocks (rfl) d_PD_shorter_9
set_option maxHeartbeats 4000000 in
set_option maxRecDepth 100000 in
theorem c_PD_shorter_1 (l : Launch) (D : va_G) (t0 h0 sz : Nat) (RX : Nat → Prop) (sd ds : Int64) (dk : Int32) (n lf nv : Nat) (vb vt : Nat → Int32) (hn0 : 0 < n) (hn : n ≤ 16) (hnv : nv ≤ 100) (hdis : ∀ i j, i < nv → j < nv → vb i = vb j → i = j) (ht : ∀ i, i < nv → vt i = 0 ∨ vt i = 1) : Met l y_PD_shorter (Cond.code y_PD_shorter b_PD_shorter 3 (some .int) :: gw) rm_PD_shorter (cP D [.ref h0] (fun H => H.size = sz ∧ px D t0 RX h0 sd (some (ds, dk, n)) lf nv vb vt H)) (mV (xA RX sz) (fun v H => v = some (.int (nI (p_pop (p_sh (fun x => p_st vb vt nv (nI x)) n) 16))) ∧ px D t0 (xA RX sz) h0 sd (some (ds, dk, n)) (p_sh (fun x => p_st vb vt nv (nI x)) n) nv vb vt H)) 0 0 (xA RX sz) := by
  refine mt_B (by decide) (Nat.le_of_ble_eq_true rfl) ?_
  intro p e s m below meth c ls ⟨hx, hb, hr, hlocks, hin, hml, hown, hg⟩ ⟨hk, hp⟩ hl
  have hown : s.vm.findClass R_PD = some m.cls := hown
  have hS : va_S (xA RX sz) s.heap s.heap [] := va_S.rf
  have hl : lv_has ls 3 [(0, .ref h0)] := hl
  obtain ⟨hsz, Lv, av, ev, dv, ho, hR0, hv, hRL, hRa, hRe, hinj, hdp⟩ := hp
  obtain ⟨d, rfl, hRd, hdr⟩ := hdp
  have ho : ob D 0 h0 [.long sd, .ref d, .ref Lv, .int (nI lf)] s.heap := ho
  have h2p : 2 ^ n ≤ 2 ^ 16 := Nat.pow_le_pow_right (by decide) hn
  have h2q : 2 ^ 1 ≤ 2 ^ n := Nat.pow_le_pow_right (by decide) hn0
  have tail : ∀ (r : Nat) (H : Heap) (locs : List Loc) (ls : Array Slot), p_sh (fun x => p_st vb vt nv (nI x)) n = r → r ≤ 2 ^ n - 1 → sw D t0 h0 d Lv av n nv (fun x => RX x ∧ ¬ x = Lv ∧ ¬ x = av) ev sd ds dk vb vt r H → va_S (xA RX sz) s.heap H locs → lv_has ls 3 [(0, .ref h0)] → W p l e rm_PD_shorter s m ([.ref h0] : List Value).toArray below meth c H locs 0 0 (MQ below (mV (xA RX sz) (fun v H => v = some (.int (nI (p_pop (p_sh (fun x => p_st vb vt nv (nI x)) n) 16))) ∧ px D t0 (xA RX sz) h0 sd (some (ds, dk, n)) (p_sh (fun x => p_st vb vt nv (nI x)) n) nv vb vt H)) ([.ref h0] : List Value).toArray s 0 0 (xA RX sz)) (F0 m 59 ls []) := by
    intro r H locs ls hsh hle hsw hS hl
    obtain ⟨ho, hdr, hv⟩ := hsw
    obtain ⟨L, arr, el, ⟨hd, ⟨mc, hL, hcase⟩, hpt⟩, hR1⟩ := id hdr
    refine lv_iconst (v := 0) hx hb d_PD_shorter_59 (by decide) ?_
    refine lv_istore_n (lv' := [(1, .int 0), (0, .ref h0)]) hx hb d_PD_shorter_60 rfl hl (by decide) rfl (fun ls hl => ?_)
    refine lv_iconst (v := 0) hx hb d_PD_shorter_61 (by decide) ?_
    refine lv_istore_n (lv' := [(2, .int 0), (1, .int 0), (0, .ref h0)]) hx hb d_PD_shorter_62 rfl hl (by decide) rfl (fun ls hl => ?_)
    have loop : ∀ (fu : Nat) (j : Nat) (x2 x1 : Int32), (j ≤ n) → (n - j < fu) → (x2 = nI j) → (x1 = nI (p_pop r j)) → ∀ ls : Array Slot, lv_has ls 3 [(2, .int x2), (1, .int x1), (0, .ref h0)] → W p l e rm_PD_shorter s m ([.ref h0] : List Value).toArray below meth c H locs 0 0 (MQ below (mV (xA RX sz) (fun v H => v = some (.int (nI (p_pop (p_sh (fun x => p_st vb vt nv (nI x)) n) 16))) ∧ px D t0 (xA RX sz) h0 sd (some (ds, dk, n)) (p_sh (fun x => p_st vb vt nv (nI x)) n) nv vb vt H)) ([.ref h0] : List Value).toArray s 0 0 (xA RX sz)) (F0 m 63 ls []) := by
      intro fu
      induction fu with
      | zero => intro j x2 x1 h1 h2 e2 e1; exact absurd h2 (Nat.not_lt_zero _)
      | succ fu ih =>
        intro j x2 x1 h1 h2 e2 e1 ls hl
        refine lv_iload_n hx hb d_PD_shorter_63 rfl (lv_at hl 0 rfl) ?_
        refine lv_aload_n hx hb d_PD_shorter_64 rfl (lv_at hl 2 rfl) ?_
        refine x_get hx hb hg hown hk ho rfl i_PD 1 (by decide) w_50 rfl d_PD_shorter_65 ?_
        refine x_getN hx hb hg hown hk hd rfl i_DR 2 (by decide) 6 rfl rfl d_PD_shorter_68 ?_
        refine k_V hx hb hml hown hg hk L [] [.int x2] (c_AL_size l D L arr (nI n) mc) z_AL_size w_212 w_165 w_166 (rc_ob hk (hL) rfl) (hL) d_PD_shorter_71 rfl rfl ⟨Nat.le_of_ble_eq_true rfl, Nat.le_of_ble_eq_true rfl⟩ rfl hl.1 rfl (Nat.le_of_ble_eq_true rfl) ⟨Nat.zero_le _, Nat.zero_le _⟩ ?_
        refine lv_icmp_ge (tgt := 94) hx hb d_PD_shorter_74 (by decide) (fun c1 => ?_) (fun c1 => ?_)
        · have hj : j = n := by have := (q_le rfl e2 (by omega) (by omega)).mp c1; omega
          refine lv_iload_n hx hb d_PD_shorter_94 rfl (lv_at hl 1 rfl) ?_
          exact f_i hx hb hr hlocks hS ⟨by rw [e1, hj, hsh, p_pop_top (n := n) (by omega) 16 hn], px_mono (RX := RX) ⟨Lv, av, ev, some d, by rw [hsh]; exact ho, hR0, hv, hRL, hRa, hRe, hinj, d, rfl, hRd, hdr⟩ (fun q h => Or.inl h)⟩ d_PD_shorter_95
        · have hj : j < n := Nat.not_le.mp (fun h => c1 ((q_le rfl e2 (by omega) (by omega)).mpr h))
          subst e2
          refine lv_iload_n hx hb d_PD_shorter_77 rfl (lv_at hl 1 rfl) ?_
          refine lv_aload_n hx hb d_PD_shorter_78 rfl (lv_at hl 2 rfl) ?_
          refine x_get hx hb hg hown hk ho rfl i_PD 3 (by decide) w_52 rfl d_PD_shorter_79 ?_
          refine lv_iload_n hx hb d_PD_shorter_82 rfl (lv_at hl 0 rfl) ?_
          refine lv_ishr hx hb d_PD_shorter_83 ?_
          refine lv_iconst (v := 1) hx hb d_PD_shorter_84 (by decide) ?_
          refine lv_iand hx hb d_PD_shorter_85 ?_
          refine lv_iadd hx hb d_PD_shorter_86 ?_
          refine lv_topi (fun y1 ey1 => ?_)
          refine lv_istore_n (lv' := [(1, .int y1), (2, .int (nI j)), (0, .ref h0)]) hx hb d_PD_shorter_87 rfl hl (by decide) rfl (fun ls hl => ?_)
          obtain ⟨y2, ey2⟩ : ∃ y : Int32, y = (nI j) + 1 := ⟨_, rfl⟩
          refine lv_iinc (v := y2) (lv' := [(2, .int y2), (1, .int y1), (0, .ref h0)]) hx hb d_PD_shorter_88 hl (k := 1) rfl (by rw [ey2]; rfl) (by decide) rfl (fun ls hl => ?_)
          refine lv_goto (tgt := 63) hx hb d_PD_shorter_91 (by decide) ?_
          exact ih (j + 1) y2 y1 hj (by omega) (by rw [ey2, nI_1]) (by rw [ey1, e1, q_bit (by omega) (by omega), nI_add]; rfl) ls (lv_sub hl [0, 1, 2] rfl)
    exact loop (n + 1) 0 0 0 (Nat.zero_le _) (by omega) nI_0.symm nI_0.symm ls (lv_sub hl [0, 1, 2] rfl)
  refine lv_aload_n hx hb d_PD_shorter_0 rfl (lv_at hl 0 rfl) ?_
  refine x_get hx hb hg hown hk ho rfl i_PD 1 (by decide) w_50 rfl d_PD_shorter_1 ?_
  refine lv_ifnonnull (tgt := 10) hx hb d_PD_shorter_4 (by decide) ?_
  refine lv_aload_n hx hb d_PD_shorter_10 rfl (lv_at hl 0 rfl) ?_
  refine lv_aload_n hx hb d_PD_shorter_11 rfl (lv_at hl 0 rfl) ?_
  refine k_V hx hb hml hown hg hk h0 [] [.ref h0] (c_PD_all l D t0 h0 d Lv n (fun x => RX x ∧ ¬ x = Lv ∧ ¬ x = av) sd ds dk (nI lf) hn0 hn) z_PD_all w_208 w_210 s_PD_all (rc_ob hk ho rfl) (⟨ho, hdr⟩) d_PD_shorter_12 rfl rfl ⟨Nat.le_of_ble_eq_true rfl, Nat.le_of_ble_eq_true rfl⟩ rfl hl.1 rfl (Nat.le_of_ble_eq_true rfl) ⟨Nat.zero_le _, Nat.zero_le _⟩ ?_
  refine x_put hx hb hg hown hk ho hS (Or.inl hR0) rfl i_PD T_PD k_PD n_PD 3 (by decide) w_52 (fun _ h => h) rfl (by decide +kernel) (ty := .int) rfl rfl (Nat.le_of_ble_eq_true rfl) d_PD_shorter_15 (fun H locs ho1 hz1 hn1 hS => ?_)
  have hsw : sw D t0 h0 d Lv av n nv (fun x => RX x ∧ ¬ x = Lv ∧ ¬ x = av) ev sd ds dk vb vt (2 ^ n - 1) H := sw_put hk ⟨ho, hdr, hv⟩ ho1 hn1
  refine lv_aload_n hx hb d_PD_shorter_18 rfl (lv_at hl 0 rfl) ?_
  refine lv_aload_n hx hb d_PD_shorter_19 rfl (lv_at hl 0 rfl) ?_
  refine x_get hx hb hg hown hk hsw.1 rfl i_PD 3 (by decide) w_52 rfl d_PD_shorter_20 ?_
  refine k_V hx hb hml hown hg hk h0 [.int (nI (2 ^ n - 1))] [] (c_PD_stays l D t0 h0 Lv av nv ev vb vt sd (.ref d) (nI (2 ^ n - 1)) hnv hdis ht (nI (2 ^ n - 1))) z_PD_stays w_267 w_269 s_PD_stays (rc_ob hk hsw.1 rfl) (⟨hsw.1, hsw.2.2⟩) d_PD_shorter_23 rfl rfl ⟨Nat.le_of_ble_eq_true rfl, Nat.le_of_ble_eq_true rfl⟩ rfl hl.1 rfl (Nat.le_of_ble_eq_true rfl) ⟨Nat.zero_le _, Nat.zero_le _⟩ ?_
  refine lv_if_eq (tgt := 59) hx hb d_PD_shorter_26 (by decide) (fun c1 => ?_) (fun c1 => ?_)
  · exact tail (2 ^ n - 1) H locs ls (if_pos c1) (Nat.le_refl _) hsw hS (lv_sub hl [0] rfl)
  · have hsh : p_sh (fun x => p_st vb vt nv (nI x)) n = p_fix (fun x => p_st vb vt nv (nI x)) n (2 ^ n - 1) := if_neg c1
    refine lv_iconst (v := 0) hx hb d_PD_shorter_29 (by decide) ?_
    refine lv_istore_n (lv' := [(1, .int 0), (0, .ref h0)]) hx hb d_PD_shorter_30 rfl hl (by decide) rfl (fun ls hl => ?_)
    have loop : ∀ (fu : Nat) (k : Nat) (x1 : Int32) (H : Heap) (locs : List Loc), (2 * p_it (fun x => p_st vb vt nv (nI x)) n (2 ^ n - 1) k + (if x1 = nI (p_it (fun x => p_st vb vt nv (nI x)) n (2 ^ n - 1) k) then 0 else 1) < fu) → ((x1 = 0 ∧ k = 0) ∨ ∃ k2, k = k2 + 1 ∧ x1 = nI (p_it (fun x => p_st vb vt nv (nI x)) n (2 ^ n - 1) k2)) → (sw D t0 h0 d Lv av n nv (fun x => RX x ∧ ¬ x = Lv ∧ ¬ x = av) ev sd ds dk vb vt (p_it (fun x => p_st vb vt nv (nI x)) n (2 ^ n - 1) k) H) → (va_S (xA RX sz) s.heap H locs) → ∀ ls : Array Slot, lv_has ls 3 [(1, .int x1), (0, .ref h0)] → W p l e rm_PD_shorter s m ([.ref h0] : List Value).toArray below meth c H locs 0 0 (MQ below (mV (xA RX sz) (fun v H => v = some (.int (nI (p_pop (p_sh (fun x => p_st vb vt nv (nI x)) n) 16))) ∧ px D t0 (xA RX sz) h0 sd (some (ds, dk, n)) (p_sh (fun x => p_st vb vt nv (nI x)) n) nv vb vt H)) ([.ref h0] : List Value).toArray s 0 0 (xA RX sz)) (F0 m 31 ls []) := by
      intro fu
      induction fu with
      | zero => intro k x1 H locs h2 hpr hsw hS; exact absurd h2 (Nat.not_lt_zero _)
      | succ fu ih =>
        intro k x1 H locs h2 hpr hsw hS ls hl
        have hle := p_it_le (fun x => p_st vb vt nv (nI x)) n (2 ^ n - 1) k
        refine lv_iload_n hx hb d_PD_shorter_31 rfl (lv_at hl 0 rfl) ?_
        refine lv_aload_n hx hb d_PD_shorter_32 rfl (lv_at hl 1 rfl) ?_
        refine x_get hx hb hg hown hk hsw.1 rfl i_PD 3 (by decide) w_52 rfl d_PD_shorter_33 ?_
        refine lv_icmp_eq (tgt := 59) hx hb d_PD_shorter_36 (by decide) (fun c2 => ?_) (fun c2 => ?_)
        · rcases hpr with ⟨g1, g2⟩ | ⟨k2, g1, g2⟩
          · exfalso; rw [g1, g2] at c2; exact nI_ne0 (n := 2 ^ n - 1) (by omega) (by omega) c2.symm
          · subst g1
            have hfx : p_it (fun x => p_st vb vt nv (nI x)) n (2 ^ n - 1) (k2 + 1) = p_it (fun x => p_st vb vt nv (nI x)) n (2 ^ n - 1) k2 := ((nI_eq (by omega) (Nat.lt_of_le_of_lt (p_it_le _ _ _ _) (by omega))).mp (c2.symm.trans g2))
            have hre : p_re (fun x => p_st vb vt nv (nI x)) n (2 ^ n - 1) (p_it (fun x => p_st vb vt nv (nI x)) n (2 ^ n - 1) (k2 + 1)) := ⟨⟨_, rfl⟩, by rw [hfx]; exact hfx⟩
            exact tail (p_it (fun x => p_st vb vt nv (nI x)) n (2 ^ n - 1) (k2 + 1)) H locs ls (hsh.trans (p_fix_eq hre)) hle hsw hS (lv_sub hl [1] rfl)
        · refine lv_aload_n hx hb d_PD_shorter_39 rfl (lv_at hl 1 rfl) ?_
          refine x_get hx hb hg hown hk hsw.1 rfl i_PD 3 (by decide) w_52 rfl d_PD_shorter_40 ?_
          refine lv_istore_n (lv' := [(1, .int (nI (p_it (fun x => p_st vb vt nv (nI x)) n (2 ^ n - 1) k))), (0, .ref h0)]) hx hb d_PD_shorter_43 rfl hl (by decide) rfl (fun ls hl => ?_)
          refine lv_aload_n hx hb d_PD_shorter_44 rfl (lv_at hl 1 rfl) ?_
          refine lv_aload_n hx hb d_PD_shorter_45 rfl (lv_at hl 1 rfl) ?_
          refine lv_aload_n hx hb d_PD_shorter_46 rfl (lv_at hl 1 rfl) ?_
          refine x_get hx hb hg hown hk hsw.1 rfl i_PD 3 (by decide) w_52 rfl d_PD_shorter_47 ?_
          refine k_V hx hb hml hown hg hk h0 [.int (nI (p_it (fun x => p_st vb vt nv (nI x)) n (2 ^ n - 1) k))] [.ref h0] (c_PD_lessened l D t0 h0 d Lv n (fun x => RX x ∧ ¬ x = Lv ∧ ¬ x = av) sd ds dk (nI (p_it (fun x => p_st vb vt nv (nI x)) n (2 ^ n - 1) k)) hn0 hn av nv ev vb vt hnv hdis ht (p_it (fun x => p_st vb vt nv (nI x)) n (2 ^ n - 1) k) (by omega)) z_PD_lessened w_271 w_273 s_PD_lessened (rc_ob hk hsw.1 rfl) (hsw) d_PD_shorter_50 rfl rfl ⟨Nat.le_of_ble_eq_true rfl, Nat.le_of_ble_eq_true rfl⟩ rfl hl.1 rfl (Nat.le_of_ble_eq_true rfl) ⟨Nat.zero_le _, Nat.zero_le _⟩ ?_
          refine x_put hx hb hg hown hk hsw.1 hS (Or.inl hR0) rfl i_PD T_PD k_PD n_PD 3 (by decide) w_52 (fun _ h => h) rfl (by decide +kernel) (ty := .int) rfl rfl (Nat.le_of_ble_eq_true rfl) d_PD_shorter_53 (fun H1 locs1 ho1 hz1 hn1 hS => ?_)
          have hsw1 : sw D t0 h0 d Lv av n nv (fun x => RX x ∧ ¬ x = Lv ∧ ¬ x = av) ev sd ds dk vb vt (p_it (fun x => p_st vb vt nv (nI x)) n (2 ^ n - 1) (k + 1)) H1 := sw_put hk hsw ho1 hn1
          have hle1 := p_pas_le (fun x => p_st vb vt nv (nI x)) (p_it (fun x => p_st vb vt nv (nI x)) n (2 ^ n - 1) k) n
          refine lv_goto (tgt := 31) hx hb d_PD_shorter_56 (by decide) ?_
          exact ih (k + 1) (nI (p_it (fun x => p_st vb vt nv (nI x)) n (2 ^ n - 1) k)) H1 locs1 (by show 2 * p_pas (fun x => p_st vb vt nv (nI x)) (p_it (fun x => p_st vb vt nv (nI x)) n (2 ^ n - 1) k) n + (if nI (p_it (fun x => p_st vb vt nv (nI x)) n (2 ^ n - 1) k) = nI (p_pas (fun x => p_st vb vt nv (nI x)) (p_it (fun x => p_st vb vt nv (nI x)) n (2 ^ n - 1) k) n) then 0 else 1) < fu; rw [if_neg c2] at h2; split; omega; rename_i h9; have : ¬ p_pas (fun x => p_st vb vt nv (nI x)) (p_it (fun x => p_st vb vt nv (nI x)) n (2 ^ n - 1) k) n = p_it (fun x => p_st vb vt nv (nI x)) n (2 ^ n - 1) k := fun h => h9 (by rw [h]); omega) (Or.inr ⟨k, rfl, rfl⟩) hsw1 hS ls (lv_sub hl [0, 1] rfl)
    exact loop (2 ^ 18) 0 0 H locs (by show 2 * (2 ^ n - 1) + _ < _; split <;> omega) (Or.inl ⟨rfl, rfl⟩) hsw hS ls (lv_sub hl [0, 1] rfl)
end
section
/-! decode rows of the law (printed) -/
theorem d_law_0 : decode code 0 = .ok (.new 7, 3) := by decide +kernel
theorem d_law_3 : decode code 3 = .ok (.dup, 1) := by decide +kernel
theorem d_law_4 : decode code 4 = .ok (.aload_n 0, 1) := by decide +kernel
theorem d_law_5 : decode code 5 = .ok (.iconst 0, 1) := by decide +kernel
theorem d_law_6 : decode code 6 = .ok (.invokestatic 9, 3) := by decide +kernel
theorem d_law_9 : decode code 9 = .ok (.invokespecial 15, 3) := by decide +kernel
theorem d_law_12 : decode code 12 = .ok (.astore_n 1, 1) := by decide +kernel
theorem d_law_13 : decode code 13 = .ok (.new 18, 3) := by decide +kernel
theorem d_law_16 : decode code 16 = .ok (.dup, 1) := by decide +kernel
theorem d_law_17 : decode code 17 = .ok (.aload_n 0, 1) := by decide +kernel
theorem d_law_18 : decode code 18 = .ok (.iconst 0, 1) := by decide +kernel
theorem d_law_19 : decode code 19 = .ok (.invokestatic 9, 3) := by decide +kernel
theorem d_law_22 : decode code 22 = .ok (.invokespecial 20, 3) := by decide +kernel
theorem d_law_25 : decode code 25 = .ok (.astore_n 2, 1) := by decide +kernel
theorem d_law_26 : decode code 26 = .ok (.iconst 1, 1) := by decide +kernel
theorem d_law_27 : decode code 27 = .ok (.istore_n 3, 1) := by decide +kernel
theorem d_law_28 : decode code 28 = .ok (.iload_n 3, 1) := by decide +kernel
theorem d_law_29 : decode code 29 = .ok (.aload_n 0, 1) := by decide +kernel
theorem d_law_30 : decode code 30 = .ok (.arraylength, 1) := by decide +kernel
theorem d_law_31 : decode code 31 = .ok (.iconst 5, 1) := by decide +kernel
theorem d_law_32 : decode code 32 = .ok (.isub, 1) := by decide +kernel
theorem d_law_33 : decode code 33 = .ok (.if_icmp .gt 426, 3) := by decide +kernel
theorem d_law_36 : decode code 36 = .ok (.aload_n 0, 1) := by decide +kernel
theorem d_law_37 : decode code 37 = .ok (.iload_n 3, 1) := by decide +kernel
theorem d_law_38 : decode code 38 = .ok (.iaload, 1) := by decide +kernel
theorem d_law_39 : decode code 39 = .ok (.bipush 15, 2) := by decide +kernel
theorem d_law_41 : decode code 41 = .ok (.iand, 1) := by decide +kernel
theorem d_law_42 : decode code 42 = .ok (.tableswitch 411 0 9 #[54, 108, 141, 174, 217, 266, 279, 302, 315, 338], 54) := by decide +kernel
theorem d_law_96 : decode code 96 = .ok (.aload_n 1, 1) := by decide +kernel
theorem d_law_97 : decode code 97 = .ok (.aload_n 0, 1) := by decide +kernel
theorem d_law_98 : decode code 98 = .ok (.iload_n 3, 1) := by decide +kernel
theorem d_law_99 : decode code 99 = .ok (.iconst 1, 1) := by decide +kernel
theorem d_law_100 : decode code 100 = .ok (.iadd, 1) := by decide +kernel
theorem d_law_101 : decode code 101 = .ok (.iaload, 1) := by decide +kernel
theorem d_law_102 : decode code 102 = .ok (.i2l, 1) := by decide +kernel
theorem d_law_103 : decode code 103 = .ok (.bipush 32, 2) := by decide +kernel
theorem d_law_105 : decode code 105 = .ok (.lshl, 1) := by decide +kernel
theorem d_law_106 : decode code 106 = .ok (.aload_n 0, 1) := by decide +kernel
theorem d_law_107 : decode code 107 = .ok (.iload_n 3, 1) := by decide +kernel
theorem d_law_108 : decode code 108 = .ok (.iconst 2, 1) := by decide +kernel
theorem d_law_109 : decode code 109 = .ok (.iadd, 1) := by decide +kernel
theorem d_law_110 : decode code 110 = .ok (.iaload, 1) := by decide +kernel
theorem d_law_111 : decode code 111 = .ok (.i2l, 1) := by decide +kernel
theorem d_law_112 : decode code 112 = .ok (.ldc2_w 21, 3) := by decide +kernel
theorem d_law_115 : decode code 115 = .ok (.land, 1) := by decide +kernel
theorem d_law_116 : decode code 116 = .ok (.lor, 1) := by decide +kernel
theorem d_law_117 : decode code 117 = .ok (.invokevirtual 23, 3) := by decide +kernel
theorem d_law_120 : decode code 120 = .ok (.aload_n 2, 1) := by decide +kernel
theorem d_law_121 : decode code 121 = .ok (.aload_n 0, 1) := by decide +kernel
theorem d_law_122 : decode code 122 = .ok (.iload_n 3, 1) := by decide +kernel
theorem d_law_123 : decode code 123 = .ok (.iconst 1, 1) := by decide +kernel
theorem d_law_124 : decode code 124 = .ok (.iadd, 1) := by decide +kernel
theorem d_law_125 : decode code 125 = .ok (.iaload, 1) := by decide +kernel
theorem d_law_126 : decode code 126 = .ok (.i2l, 1) := by decide +kernel
theorem d_law_127 : decode code 127 = .ok (.bipush 32, 2) := by decide +kernel
theorem d_law_129 : decode code 129 = .ok (.lshl, 1) := by decide +kernel
theorem d_law_130 : decode code 130 = .ok (.aload_n 0, 1) := by decide +kernel
theorem d_law_131 : decode code 131 = .ok (.iload_n 3, 1) := by decide +kernel
theorem d_law_132 : decode code 132 = .ok (.iconst 2, 1) := by decide +kernel
theorem d_law_133 : decode code 133 = .ok (.iadd, 1) := by decide +kernel
theorem d_law_134 : decode code 134 = .ok (.iaload, 1) := by decide +kernel
theorem d_law_135 : decode code 135 = .ok (.i2l, 1) := by decide +kernel
theorem d_law_136 : decode code 136 = .ok (.ldc2_w 21, 3) := by decide +kernel
theorem d_law_139 : decode code 139 = .ok (.land, 1) := by decide +kernel
theorem d_law_140 : decode code 140 = .ok (.lor, 1) := by decide +kernel
theorem d_law_141 : decode code 141 = .ok (.invokevirtual 27, 3) := by decide +kernel
theorem d_law_144 : decode code 144 = .ok (.lcmp, 1) := by decide +kernel
theorem d_law_145 : decode code 145 = .ok (.ifCond .eq 308, 3) := by decide +kernel
theorem d_law_148 : decode code 148 = .ok (.iconst 0, 1) := by decide +kernel
theorem d_law_149 : decode code 149 = .ok (.ireturn, 1) := by decide +kernel
theorem d_law_150 : decode code 150 = .ok (.aload_n 1, 1) := by decide +kernel
theorem d_law_151 : decode code 151 = .ok (.aload_n 0, 1) := by decide +kernel
theorem d_law_152 : decode code 152 = .ok (.iload_n 3, 1) := by decide +kernel
theorem d_law_153 : decode code 153 = .ok (.iconst 1, 1) := by decide +kernel
theorem d_law_154 : decode code 154 = .ok (.iadd, 1) := by decide +kernel
theorem d_law_155 : decode code 155 = .ok (.iaload, 1) := by decide +kernel
theorem d_law_156 : decode code 156 = .ok (.aload_n 0, 1) := by decide +kernel
theorem d_law_157 : decode code 157 = .ok (.iload_n 3, 1) := by decide +kernel
theorem d_law_158 : decode code 158 = .ok (.iconst 2, 1) := by decide +kernel
theorem d_law_159 : decode code 159 = .ok (.iadd, 1) := by decide +kernel
theorem d_law_160 : decode code 160 = .ok (.iaload, 1) := by decide +kernel
theorem d_law_161 : decode code 161 = .ok (.invokevirtual 28, 3) := by decide +kernel
theorem d_law_164 : decode code 164 = .ok (.aload_n 2, 1) := by decide +kernel
theorem d_law_165 : decode code 165 = .ok (.aload_n 0, 1) := by decide +kernel
theorem d_law_166 : decode code 166 = .ok (.iload_n 3, 1) := by decide +kernel
theorem d_law_167 : decode code 167 = .ok (.iconst 1, 1) := by decide +kernel
theorem d_law_168 : decode code 168 = .ok (.iadd, 1) := by decide +kernel
theorem d_law_169 : decode code 169 = .ok (.iaload, 1) := by decide +kernel
theorem d_law_170 : decode code 170 = .ok (.aload_n 0, 1) := by decide +kernel
theorem d_law_171 : decode code 171 = .ok (.iload_n 3, 1) := by decide +kernel
theorem d_law_172 : decode code 172 = .ok (.iconst 2, 1) := by decide +kernel
theorem d_law_173 : decode code 173 = .ok (.iadd, 1) := by decide +kernel
theorem d_law_174 : decode code 174 = .ok (.iaload, 1) := by decide +kernel
theorem d_law_175 : decode code 175 = .ok (.invokevirtual 32, 3) := by decide +kernel
theorem d_law_178 : decode code 178 = .ok (.if_icmp .eq 275, 3) := by decide +kernel
theorem d_law_181 : decode code 181 = .ok (.iconst 0, 1) := by decide +kernel
theorem d_law_182 : decode code 182 = .ok (.ireturn, 1) := by decide +kernel
theorem d_law_183 : decode code 183 = .ok (.aload_n 1, 1) := by decide +kernel
theorem d_law_184 : decode code 184 = .ok (.aload_n 0, 1) := by decide +kernel
theorem d_law_185 : decode code 185 = .ok (.iload_n 3, 1) := by decide +kernel
theorem d_law_186 : decode code 186 = .ok (.iconst 1, 1) := by decide +kernel
theorem d_law_187 : decode code 187 = .ok (.iadd, 1) := by decide +kernel
theorem d_law_188 : decode code 188 = .ok (.iaload, 1) := by decide +kernel
end
section
/-! decode rows of the law (printed) -/
theorem d_law_189 : decode code 189 = .ok (.aload_n 0, 1) := by decide +kernel
theorem d_law_190 : decode code 190 = .ok (.iload_n 3, 1) := by decide +kernel
theorem d_law_191 : decode code 191 = .ok (.iconst 2, 1) := by decide +kernel
theorem d_law_192 : decode code 192 = .ok (.iadd, 1) := by decide +kernel
theorem d_law_193 : decode code 193 = .ok (.iaload, 1) := by decide +kernel
theorem d_law_194 : decode code 194 = .ok (.invokevirtual 33, 3) := by decide +kernel
theorem d_law_197 : decode code 197 = .ok (.aload_n 2, 1) := by decide +kernel
theorem d_law_198 : decode code 198 = .ok (.aload_n 0, 1) := by decide +kernel
theorem d_law_199 : decode code 199 = .ok (.iload_n 3, 1) := by decide +kernel
theorem d_law_200 : decode code 200 = .ok (.iconst 1, 1) := by decide +kernel
theorem d_law_201 : decode code 201 = .ok (.iadd, 1) := by decide +kernel
theorem d_law_202 : decode code 202 = .ok (.iaload, 1) := by decide +kernel
theorem d_law_203 : decode code 203 = .ok (.aload_n 0, 1) := by decide +kernel
theorem d_law_204 : decode code 204 = .ok (.iload_n 3, 1) := by decide +kernel
theorem d_law_205 : decode code 205 = .ok (.iconst 2, 1) := by decide +kernel
theorem d_law_206 : decode code 206 = .ok (.iadd, 1) := by decide +kernel
theorem d_law_207 : decode code 207 = .ok (.iaload, 1) := by decide +kernel
theorem d_law_208 : decode code 208 = .ok (.invokevirtual 36, 3) := by decide +kernel
theorem d_law_211 : decode code 211 = .ok (.if_icmp .eq 242, 3) := by decide +kernel
theorem d_law_214 : decode code 214 = .ok (.iconst 0, 1) := by decide +kernel
theorem d_law_215 : decode code 215 = .ok (.ireturn, 1) := by decide +kernel
theorem d_law_216 : decode code 216 = .ok (.aload_n 1, 1) := by decide +kernel
theorem d_law_217 : decode code 217 = .ok (.aload_n 0, 1) := by decide +kernel
theorem d_law_218 : decode code 218 = .ok (.iload_n 3, 1) := by decide +kernel
theorem d_law_219 : decode code 219 = .ok (.iconst 1, 1) := by decide +kernel
theorem d_law_220 : decode code 220 = .ok (.iadd, 1) := by decide +kernel
theorem d_law_221 : decode code 221 = .ok (.iaload, 1) := by decide +kernel
theorem d_law_222 : decode code 222 = .ok (.aload_n 0, 1) := by decide +kernel
theorem d_law_223 : decode code 223 = .ok (.iload_n 3, 1) := by decide +kernel
theorem d_law_224 : decode code 224 = .ok (.iconst 2, 1) := by decide +kernel
theorem d_law_225 : decode code 225 = .ok (.iadd, 1) := by decide +kernel
theorem d_law_226 : decode code 226 = .ok (.iaload, 1) := by decide +kernel
theorem d_law_227 : decode code 227 = .ok (.aload_n 0, 1) := by decide +kernel
theorem d_law_228 : decode code 228 = .ok (.iload_n 3, 1) := by decide +kernel
theorem d_law_229 : decode code 229 = .ok (.iconst 3, 1) := by decide +kernel
theorem d_law_230 : decode code 230 = .ok (.iadd, 1) := by decide +kernel
theorem d_law_231 : decode code 231 = .ok (.iaload, 1) := by decide +kernel
theorem d_law_232 : decode code 232 = .ok (.invokevirtual 37, 3) := by decide +kernel
theorem d_law_235 : decode code 235 = .ok (.aload_n 2, 1) := by decide +kernel
theorem d_law_236 : decode code 236 = .ok (.aload_n 0, 1) := by decide +kernel
theorem d_law_237 : decode code 237 = .ok (.iload_n 3, 1) := by decide +kernel
theorem d_law_238 : decode code 238 = .ok (.iconst 1, 1) := by decide +kernel
theorem d_law_239 : decode code 239 = .ok (.iadd, 1) := by decide +kernel
theorem d_law_240 : decode code 240 = .ok (.iaload, 1) := by decide +kernel
theorem d_law_241 : decode code 241 = .ok (.aload_n 0, 1) := by decide +kernel
theorem d_law_242 : decode code 242 = .ok (.iload_n 3, 1) := by decide +kernel
theorem d_law_243 : decode code 243 = .ok (.iconst 2, 1) := by decide +kernel
theorem d_law_244 : decode code 244 = .ok (.iadd, 1) := by decide +kernel
theorem d_law_245 : decode code 245 = .ok (.iaload, 1) := by decide +kernel
theorem d_law_246 : decode code 246 = .ok (.aload_n 0, 1) := by decide +kernel
theorem d_law_247 : decode code 247 = .ok (.iload_n 3, 1) := by decide +kernel
theorem d_law_248 : decode code 248 = .ok (.iconst 3, 1) := by decide +kernel
theorem d_law_249 : decode code 249 = .ok (.iadd, 1) := by decide +kernel
theorem d_law_250 : decode code 250 = .ok (.iaload, 1) := by decide +kernel
theorem d_law_251 : decode code 251 = .ok (.invokevirtual 41, 3) := by decide +kernel
theorem d_law_254 : decode code 254 = .ok (.if_icmp .eq 199, 3) := by decide +kernel
theorem d_law_257 : decode code 257 = .ok (.iconst 0, 1) := by decide +kernel
theorem d_law_258 : decode code 258 = .ok (.ireturn, 1) := by decide +kernel
theorem d_law_259 : decode code 259 = .ok (.aload_n 1, 1) := by decide +kernel
theorem d_law_260 : decode code 260 = .ok (.aload_n 0, 1) := by decide +kernel
theorem d_law_261 : decode code 261 = .ok (.iload_n 3, 1) := by decide +kernel
theorem d_law_262 : decode code 262 = .ok (.iconst 1, 1) := by decide +kernel
theorem d_law_263 : decode code 263 = .ok (.iadd, 1) := by decide +kernel
theorem d_law_264 : decode code 264 = .ok (.iaload, 1) := by decide +kernel
theorem d_law_265 : decode code 265 = .ok (.aload_n 0, 1) := by decide +kernel
theorem d_law_266 : decode code 266 = .ok (.iload_n 3, 1) := by decide +kernel
theorem d_law_267 : decode code 267 = .ok (.iconst 2, 1) := by decide +kernel
theorem d_law_268 : decode code 268 = .ok (.iadd, 1) := by decide +kernel
theorem d_law_269 : decode code 269 = .ok (.iaload, 1) := by decide +kernel
theorem d_law_270 : decode code 270 = .ok (.ifCond .eq 7, 3) := by decide +kernel
theorem d_law_273 : decode code 273 = .ok (.iconst 1, 1) := by decide +kernel
theorem d_law_274 : decode code 274 = .ok (.goto 4, 3) := by decide +kernel
theorem d_law_277 : decode code 277 = .ok (.iconst 0, 1) := by decide +kernel
theorem d_law_278 : decode code 278 = .ok (.invokevirtual 42, 3) := by decide +kernel
theorem d_law_281 : decode code 281 = .ok (.aload_n 2, 1) := by decide +kernel
theorem d_law_282 : decode code 282 = .ok (.aload_n 0, 1) := by decide +kernel
theorem d_law_283 : decode code 283 = .ok (.iload_n 3, 1) := by decide +kernel
theorem d_law_284 : decode code 284 = .ok (.iconst 1, 1) := by decide +kernel
theorem d_law_285 : decode code 285 = .ok (.iadd, 1) := by decide +kernel
theorem d_law_286 : decode code 286 = .ok (.iaload, 1) := by decide +kernel
theorem d_law_287 : decode code 287 = .ok (.aload_n 0, 1) := by decide +kernel
theorem d_law_288 : decode code 288 = .ok (.iload_n 3, 1) := by decide +kernel
theorem d_law_289 : decode code 289 = .ok (.iconst 2, 1) := by decide +kernel
theorem d_law_290 : decode code 290 = .ok (.iadd, 1) := by decide +kernel
theorem d_law_291 : decode code 291 = .ok (.iaload, 1) := by decide +kernel
theorem d_law_292 : decode code 292 = .ok (.ifCond .eq 7, 3) := by decide +kernel
theorem d_law_295 : decode code 295 = .ok (.iconst 1, 1) := by decide +kernel
theorem d_law_296 : decode code 296 = .ok (.goto 4, 3) := by decide +kernel
theorem d_law_299 : decode code 299 = .ok (.iconst 0, 1) := by decide +kernel
theorem d_law_300 : decode code 300 = .ok (.invokevirtual 46, 3) := by decide +kernel
theorem d_law_303 : decode code 303 = .ok (.if_icmp .eq 150, 3) := by decide +kernel
theorem d_law_306 : decode code 306 = .ok (.iconst 0, 1) := by decide +kernel
theorem d_law_307 : decode code 307 = .ok (.ireturn, 1) := by decide +kernel
theorem d_law_308 : decode code 308 = .ok (.aload_n 1, 1) := by decide +kernel
theorem d_law_309 : decode code 309 = .ok (.invokevirtual 47, 3) := by decide +kernel
theorem d_law_312 : decode code 312 = .ok (.aload_n 2, 1) := by decide +kernel
theorem d_law_313 : decode code 313 = .ok (.invokevirtual 51, 3) := by decide +kernel
theorem d_law_316 : decode code 316 = .ok (.if_icmp .eq 137, 3) := by decide +kernel
theorem d_law_319 : decode code 319 = .ok (.iconst 0, 1) := by decide +kernel
theorem d_law_320 : decode code 320 = .ok (.ireturn, 1) := by decide +kernel
theorem d_law_321 : decode code 321 = .ok (.aload_n 1, 1) := by decide +kernel
theorem d_law_322 : decode code 322 = .ok (.aload_n 0, 1) := by decide +kernel
theorem d_law_323 : decode code 323 = .ok (.iload_n 3, 1) := by decide +kernel
end
section
/-! decode rows of the law (printed) -/
theorem d_law_324 : decode code 324 = .ok (.iconst 1, 1) := by decide +kernel
theorem d_law_325 : decode code 325 = .ok (.iadd, 1) := by decide +kernel
theorem d_law_326 : decode code 326 = .ok (.iaload, 1) := by decide +kernel
theorem d_law_327 : decode code 327 = .ok (.invokevirtual 52, 3) := by decide +kernel
theorem d_law_330 : decode code 330 = .ok (.aload_n 2, 1) := by decide +kernel
theorem d_law_331 : decode code 331 = .ok (.aload_n 0, 1) := by decide +kernel
theorem d_law_332 : decode code 332 = .ok (.iload_n 3, 1) := by decide +kernel
theorem d_law_333 : decode code 333 = .ok (.iconst 1, 1) := by decide +kernel
theorem d_law_334 : decode code 334 = .ok (.iadd, 1) := by decide +kernel
theorem d_law_335 : decode code 335 = .ok (.iaload, 1) := by decide +kernel
theorem d_law_336 : decode code 336 = .ok (.invokevirtual 56, 3) := by decide +kernel
theorem d_law_339 : decode code 339 = .ok (.if_icmp .eq 114, 3) := by decide +kernel
theorem d_law_342 : decode code 342 = .ok (.iconst 0, 1) := by decide +kernel
theorem d_law_343 : decode code 343 = .ok (.ireturn, 1) := by decide +kernel
theorem d_law_344 : decode code 344 = .ok (.aload_n 1, 1) := by decide +kernel
theorem d_law_345 : decode code 345 = .ok (.invokevirtual 57, 3) := by decide +kernel
theorem d_law_348 : decode code 348 = .ok (.aload_n 2, 1) := by decide +kernel
theorem d_law_349 : decode code 349 = .ok (.invokevirtual 61, 3) := by decide +kernel
theorem d_law_352 : decode code 352 = .ok (.if_icmp .eq 101, 3) := by decide +kernel
theorem d_law_355 : decode code 355 = .ok (.iconst 0, 1) := by decide +kernel
theorem d_law_356 : decode code 356 = .ok (.ireturn, 1) := by decide +kernel
theorem d_law_357 : decode code 357 = .ok (.aload_n 1, 1) := by decide +kernel
theorem d_law_358 : decode code 358 = .ok (.aload_n 0, 1) := by decide +kernel
theorem d_law_359 : decode code 359 = .ok (.iload_n 3, 1) := by decide +kernel
theorem d_law_360 : decode code 360 = .ok (.iconst 1, 1) := by decide +kernel
theorem d_law_361 : decode code 361 = .ok (.iadd, 1) := by decide +kernel
theorem d_law_362 : decode code 362 = .ok (.iaload, 1) := by decide +kernel
theorem d_law_363 : decode code 363 = .ok (.invokevirtual 62, 3) := by decide +kernel
theorem d_law_366 : decode code 366 = .ok (.aload_n 2, 1) := by decide +kernel
theorem d_law_367 : decode code 367 = .ok (.aload_n 0, 1) := by decide +kernel
theorem d_law_368 : decode code 368 = .ok (.iload_n 3, 1) := by decide +kernel
theorem d_law_369 : decode code 369 = .ok (.iconst 1, 1) := by decide +kernel
theorem d_law_370 : decode code 370 = .ok (.iadd, 1) := by decide +kernel
theorem d_law_371 : decode code 371 = .ok (.iaload, 1) := by decide +kernel
theorem d_law_372 : decode code 372 = .ok (.invokevirtual 66, 3) := by decide +kernel
theorem d_law_375 : decode code 375 = .ok (.if_icmp .eq 78, 3) := by decide +kernel
theorem d_law_378 : decode code 378 = .ok (.iconst 0, 1) := by decide +kernel
theorem d_law_379 : decode code 379 = .ok (.ireturn, 1) := by decide +kernel
theorem d_law_380 : decode code 380 = .ok (.aload_n 1, 1) := by decide +kernel
theorem d_law_381 : decode code 381 = .ok (.aload_n 0, 1) := by decide +kernel
theorem d_law_382 : decode code 382 = .ok (.iload_n 3, 1) := by decide +kernel
theorem d_law_383 : decode code 383 = .ok (.iconst 1, 1) := by decide +kernel
theorem d_law_384 : decode code 384 = .ok (.iadd, 1) := by decide +kernel
theorem d_law_385 : decode code 385 = .ok (.iaload, 1) := by decide +kernel
theorem d_law_386 : decode code 386 = .ok (.i2l, 1) := by decide +kernel
theorem d_law_387 : decode code 387 = .ok (.bipush 32, 2) := by decide +kernel
theorem d_law_389 : decode code 389 = .ok (.lshl, 1) := by decide +kernel
theorem d_law_390 : decode code 390 = .ok (.aload_n 0, 1) := by decide +kernel
theorem d_law_391 : decode code 391 = .ok (.iload_n 3, 1) := by decide +kernel
theorem d_law_392 : decode code 392 = .ok (.iconst 2, 1) := by decide +kernel
theorem d_law_393 : decode code 393 = .ok (.iadd, 1) := by decide +kernel
theorem d_law_394 : decode code 394 = .ok (.iaload, 1) := by decide +kernel
theorem d_law_395 : decode code 395 = .ok (.i2l, 1) := by decide +kernel
theorem d_law_396 : decode code 396 = .ok (.ldc2_w 21, 3) := by decide +kernel
theorem d_law_399 : decode code 399 = .ok (.land, 1) := by decide +kernel
theorem d_law_400 : decode code 400 = .ok (.lor, 1) := by decide +kernel
theorem d_law_401 : decode code 401 = .ok (.aload_n 0, 1) := by decide +kernel
theorem d_law_402 : decode code 402 = .ok (.iload_n 3, 1) := by decide +kernel
theorem d_law_403 : decode code 403 = .ok (.iconst 3, 1) := by decide +kernel
theorem d_law_404 : decode code 404 = .ok (.iadd, 1) := by decide +kernel
theorem d_law_405 : decode code 405 = .ok (.iaload, 1) := by decide +kernel
theorem d_law_406 : decode code 406 = .ok (.aload_n 0, 1) := by decide +kernel
theorem d_law_407 : decode code 407 = .ok (.iload_n 3, 1) := by decide +kernel
theorem d_law_408 : decode code 408 = .ok (.iconst 4, 1) := by decide +kernel
theorem d_law_409 : decode code 409 = .ok (.iadd, 1) := by decide +kernel
theorem d_law_410 : decode code 410 = .ok (.iaload, 1) := by decide +kernel
theorem d_law_411 : decode code 411 = .ok (.invokevirtual 67, 3) := by decide +kernel
theorem d_law_414 : decode code 414 = .ok (.aload_n 2, 1) := by decide +kernel
theorem d_law_415 : decode code 415 = .ok (.aload_n 0, 1) := by decide +kernel
theorem d_law_416 : decode code 416 = .ok (.iload_n 3, 1) := by decide +kernel
theorem d_law_417 : decode code 417 = .ok (.iconst 1, 1) := by decide +kernel
theorem d_law_418 : decode code 418 = .ok (.iadd, 1) := by decide +kernel
theorem d_law_419 : decode code 419 = .ok (.iaload, 1) := by decide +kernel
theorem d_law_420 : decode code 420 = .ok (.i2l, 1) := by decide +kernel
theorem d_law_421 : decode code 421 = .ok (.bipush 32, 2) := by decide +kernel
theorem d_law_423 : decode code 423 = .ok (.lshl, 1) := by decide +kernel
theorem d_law_424 : decode code 424 = .ok (.aload_n 0, 1) := by decide +kernel
theorem d_law_425 : decode code 425 = .ok (.iload_n 3, 1) := by decide +kernel
theorem d_law_426 : decode code 426 = .ok (.iconst 2, 1) := by decide +kernel
theorem d_law_427 : decode code 427 = .ok (.iadd, 1) := by decide +kernel
theorem d_law_428 : decode code 428 = .ok (.iaload, 1) := by decide +kernel
theorem d_law_429 : decode code 429 = .ok (.i2l, 1) := by decide +kernel
theorem d_law_430 : decode code 430 = .ok (.ldc2_w 21, 3) := by decide +kernel
theorem d_law_433 : decode code 433 = .ok (.land, 1) := by decide +kernel
theorem d_law_434 : decode code 434 = .ok (.lor, 1) := by decide +kernel
theorem d_law_435 : decode code 435 = .ok (.aload_n 0, 1) := by decide +kernel
theorem d_law_436 : decode code 436 = .ok (.iload_n 3, 1) := by decide +kernel
theorem d_law_437 : decode code 437 = .ok (.iconst 3, 1) := by decide +kernel
theorem d_law_438 : decode code 438 = .ok (.iadd, 1) := by decide +kernel
theorem d_law_439 : decode code 439 = .ok (.iaload, 1) := by decide +kernel
theorem d_law_440 : decode code 440 = .ok (.aload_n 0, 1) := by decide +kernel
theorem d_law_441 : decode code 441 = .ok (.iload_n 3, 1) := by decide +kernel
theorem d_law_442 : decode code 442 = .ok (.iconst 4, 1) := by decide +kernel
theorem d_law_443 : decode code 443 = .ok (.iadd, 1) := by decide +kernel
theorem d_law_444 : decode code 444 = .ok (.iaload, 1) := by decide +kernel
theorem d_law_445 : decode code 445 = .ok (.invokevirtual 71, 3) := by decide +kernel
theorem d_law_448 : decode code 448 = .ok (.if_icmp .eq 5, 3) := by decide +kernel
theorem d_law_451 : decode code 451 = .ok (.iconst 0, 1) := by decide +kernel
theorem d_law_452 : decode code 452 = .ok (.ireturn, 1) := by decide +kernel
theorem d_law_453 : decode code 453 = .ok (.iinc 3 5, 3) := by decide +kernel
theorem d_law_456 : decode code 456 = .ok (.goto (-428), 3) := by decide +kernel
theorem d_law_459 : decode code 459 = .ok (.iconst 1, 1) := by decide +kernel
theorem d_law_460 : decode code 460 = .ok (.ireturn, 1) := by decide +kernel
end
section
/-! THE CLAIM OUT OF ONE WALK OF THE LAW'S BODY. Your part is whole_start (and what it stands on); all else here is the same for every law, but numbers. -/
def R_law : String := "PostDrawerLaw"
def lw_P (b : Addr) (xs : List Int32) (args : Array Value) (s : State) : Prop := args = #[.ref b] ∧ s.IntsAt b xs ∧ xs.length ≤ 2561 ∧ (Jvm.Cond.and given_1 narrow_1).before args s = true
def lw_Q (_ : Array Value) (s : State) (o : Outcome) (t : State) : Prop := o = .returned (some (.int 1)) ∧ Framed s o t [] 600000 7302250
def lw_Z (below : List Frame) (a : Array Value) (s : State) : State → Prop := fun t => ∃ o, t.status = .running ∧ Ended t below o ∧ lw_Q a s o t
/-- the law's own end, with 1 on the stack, nothing written that was there before, its room as the claim has it -/
theorem lw_ret {p : Program} {l : Launch} {e : Env} {s : State} {m : MethodId} {below : List Frame} {meth : Method} {c : Code} {b : Nat} (hx : p.tables.exec = Jvm.exec) (hb : c.code = code) (hr : meth.sig.returnType = ret) (hlocks : meth.locks = false) {pc : Nat} {H : Heap} {ls : Array Slot} (hdg : decode code pc = .ok (.ireturn, 1)) : W p l e room_1 s m #[Value.ref b] below meth c H [] 600000 7302250 (lw_Z below #[Value.ref b] s) (F0 m pc ls [.int 1]) := by
  intro T hT X
  obtain ⟨fs, hret, hrun, hended, hW, hframe⟩ := X.leave (v := some (.int 1)) (hlocks := hlocks) (fun h => by rw [hr] at h; cases h)
  have hmeth' : T.vm.method? m = some meth := X.method'
  refine ⟨T.setFrames fs, ?_, .returned (some (.int 1)), hrun, hended, rfl, ⟨_, rfl⟩, hW, hframe⟩
  jvm_step X.here [X.here.top, hx, hb, hdg, hmeth', hr, ret, narrow_b1]
  (try refine ⟨rfl, ?_⟩); (try refine ⟨rfl, ?_⟩)
  first | (intro acts; rw [hret _ acts rfl rfl rfl]) | rw [hret _ _ rfl rfl rfl]
  exact Steps.refl _
/-- what holds at the law's entry: the machine, the code, the tables' words (any of lw_tbl by 'hts w (by decide +kernel)'), the script of L ints xs at the cell b, what the Statement gives of the start (any of its parts by flat_of_before) -/
def lw_At (p : Program) (s : State) (m : MethodId) (meth : Method) (c : Code) (b L : Nat) (xs : Nat → Int32) : Prop :=
  p.tables.exec = Jvm.exec ∧ c.code = code ∧ meth.sig.returnType = ret ∧ c.maxLocals = 4 ∧ s.vm.findClass R_law = some m.cls ∧ (∀ w ∈ lw_tbl, w.before #[Value.ref b] s = true) ∧ va_X b L xs s s.heap ∧ b < s.heap.size ∧ meth.locks = false ∧ (Jvm.Cond.and given_1 narrow_1).before #[Value.ref b] s = true
/-! what holds from the start on: the classes' numbers, the shared empty array -/
def nmL : Nat → String := fun k => match k with
  | 0 => R_PD
  | 1 => R_DR
  | 2 => R_PT
  | 3 => R_VD
  | 4 => R_AL
  | 5 => R_MO
  | 6 => "[Ljava/lang/Object;"
  | 7 => "[I"
  | _ => "[Z"
theorem nmL_inj : ∀ i, i < 9 → ∀ j, j < 9 → nmL i = nmL j → i = j := by decide +kernel
theorem nw_mem : ∀ w ∈ nw, w ∈ lw_tbl := List.forall_mem_cons.mpr ⟨w_86, List.forall_mem_cons.mpr ⟨w_98, List.forall_mem_cons.mpr ⟨w_100, List.forall_mem_cons.mpr ⟨w_101, List.forall_mem_cons.mpr ⟨w_192, List.forall_mem_cons.mpr ⟨w_194, List.forall_mem_cons.mpr ⟨w_196, List.forall_mem_cons.mpr ⟨w_227, List.forall_mem_cons.mpr ⟨w_255, List.forall_mem_cons.mpr ⟨w_256, List.forall_mem_cons.mpr ⟨w_418, List.forall_mem_cons.mpr ⟨w_419, List.forall_mem_cons.mpr ⟨w_426, List.forall_mem_cons.mpr ⟨w_427, List.forall_mem_cons.mpr ⟨w_422, fun _ h => absurd h List.not_mem_nil⟩⟩⟩⟩⟩⟩⟩⟩⟩⟩⟩⟩⟩⟩⟩
theorem kn_start {s : State} {b : Nat} (hts : ∀ w ∈ lw_tbl, w.before #[Value.ref b] s = true) (hgv : (Jvm.Cond.and given_1 narrow_1).before #[Value.ref b] s = true) : ∃ D : va_G, kn D s := by
  obtain ⟨c0, i0, h0⟩ := u_known (C := R_PD) (T := F_PD) (N := 4) (n := 4) hts (fun w h => g_tbl w (i_PD w h)) (hts _ (g_tbl _ w_16))
  obtain ⟨c1, i1, h1⟩ := u_known (C := R_DR) (T := F_DR) (N := 3) (n := 3) hts (fun w h => g_tbl w (i_DR w h)) (hts _ (g_tbl _ w_77))
  obtain ⟨c2, i2, h2⟩ := u_known (C := R_PT) (T := F_PT) (N := 2) (n := 2) hts (fun w h => g_tbl w (i_PT w h)) (hts _ (g_tbl _ w_85))
  obtain ⟨c3, i3, h3⟩ := u_known (C := R_VD) (T := F_VD) (N := 2) (n := 2) hts (fun w h => g_tbl w (i_VD w h)) (hts _ (g_tbl _ w_249))
  obtain ⟨c4, i4, h4⟩ := u_known (C := R_AL) (T := F_AL) (N := 3) (n := 3) hts (fun w h => g_tbl w (i_AL w h)) (hts _ (g_tbl _ w_24))
  obtain ⟨c5, i5, h5⟩ := u_known (C := R_MO) (T := F_MO) (N := 10) (n := 10) hts (fun w h => g_tbl w (i_MO w h)) (hts _ (g_tbl _ w_300))
  have hAO : va_AO "java/lang/Object" s := va_AO.of (hts _ w_150)
  obtain ⟨cmO, cO, kO, g1, g2, g3, g4, g5⟩ := Cond.arrayOver_spec hAO
  obtain ⟨cI, kI, cmI, f1, f2, f3⟩ := Cond.arrayClass_spec (hts _ (g_tbl _ w_336))
  obtain ⟨cZ, kZ, cmZ, e1, e2, e3⟩ := Cond.arrayClass_spec (hts _ (g_tbl _ w_337))
  have hs := flat_of_before _ hgv
  obtain ⟨mi, hM⟩ := va_Mi.of (C := "[Ljava/lang/Object;") (args := #[Value.ref b]) (s := s) (hs _ (by decide +kernel))
  refine ⟨(fun k => match k with | 0 => c0 | 1 => c1 | 2 => c2 | 3 => c3 | 4 => c4 | 5 => c5 | 6 => cO | 7 => cI | _ => cZ, fun k => match k with | 0 => i0 | 1 => i1 | 2 => i2 | 3 => i3 | 4 => i4 | _ => i5), ⟨?_, ?_⟩, ?_, fun w hw => va_Nw.of (nw_tb w hw) (hts w (nw_mem w hw)), hAO, mi, hM⟩
  · intro k q hq
    match k, hq with
    | 0, hq => cases hq; exact h0
    | 1, hq => cases hq; exact h1
    | 2, hq => cases hq; exact h2
    | 3, hq => cases hq; exact h3
    | 4, hq => cases hq; exact h4
    | 5, hq => cases hq; exact h5
    | k + 6, hq => simp [classes] at hq
  · intro k q hq
    match k, hq with
    | 0, hq => cases hq; exact ⟨fun n z => ⟨(fun k h => by cases h), kO, g3, cmO, g4⟩, kO, cmO, g3, g4, g1, g5⟩
    | 1, hq => cases hq; exact ⟨fun n z => ⟨(fun k h => by cases h), kI, f2, cmI, f3⟩, f1⟩
    | 2, hq => cases hq; exact ⟨fun n z => ⟨(fun k h => by cases h), kZ, e2, cmZ, e3⟩, e1⟩
    | k + 3, hq => simp [tysD] at hq
  · have key : ∀ i, i < 9 → s.vm.findClass (nmL i) = some ((fun k => match k with | 0 => c0 | 1 => c1 | 2 => c2 | 3 => c3 | 4 => c4 | 5 => c5 | 6 => cO | 7 => cI | _ => cZ : Nat → ClassId) i) := by
      intro i hi
      rcases (show i = 0 ∨ i = 1 ∨ i = 2 ∨ i = 3 ∨ i = 4 ∨ i = 5 ∨ i = 6 ∨ i = 7 ∨ i = 8 by omega) with rfl | rfl | rfl | rfl | rfl | rfl | rfl | rfl | rfl
      · exact h0.2.1
      · exact h1.2.1
      · exact h2.2.1
      · exact h3.2.1
      · exact h4.2.1
      · exact h5.2.1
      · exact g5
      · exact f1
      · exact e1
    intro i j hi hj e
    have k1 := key i hi
    have k2 := key j hj
    obtain ⟨x1, y1, z1⟩ := Vm.findClass_spec k1
    obtain ⟨x2, y2, z2⟩ := Vm.findClass_spec k2
    rw [show ((fun k => match k with | 0 => c0 | 1 => c1 | 2 => c2 | 3 => c3 | 4 => c4 | 5 => c5 | 6 => cO | 7 => cI | _ => cZ : Nat → ClassId) i) = ((fun k => match k with | 0 => c0 | 1 => c1 | 2 => c2 | 3 => c3 | 4 => c4 | 5 => c5 | 6 => cO | 7 => cI | _ => cZ : Nat → ClassId) j) from e] at y1
    cases y1.symm.trans y2
    exact nmL_inj i hi j hj (z1.symm.trans z2)
theorem zz_start {s : State} {b : Nat} (hts : ∀ w ∈ lw_tbl, w.before #[Value.ref b] s = true) (hgv : (Jvm.Cond.and given_1 narrow_1).before #[Value.ref b] s = true) : ∃ t0 : Nat, zz t0 (fun q => s.heap.size ≤ q) s s.heap := by
  have hs := flat_of_before _ hgv
  have harr : (Cond.arrayOf (.static "java/util/ArrayList" "DEFAULTCAPACITY_EMPTY_ELEMENTDATA" "[Ljava/lang/Object;") (.object "java/lang/Object")).before #[Value.ref b] s = true := hs _ (by decide +kernel)
  have hlen : (Cond.eq (.length (.static "java/util/ArrayList" "DEFAULTCAPACITY_EMPTY_ELEMENTDATA" "[Ljava/lang/Object;")) (.int 0)).before #[Value.ref b] s = true := hs _ (by decide +kernel)
  obtain ⟨t, ht, hT⟩ := va_Tof (N := 0) (f := fun _ => .null) (A := fun q => s.heap.size ≤ q) (by decide) harr (va_eqt hlen) (fun j hj => absurd hj (Nat.not_lt_zero _)) (fun a h => Nat.not_le.mpr h)
  exact ⟨t, va_Zof (hts _ w_36) (hts _ (g_tbl _ w_4)) ht (fun a h => Nat.not_le.mpr h), hT⟩
/-- the law's context; its two objects; the state of both between two calls -/
def lc (p : Program) (s : State) (m : MethodId) (meth : Method) (c : Code) (b L : Nat) (xs : Nat → Int32) (D : va_G) (t0 : Nat) : Prop := p.tables.exec = Jvm.exec ∧ c.code = code ∧ meth.sig.returnType = ret ∧ c.maxLocals = 4 ∧ s.vm.findClass R_LW = some m.cls ∧ (∀ w ∈ gw, w.before #[Value.ref b] s = true) ∧ va_X b L xs s s.heap ∧ b < s.heap.size ∧ meth.locks = false ∧ kn D s ∧ zz t0 (fun q => s.heap.size ≤ q) s s.heap
def lst (lo g0 a1 a2 a3 : Nat) (ik : Nat → Int32) : Prop := mj g0 a1 a2 a3 ∧ (∀ q, mA g0 a1 a2 a3 q → lo ≤ q) ∧ ∀ j, j < 10 → ik j = p_sign j
def li (D : va_G) (t0 lo h0 g0 a1 a2 a3 : Nat) (ik : Nat → Int32) (H : Heap) : Prop := ∃ (RX : Nat → Prop) (th : Int32) (sd db : Int64) (kq : Int32) (dr : Option (Int64 × Int32 × Nat)) (n lf nv : Nat) (vb vt : Nat → Int32), px D t0 RX h0 sd dr lf nv vb vt H ∧ va_P D classes (mo D g0 a1 a2 a3 th sd db (nI n) kq (nI lf) (nI nv) vb vt ik) H ∧ ((dr = none ∧ n = 0) ∨ (dr = some (db, kq, n) ∧ 0 < n ∧ n ≤ 16)) ∧ lf < 2 ^ 16 ∧ nv ≤ 100 ∧ (∀ i j, i < nv → j < nv → vb i = vb j → i = j) ∧ (∀ i, i < nv → vt i = 0 ∨ vt i = 1) ∧ (∀ q, RX q → lo ≤ q) ∧ ∀ q, RX q → ¬ mA g0 a1 a2 a3 q
theorem px_rc {D : va_G} {s : State} {t0 : Nat} {RX : Nat → Prop} {h0 : Nat} {sd : Int64} {dr : Option (Int64 × Int32 × Nat)} {lf nv : Nat} {vb vt : Nat → Int32} {H : Heap} (hk : kn D s) (h : px D t0 RX h0 sd dr lf nv vb vt H) : ∃ cell : Cell, H[h0]? = some cell ∧ cell.vm.isStatics = false ∧ s.vm.findClass R_PD = some cell.cls := by
  obtain ⟨Lv, av, ev, dv, g, -⟩ := h
  exact rc_ob hk g rfl
theorem upd_same {f : Nat → Int32} {k : Nat} {x : Int32} (h : f k = x) : upd f k x = f := by
  funext j
  by_cases hj : j = k
  · subst hj; rw [pk_us, h]
  · rw [pk_un hj]
theorem upd_dis {vb : Nat → Int32} {nv : Nat} {b : Int32} (hd : ∀ i j, i < nv → j < nv → vb i = vb j → i = j) (hn : p_at vb b nv = none) : ∀ i j, i < nv + 1 → j < nv + 1 → upd vb nv b i = upd vb nv b j → i = j := by
  intro i j hi hj e
  by_cases h1 : i = nv <;> by_cases h2 : j = nv
  · omega
  · subst h1
    rw [pk_us, pk_un h2] at e
    exact absurd e.symm (p_at_no hn (by omega))
  · subst h2
    rw [pk_us, pk_un h1] at e
    exact absurd e (p_at_no hn (by omega))
  · rw [pk_un h1, pk_un h2] at e
    exact hd i j (by omega) (by omega) e
theorem upd_01 {vt : Nat → Int32} {nv k : Nat} {st : Int32} (h : ∀ i, i < nv → vt i = 0 ∨ vt i = 1) (hs : st = 0 ∨ st = 1) : ∀ i, i < nv → upd vt k st i = 0 ∨ upd vt k st i = 1 := by
  intro i hi
  by_cases h1 : i = k
  · subst h1; rw [pk_us]; exact hs
  · rw [pk_un h1]; exact h i hi
theorem upd_01s {vt : Nat → Int32} {nv : Nat} {st : Int32} (h : ∀ i, i < nv → vt i = 0 ∨ vt i = 1) (hs : st = 0 ∨ st = 1) : ∀ i, i < nv + 1 → upd vt nv st i = 0 ∨ upd vt nv st i = 1 := by
  intro i hi
  by_cases h1 : i = nv
  · subst h1; rw [pk_us]; exact hs
  · rw [pk_un h1]; exact h i (by omega)
theorem p_rng15 {w : Int32} (h : 0 ≤ w ∧ w ≤ 15) : ∃ q : Nat, q < 16 ∧ w = nI q := by
  obtain ⟨q, hq, rfl⟩ := nI_of (Int32.not_lt.mpr h.1)
  have := (nI_leI hq (show 15 < 2 ^ 31 by decide)).mp h.2
  exact ⟨q, by omega, rfl⟩
/-- the drawer's cells are in the heap -/
theorem px_lt {D : va_G} {t0 : Nat} {RX : Nat → Prop} {h0 : Nat} {sd : Int64} {dr : Option (Int64 × Int32 × Nat)} {lf nv : Nat} {vb vt : Nat → Int32} {H : Heap} (h : px D t0 RX h0 sd dr lf nv vb vt H) : px D t0 (fun q => RX q ∧ q < H.size) h0 sd dr lf nv vb vt H := by
  obtain ⟨Lv, av, ev, dv, h1, h2, h3, h4, h5, h6, h7, h8⟩ := h
  refine ⟨Lv, av, ev, dv, h1, ⟨h2, ob_lt h1⟩, h3, ⟨h4, kd_lt (al_kd h3.1).1⟩, fun q => ⟨h5 q, kd_lt ((al_kd h3.1).2 q)⟩, fun i hi => ⟨h6 i hi, ob_lt (h3.2 i hi)⟩, h7, ?_⟩
  cases dr with
  | none => exact h8
  | some q =>
    obtain ⟨d, g1, g2, g3⟩ := h8
    have hd : d < H.size := by
      obtain ⟨L, arr, el, ⟨g4, -⟩, -⟩ := g3
      exact ob_lt g4
    exact ⟨d, g1, ⟨g2, hd⟩, drw_mono g3 (fun x hx g => ⟨⟨g.1, hx⟩, g.2⟩)⟩
end
section
/-! THE LAW: its ten cases (printed by gen/law.py) -/
set_option maxHeartbeats 4000000 in
set_option maxRecDepth 100000 in
theorem law_0 {p : Program} (l : Launch) {e : Env} {s : State} {m : MethodId} {below : List Frame} {meth : Method} {c : Code} {b L : Nat} {xs : Nat → Int32} {D : va_G} {t0 h0 g0 a1 a2 a3 : Nat} {ik : Nat → Int32} (C : lc p s m meth c b L xs D t0) (S : lst s.heap.size g0 a1 a2 a3 ik) {i j : Nat} (hij : i + 5 ≤ L) (hL : L ≤ 2561) (hj : j < 512) {H : Heap} {locs : List Loc} {ls : Array Slot} (hli : li D t0 s.heap.size h0 g0 a1 a2 a3 ik H) (hS : va_S (fun q => s.heap.size ≤ q) s.heap H locs) (hl : lv_has ls 4 [(3, .int (nI i)), (2, .ref g0), (1, .ref h0), (0, .ref b)]) (kk : ∀ (H1 : Heap) (locs1 : List Loc), li D t0 s.heap.size h0 g0 a1 a2 a3 ik H1 → va_S (fun q => s.heap.size ≤ q) s.heap H1 locs1 → W p l e room_1 s m #[Value.ref b] below meth c H1 locs1 (10 + 100 * (j + 1)) (300 + 5000 * (j + 1)) (lw_Z below #[Value.ref b] s) (F0 m 453 ls [])) : W p l e room_1 s m #[Value.ref b] below meth c H locs (10 + 100 * j) (300 + 5000 * j) (lw_Z below #[Value.ref b] s) (F0 m 96 ls []) := by
  obtain ⟨hx, hb, hr, hml, hown, hg, hX, hbl, hlocks, hk, hz⟩ := C
  obtain ⟨hmj, hmlo, hik⟩ := S
  obtain ⟨RX, th, sd, db, kq, dr, n, lf, nv, vb, vt, hpx, hP, hdr, hlf, hnv, hdis, ht, hRlo, hRM⟩ := hli
  have hbA : ¬ (fun q => s.heap.size ≤ q) b := Nat.not_le.mpr hbl
  have hmem : ∀ (q : Nat × va_E) (t : Nat), (mo D g0 a1 a2 a3 th sd db (nI n) kq (nI lf) (nI nv) vb vt ik)[t]? = some q → mA g0 a1 a2 a3 q.1 := fun q t hq => (mo_D hmj _ _ _ _).2 t q hq
  have hmlt : ∀ q, mA g0 a1 a2 a3 q → q < H.size := fun q h => by rcases h with h | h | h | h; rw [h]; exact va_at.lt (hP 0 _ rfl); rw [h]; exact va_at.lt (hP 1 _ rfl); rw [h]; exact va_at.lt (hP 2 _ rfl); rw [h]; exact va_at.lt (hP 3 _ rfl)
  obtain ⟨u1, eu1⟩ : ∃ u : Int32, u = xs (nI i + 1).toNatClampNeg := ⟨_, rfl⟩
  have hv1 : vp_in (nI i + 1) L := by show vp_in (nI i + nI 1) L; rw [nI_add]; exact vp_in_nI (by omega) (by omega)
  obtain ⟨u2, eu2⟩ : ∃ u : Int32, u = xs (nI i + 2).toNatClampNeg := ⟨_, rfl⟩
  have hv2 : vp_in (nI i + 2) L := by show vp_in (nI i + nI 2) L; rw [nI_add]; exact vp_in_nI (by omega) (by omega)
  refine lv_aload_n hx hb d_law_96 rfl (lv_at hl 2 rfl) ?_
  refine lv_aload_n hx hb d_law_97 rfl (lv_at hl 3 rfl) ?_
  refine lv_iload_n hx hb d_law_98 rfl (lv_at hl 0 rfl) ?_
  refine lv_iconst (v := 1) hx hb d_law_99 (by decide) ?_
  refine lv_iadd hx hb d_law_100 ?_
  refine va_sld hx hb hX hbl hbA hS hv1 d_law_101 ?_
  rw [← eu1]
  refine lv_i2l (v := u1.toInt64) hx hb d_law_102 rfl ?_
  refine lv_bipush (v := 32) hx hb d_law_103 (by decide) ?_
  refine lv_lshl (v := lsh u1.toInt64 32) hx hb d_law_105 rfl ?_
  refine lv_aload_n hx hb d_law_106 rfl (lv_at hl 3 rfl) ?_
  refine lv_iload_n hx hb d_law_107 rfl (lv_at hl 0 rfl) ?_
  refine lv_iconst (v := 2) hx hb d_law_108 (by decide) ?_
  refine lv_iadd hx hb d_law_109 ?_
  refine va_sld hx hb hX hbl hbA hS hv2 d_law_110 ?_
  rw [← eu2]
  refine lv_i2l (v := u2.toInt64) hx hb d_law_111 rfl ?_
  refine lv_ldc2 hx hb hown (hg _ w_417) d_law_112 ?_
  refine lv_land hx hb d_law_115 ?_
  refine lv_lor hx hb d_law_116 ?_
  have hRlo1 : ∀ q, xA RX H.size q → s.heap.size ≤ q := fun q h => h.elim (fun h => hRlo q h) (fun h => Nat.le_trans hS.1 h)
  have hRM1 : ∀ q, xA RX H.size q → ¬ mA g0 a1 a2 a3 q := fun q h g => h.elim (fun h => hRM q h g) (fun h => absurd (hmlt q g) (Nat.not_lt.mpr h))
  refine m_V hx hb hml hown hg h0 [.long ((lsh u1.toInt64 32) ||| (u2.toInt64 &&& 4294967295))] [] (c_PD_seed l D t0 h0 H.size RX sd dr lf nv vb vt ((lsh u1.toInt64 32) ||| (u2.toInt64 &&& 4294967295))) z_PD_seed w_62 w_63 w_64 (px_rc hk hpx) (pre_P hk ⟨rfl, hpx⟩) d_law_117 rfl rfl ⟨Nat.le_of_ble_eq_true rfl, Nat.le_of_ble_eq_true rfl⟩ rfl hl.1 rfl (Nat.le_of_ble_eq_true rfl) ⟨by show 10 + 100 * j + 0 ≤ 600000; omega, by show 300 + 5000 * j + 0 ≤ 7302250; omega⟩ hS (fun q h => hRlo1 q h) (fun v1 H1 locs1 hp1 hz1 hk1 hS => ?_)
  obtain ⟨rfl, hpx1⟩ := hp1
  have hP1 := va_P.kept hP (fun t q hq => hk1 q.1 (va_at.lt (hP t q hq)) (fun h => hRM1 q.1 h (hmem q t hq)))
  show W p l e room_1 s m _ below meth c H1 locs1 (10 + 100 * j + 0) (300 + 5000 * j + 0) _ (F0 m 120 ls (.long sd :: []))
  refine lv_aload_n hx hb d_law_120 rfl (lv_at hl 1 rfl) ?_
  refine lv_aload_n hx hb d_law_121 rfl (lv_at hl 3 rfl) ?_
  refine lv_iload_n hx hb d_law_122 rfl (lv_at hl 0 rfl) ?_
  refine lv_iconst (v := 1) hx hb d_law_123 (by decide) ?_
  refine lv_iadd hx hb d_law_124 ?_
  refine va_sld hx hb hX hbl hbA hS hv1 d_law_125 ?_
  rw [← eu1]
  refine lv_i2l (v := u1.toInt64) hx hb d_law_126 rfl ?_
  refine lv_bipush (v := 32) hx hb d_law_127 (by decide) ?_
  refine lv_lshl (v := lsh u1.toInt64 32) hx hb d_law_129 rfl ?_
  refine lv_aload_n hx hb d_law_130 rfl (lv_at hl 3 rfl) ?_
  refine lv_iload_n hx hb d_law_131 rfl (lv_at hl 0 rfl) ?_
  refine lv_iconst (v := 2) hx hb d_law_132 (by decide) ?_
  refine lv_iadd hx hb d_law_133 ?_
  refine va_sld hx hb hX hbl hbA hS hv2 d_law_134 ?_
  rw [← eu2]
  refine lv_i2l (v := u2.toInt64) hx hb d_law_135 rfl ?_
  refine lv_ldc2 hx hb hown (hg _ w_417) d_law_136 ?_
  refine lv_land hx hb d_law_139 ?_
  refine lv_lor hx hb d_law_140 ?_
  refine m_V hx hb hml hown hg g0 [.long ((lsh u1.toInt64 32) ||| (u2.toInt64 &&& 4294967295))] [.long sd] (c_MO_seed l D g0 a1 a2 a3 hmj th sd db (nI n) kq (nI lf) (nI nv) vb vt ik ((lsh u1.toInt64 32) ||| (u2.toInt64 &&& 4294967295))) z_MO_seed w_338 w_339 w_340 (rc_ob hk (hP1 0 _ rfl) rfl) (pre_P hk hP1) d_law_141 rfl rfl ⟨Nat.le_of_ble_eq_true rfl, Nat.le_of_ble_eq_true rfl⟩ rfl hl.1 rfl (Nat.le_of_ble_eq_true rfl) ⟨by show 10 + 100 * j + 0 + 0 ≤ 600000; omega, by show 300 + 5000 * j + 0 + 0 ≤ 7302250; omega⟩ hS (fun q h => hmlo q h) (fun v2 H2 locs2 hp2 hz2 hk2 hS => ?_)
  obtain ⟨rfl, hP2⟩ := hp2
  have hpx2 := px_kept hpx1 (fun q g1 g2 => hk2 q g1 (hRM1 q g2))
  show W p l e room_1 s m _ below meth c H2 locs2 (10 + 100 * j + 0) (300 + 5000 * j + 0) _ (F0 m 144 ls [.long sd, .long sd])
  refine W.lcmp hx hb d_law_144 ?_
  refine lv_if_eq (tgt := 453) hx hb d_law_145 (by decide) (fun c9 => ?_) (fun c9 => absurd ((lg_cmp_eq _ _).mpr rfl) c9)
  refine W.widen (k := 10 + 100 * (j + 1)) (n := 300 + 5000 * (j + 1)) (by omega) (by omega) ?_
  exact kk H2 locs2 ⟨(xA RX H.size), 0, (lsh u1.toInt64 32) ||| (u2.toInt64 &&& 4294967295), db, kq, dr, n, lf, nv, vb, vt, hpx2, hP2, hdr, hlf, hnv, hdis, ht, hRlo1, hRM1⟩ hS
set_option maxHeartbeats 4000000 in
set_option maxRecDepth 100000 in
theorem law_1 {p : Program} (l : Launch) {e : Env} {s : State} {m : MethodId} {below : List Frame} {meth : Method} {c : Code} {b L : Nat} {xs : Nat → Int32} {D : va_G} {t0 h0 g0 a1 a2 a3 : Nat} {ik : Nat → Int32} (C : lc p s m meth c b L xs D t0) (S : lst s.heap.size g0 a1 a2 a3 ik) {i j : Nat} (hij : i + 5 ≤ L) (hL : L ≤ 2561) (hj : j < 512) {H : Heap} {locs : List Loc} {ls : Array Slot} (hli : li D t0 s.heap.size h0 g0 a1 a2 a3 ik H) (hS : va_S (fun q => s.heap.size ≤ q) s.heap H locs) (hl : lv_has ls 4 [(3, .int (nI i)), (2, .ref g0), (1, .ref h0), (0, .ref b)]) (kk : ∀ (H1 : Heap) (locs1 : List Loc), li D t0 s.heap.size h0 g0 a1 a2 a3 ik H1 → va_S (fun q => s.heap.size ≤ q) s.heap H1 locs1 → W p l e room_1 s m #[Value.ref b] below meth c H1 locs1 (10 + 100 * (j + 1)) (300 + 5000 * (j + 1)) (lw_Z below #[Value.ref b] s) (F0 m 453 ls [])) : W p l e room_1 s m #[Value.ref b] below meth c H locs (10 + 100 * j) (300 + 5000 * j) (lw_Z below #[Value.ref b] s) (F0 m 150 ls []) := by
  obtain ⟨hx, hb, hr, hml, hown, hg, hX, hbl, hlocks, hk, hz⟩ := C
  obtain ⟨hmj, hmlo, hik⟩ := S
  obtain ⟨RX, th, sd, db, kq, dr, n, lf, nv, vb, vt, hpx, hP, hdr, hlf, hnv, hdis, ht, hRlo, hRM⟩ := hli
  have hbA : ¬ (fun q => s.heap.size ≤ q) b := Nat.not_le.mpr hbl
  have hmem : ∀ (q : Nat × va_E) (t : Nat), (mo D g0 a1 a2 a3 th sd db (nI n) kq (nI lf) (nI nv) vb vt ik)[t]? = some q → mA g0 a1 a2 a3 q.1 := fun q t hq => (mo_D hmj _ _ _ _).2 t q hq
  have hmlt : ∀ q, mA g0 a1 a2 a3 q → q < H.size := fun q h => by rcases h with h | h | h | h; rw [h]; exact va_at.lt (hP 0 _ rfl); rw [h]; exact va_at.lt (hP 1 _ rfl); rw [h]; exact va_at.lt (hP 2 _ rfl); rw [h]; exact va_at.lt (hP 3 _ rfl)
  obtain ⟨u1, eu1⟩ : ∃ u : Int32, u = xs (nI i + 1).toNatClampNeg := ⟨_, rfl⟩
  have hv1 : vp_in (nI i + 1) L := by show vp_in (nI i + nI 1) L; rw [nI_add]; exact vp_in_nI (by omega) (by omega)
  obtain ⟨u2, eu2⟩ : ∃ u : Int32, u = xs (nI i + 2).toNatClampNeg := ⟨_, rfl⟩
  have hv2 : vp_in (nI i + 2) L := by show vp_in (nI i + nI 2) L; rw [nI_add]; exact vp_in_nI (by omega) (by omega)
  by_cases hno : p_in u1 0 4 = 0 ∨ p_in u2 0 15 = 0
  · skip
    refine lv_aload_n hx hb d_law_150 rfl (lv_at hl 2 rfl) ?_
    refine lv_aload_n hx hb d_law_151 rfl (lv_at hl 3 rfl) ?_
    refine lv_iload_n hx hb d_law_152 rfl (lv_at hl 0 rfl) ?_
    refine lv_iconst (v := 1) hx hb d_law_153 (by decide) ?_
    refine lv_iadd hx hb d_law_154 ?_
    refine va_sld hx hb hX hbl hbA hS hv1 d_law_155 ?_
    rw [← eu1]
    refine lv_aload_n hx hb d_law_156 rfl (lv_at hl 3 rfl) ?_
    refine lv_iload_n hx hb d_law_157 rfl (lv_at hl 0 rfl) ?_
    refine lv_iconst (v := 2) hx hb d_law_158 (by decide) ?_
    refine lv_iadd hx hb d_law_159 ?_
    refine va_sld hx hb hX hbl hbA hS hv2 d_law_160 ?_
    rw [← eu2]
    refine k_V hx hb hml hown hg hk h0 [.int u1, .int u2] [] (c_PD_draw_no l D h0 u1 u2 hno) z_PD_draw w_66 w_67 w_68 (px_rc hk hpx) (trivial) d_law_161 rfl rfl ⟨Nat.le_of_ble_eq_true rfl, Nat.le_of_ble_eq_true rfl⟩ rfl hl.1 rfl (Nat.le_of_ble_eq_true rfl) ⟨by show 10 + 100 * j ≤ 600000; omega, by show 300 + 5000 * j ≤ 7302250; omega⟩ ?_
    refine lv_aload_n hx hb d_law_164 rfl (lv_at hl 1 rfl) ?_
    refine lv_aload_n hx hb d_law_165 rfl (lv_at hl 3 rfl) ?_
    refine lv_iload_n hx hb d_law_166 rfl (lv_at hl 0 rfl) ?_
    refine lv_iconst (v := 1) hx hb d_law_167 (by decide) ?_
    refine lv_iadd hx hb d_law_168 ?_
    refine va_sld hx hb hX hbl hbA hS hv1 d_law_169 ?_
    rw [← eu1]
    refine lv_aload_n hx hb d_law_170 rfl (lv_at hl 3 rfl) ?_
    refine lv_iload_n hx hb d_law_171 rfl (lv_at hl 0 rfl) ?_
    refine lv_iconst (v := 2) hx hb d_law_172 (by decide) ?_
    refine lv_iadd hx hb d_law_173 ?_
    refine va_sld hx hb hX hbl hbA hS hv2 d_law_174 ?_
    rw [← eu2]
    refine m_V hx hb hml hown hg g0 [.int u1, .int u2] [.int (-12)] (c_MO_draw_no l D g0 a1 a2 a3 hmj th sd db (nI n) kq (nI lf) (nI nv) vb vt ik u1 u2 hno) z_MO_draw w_342 w_343 w_344 (rc_ob hk (hP 0 _ rfl) rfl) (pre_P hk hP) d_law_175 rfl rfl ⟨Nat.le_of_ble_eq_true rfl, Nat.le_of_ble_eq_true rfl⟩ rfl hl.1 rfl (Nat.le_of_ble_eq_true rfl) ⟨by show 10 + 100 * j + 0 ≤ 600000; omega, by show 300 + 5000 * j + 0 ≤ 7302250; omega⟩ hS (fun q h => hmlo q h) (fun v2 H2 locs2 hp2 hz2 hk2 hS => ?_)
    obtain ⟨rfl, hP2⟩ := hp2
    have hpx2 := px_kept hpx (fun q g1 g2 => hk2 q g1 (hRM q g2))
    show W p l e room_1 s m _ below meth c H2 locs2 (10 + 100 * j) (300 + 5000 * j) _ (F0 m 178 ls [.int (-12), .int (-12)])
    refine lv_icmp_eq (tgt := 453) hx hb d_law_178 (by decide) (fun _ => ?_) (fun h => absurd (by decide) h)
    refine W.widen (k := 10 + 100 * (j + 1)) (n := 300 + 5000 * (j + 1)) (by omega) (by omega) ?_
    exact kk H2 locs2 ⟨RX, 0, sd, db, kq, dr, n, lf, nv, vb, vt, hpx2, hP2, hdr, hlf, hnv, hdis, ht, hRlo, hRM⟩ hS
  · obtain ⟨hkk, hzz⟩ := not_or.mp hno
    obtain ⟨q, hq, rfl⟩ := p_rng15 (p_in_1 hzz)
    have h2p : 2 ^ (q + 1) ≤ 2 ^ 16 := Nat.pow_le_pow_right (by decide) (by omega)
    refine lv_aload_n hx hb d_law_150 rfl (lv_at hl 2 rfl) ?_
    refine lv_aload_n hx hb d_law_151 rfl (lv_at hl 3 rfl) ?_
    refine lv_iload_n hx hb d_law_152 rfl (lv_at hl 0 rfl) ?_
    refine lv_iconst (v := 1) hx hb d_law_153 (by decide) ?_
    refine lv_iadd hx hb d_law_154 ?_
    refine va_sld hx hb hX hbl hbA hS hv1 d_law_155 ?_
    rw [← eu1]
    refine lv_aload_n hx hb d_law_156 rfl (lv_at hl 3 rfl) ?_
    refine lv_iload_n hx hb d_law_157 rfl (lv_at hl 0 rfl) ?_
    refine lv_iconst (v := 2) hx hb d_law_158 (by decide) ?_
    refine lv_iadd hx hb d_law_159 ?_
    refine va_sld hx hb hX hbl hbA hS hv2 d_law_160 ?_
    rw [← eu2]
    have hRlo1 : ∀ q, xA RX H.size q → s.heap.size ≤ q := fun q h => h.elim (fun h => hRlo q h) (fun h => Nat.le_trans hS.1 h)
    have hRM1 : ∀ q, xA RX H.size q → ¬ mA g0 a1 a2 a3 q := fun q h g => h.elim (fun h => hRM q h g) (fun h => absurd (hmlt q g) (Nat.not_lt.mpr h))
    refine m_V hx hb hml hown hg h0 [.int u1, .int (nI q)] [] (c_PD_draw_ok l D t0 h0 H.size RX sd dr lf nv vb vt hnv u1 q hkk hq) z_PD_draw w_66 w_67 w_68 (px_rc hk hpx) (pre_Z hk (hz.at hS (fun q h => hRlo1 q h)) ⟨rfl, hpx⟩) d_law_161 rfl rfl ⟨Nat.le_of_ble_eq_true rfl, Nat.le_of_ble_eq_true rfl⟩ rfl hl.1 rfl (Nat.le_of_ble_eq_true rfl) ⟨by show 10 + 100 * j + 34 ≤ 600000; omega, by show 300 + 5000 * j + 2438 ≤ 7302250; omega⟩ hS (fun q h => hRlo1 q h) (fun v1 H1 locs1 hp1 hz1 hk1 hS => ?_)
    obtain ⟨rfl, hpx1⟩ := hp1
    have hP1 := va_P.kept hP (fun t q hq => hk1 q.1 (va_at.lt (hP t q hq)) (fun h => hRM1 q.1 h (hmem q t hq)))
    show W p l e room_1 s m _ below meth c H1 locs1 (10 + 100 * j + 34) (300 + 5000 * j + 2438) _ (F0 m 164 ls (.int (nI (q + 1)) :: []))
    refine lv_aload_n hx hb d_law_164 rfl (lv_at hl 1 rfl) ?_
    refine lv_aload_n hx hb d_law_165 rfl (lv_at hl 3 rfl) ?_
    refine lv_iload_n hx hb d_law_166 rfl (lv_at hl 0 rfl) ?_
    refine lv_iconst (v := 1) hx hb d_law_167 (by decide) ?_
    refine lv_iadd hx hb d_law_168 ?_
    refine va_sld hx hb hX hbl hbA hS hv1 d_law_169 ?_
    rw [← eu1]
    refine lv_aload_n hx hb d_law_170 rfl (lv_at hl 3 rfl) ?_
    refine lv_iload_n hx hb d_law_171 rfl (lv_at hl 0 rfl) ?_
    refine lv_iconst (v := 2) hx hb d_law_172 (by decide) ?_
    refine lv_iadd hx hb d_law_173 ?_
    refine va_sld hx hb hX hbl hbA hS hv2 d_law_174 ?_
    rw [← eu2]
    refine m_V hx hb hml hown hg g0 [.int u1, .int (nI q)] [.int (nI (q + 1))] (c_MO_draw_ok l D g0 a1 a2 a3 hmj th sd db (nI n) kq (nI lf) (nI nv) vb vt ik u1 q hkk hq) z_MO_draw w_342 w_343 w_344 (rc_ob hk (hP1 0 _ rfl) rfl) (pre_P hk hP1) d_law_175 rfl rfl ⟨Nat.le_of_ble_eq_true rfl, Nat.le_of_ble_eq_true rfl⟩ rfl hl.1 rfl (Nat.le_of_ble_eq_true rfl) ⟨by show 10 + 100 * j + 34 + 0 ≤ 600000; omega, by show 300 + 5000 * j + 2438 + 0 ≤ 7302250; omega⟩ hS (fun q h => hmlo q h) (fun v2 H2 locs2 hp2 hz2 hk2 hS => ?_)
    obtain ⟨rfl, hP2⟩ := hp2
    have hpx2 := px_kept hpx1 (fun q g1 g2 => hk2 q g1 (hRM1 q g2))
    show W p l e room_1 s m _ below meth c H2 locs2 (10 + 100 * j + 34) (300 + 5000 * j + 2438) _ (F0 m 178 ls [.int (nI (q + 1)), .int (nI (q + 1))])
    refine lv_icmp_eq (tgt := 453) hx hb d_law_178 (by decide) (fun c9 => ?_) (fun c9 => absurd (rfl) c9)
    refine W.widen (k := 10 + 100 * (j + 1)) (n := 300 + 5000 * (j + 1)) (by omega) (by omega) ?_
    exact kk H2 locs2 ⟨(xA RX H.size), 0, sd, sd, u1, some (sd, u1, q + 1), q + 1, 2 ^ (q + 1) - 1, 0, vb, vt, hpx2, hP2, Or.inr ⟨rfl, by omega, by omega⟩, by omega, Nat.zero_le _, fun i _ hi => absurd hi (Nat.not_lt_zero _), fun i hi => absurd hi (Nat.not_lt_zero _), hRlo1, hRM1⟩ hS
set_option maxHeartbeats 4000000 in
set_option maxRecDepth 100000 in
theorem law_2 {p : Program} (l : Launch) {e : Env} {s : State} {m : MethodId} {below : List Frame} {meth : Method} {c : Code} {b L : Nat} {xs : Nat → Int32} {D : va_G} {t0 h0 g0 a1 a2 a3 : Nat} {ik : Nat → Int32} (C : lc p s m meth c b L xs D t0) (S : lst s.heap.size g0 a1 a2 a3 ik) {i j : Nat} (hij : i + 5 ≤ L) (hL : L ≤ 2561) (hj : j < 512) {H : Heap} {locs : List Loc} {ls : Array Slot} (hli : li D t0 s.heap.size h0 g0 a1 a2 a3 ik H) (hS : va_S (fun q => s.heap.size ≤ q) s.heap H locs) (hl : lv_has ls 4 [(3, .int (nI i)), (2, .ref g0), (1, .ref h0), (0, .ref b)]) (kk : ∀ (H1 : Heap) (locs1 : List Loc), li D t0 s.heap.size h0 g0 a1 a2 a3 ik H1 → va_S (fun q => s.heap.size ≤ q) s.heap H1 locs1 → W p l e room_1 s m #[Value.ref b] below meth c H1 locs1 (10 + 100 * (j + 1)) (300 + 5000 * (j + 1)) (lw_Z below #[Value.ref b] s) (F0 m 453 ls [])) : W p l e room_1 s m #[Value.ref b] below meth c H locs (10 + 100 * j) (300 + 5000 * j) (lw_Z below #[Value.ref b] s) (F0 m 183 ls []) := by
  obtain ⟨hx, hb, hr, hml, hown, hg, hX, hbl, hlocks, hk, hz⟩ := C
  obtain ⟨hmj, hmlo, hik⟩ := S
  obtain ⟨RX, th, sd, db, kq, dr, n, lf, nv, vb, vt, hpx, hP, hdr, hlf, hnv, hdis, ht, hRlo, hRM⟩ := hli
  have hbA : ¬ (fun q => s.heap.size ≤ q) b := Nat.not_le.mpr hbl
  have hmem : ∀ (q : Nat × va_E) (t : Nat), (mo D g0 a1 a2 a3 th sd db (nI n) kq (nI lf) (nI nv) vb vt ik)[t]? = some q → mA g0 a1 a2 a3 q.1 := fun q t hq => (mo_D hmj _ _ _ _).2 t q hq
  have hmlt : ∀ q, mA g0 a1 a2 a3 q → q < H.size := fun q h => by rcases h with h | h | h | h; rw [h]; exact va_at.lt (hP 0 _ rfl); rw [h]; exact va_at.lt (hP 1 _ rfl); rw [h]; exact va_at.lt (hP 2 _ rfl); rw [h]; exact va_at.lt (hP 3 _ rfl)
  obtain ⟨u1, eu1⟩ : ∃ u : Int32, u = xs (nI i + 1).toNatClampNeg := ⟨_, rfl⟩
  have hv1 : vp_in (nI i + 1) L := by show vp_in (nI i + nI 1) L; rw [nI_add]; exact vp_in_nI (by omega) (by omega)
  obtain ⟨u2, eu2⟩ : ∃ u : Int32, u = xs (nI i + 2).toNatClampNeg := ⟨_, rfl⟩
  have hv2 : vp_in (nI i + 2) L := by show vp_in (nI i + nI 2) L; rw [nI_add]; exact vp_in_nI (by omega) (by omega)
  rcases hdr with ⟨rfl, rfl⟩ | ⟨rfl, hn0, hn⟩
  · obtain ⟨Lv, av, ev, dv, ho, -, -, -, -, -, -, hdv⟩ := id hpx
    obtain rfl : dv = none := hdv
    have ho : ob D 0 h0 [.long sd, .null, .ref Lv, .int (nI lf)] H := ho
    refine lv_aload_n hx hb d_law_183 rfl (lv_at hl 2 rfl) ?_
    refine lv_aload_n hx hb d_law_184 rfl (lv_at hl 3 rfl) ?_
    refine lv_iload_n hx hb d_law_185 rfl (lv_at hl 0 rfl) ?_
    refine lv_iconst (v := 1) hx hb d_law_186 (by decide) ?_
    refine lv_iadd hx hb d_law_187 ?_
    refine va_sld hx hb hX hbl hbA hS hv1 d_law_188 ?_
    rw [← eu1]
    refine lv_aload_n hx hb d_law_189 rfl (lv_at hl 3 rfl) ?_
    refine lv_iload_n hx hb d_law_190 rfl (lv_at hl 0 rfl) ?_
    refine lv_iconst (v := 2) hx hb d_law_191 (by decide) ?_
    refine lv_iadd hx hb d_law_192 ?_
    refine va_sld hx hb hX hbl hbA hS hv2 d_law_193 ?_
    rw [← eu2]
    refine k_V hx hb hml hown hg hk h0 [.int u1, .int u2] [] (c_PD_part_0 l D h0 Lv sd (nI lf) u1 u2) z_PD_part w_213 w_214 w_215 (px_rc hk hpx) (ho) d_law_194 rfl rfl ⟨Nat.le_of_ble_eq_true rfl, Nat.le_of_ble_eq_true rfl⟩ rfl hl.1 rfl (Nat.le_of_ble_eq_true rfl) ⟨by show 10 + 100 * j ≤ 600000; omega, by show 300 + 5000 * j ≤ 7302250; omega⟩ ?_
    refine lv_aload_n hx hb d_law_197 rfl (lv_at hl 1 rfl) ?_
    refine lv_aload_n hx hb d_law_198 rfl (lv_at hl 3 rfl) ?_
    refine lv_iload_n hx hb d_law_199 rfl (lv_at hl 0 rfl) ?_
    refine lv_iconst (v := 1) hx hb d_law_200 (by decide) ?_
    refine lv_iadd hx hb d_law_201 ?_
    refine va_sld hx hb hX hbl hbA hS hv1 d_law_202 ?_
    rw [← eu1]
    refine lv_aload_n hx hb d_law_203 rfl (lv_at hl 3 rfl) ?_
    refine lv_iload_n hx hb d_law_204 rfl (lv_at hl 0 rfl) ?_
    refine lv_iconst (v := 2) hx hb d_law_205 (by decide) ?_
    refine lv_iadd hx hb d_law_206 ?_
    refine va_sld hx hb hX hbl hbA hS hv2 d_law_207 ?_
    rw [← eu2]
    refine m_V hx hb hml hown hg g0 [.int u1, .int u2] [.int (-1)] (c_MO_part l D g0 a1 a2 a3 hmj th sd db kq (nI lf) (nI nv) vb vt ik 0 (Nat.zero_le _) u1 u2) z_MO_part w_349 w_350 w_351 (rc_ob hk (hP 0 _ rfl) rfl) (pre_P hk hP) d_law_208 rfl rfl ⟨Nat.le_of_ble_eq_true rfl, Nat.le_of_ble_eq_true rfl⟩ rfl hl.1 rfl (Nat.le_of_ble_eq_true rfl) ⟨by show 10 + 100 * j + 0 ≤ 600000; omega, by show 300 + 5000 * j + 0 ≤ 7302250; omega⟩ hS (fun q h => hmlo q h) (fun v2 H2 locs2 hp2 hz2 hk2 hS => ?_)
    obtain ⟨rfl, hP2⟩ := hp2
    have hpx2 := px_kept hpx (fun q g1 g2 => hk2 q g1 (hRM q g2))
    show W p l e room_1 s m _ below meth c H2 locs2 (10 + 100 * j) (300 + 5000 * j) _ (F0 m 211 ls [.int (p_part db kq 0 u1 u2), .int (-1)])
    refine lv_icmp_eq (tgt := 453) hx hb d_law_211 (by decide) (fun c9 => ?_) (fun c9 => absurd (by rw [p_part, if_pos (p_in_n0 _)]) c9)
    refine W.widen (k := 10 + 100 * (j + 1)) (n := 300 + 5000 * (j + 1)) (by omega) (by omega) ?_
    exact kk H2 locs2 ⟨RX, 0, sd, db, kq, none, 0, lf, nv, vb, vt, hpx2, hP2, (Or.inl ⟨rfl, rfl⟩), hlf, hnv, hdis, ht, hRlo, hRM⟩ hS
  · obtain ⟨Lv, av, ev, dv, ho, -, hvq, -, -, -, -, d, rfl, -, hdrw⟩ := id hpx
    have ho : ob D 0 h0 [.long sd, .ref d, .ref Lv, .int (nI lf)] H := ho
    refine lv_aload_n hx hb d_law_183 rfl (lv_at hl 2 rfl) ?_
    refine lv_aload_n hx hb d_law_184 rfl (lv_at hl 3 rfl) ?_
    refine lv_iload_n hx hb d_law_185 rfl (lv_at hl 0 rfl) ?_
    refine lv_iconst (v := 1) hx hb d_law_186 (by decide) ?_
    refine lv_iadd hx hb d_law_187 ?_
    refine va_sld hx hb hX hbl hbA hS hv1 d_law_188 ?_
    rw [← eu1]
    refine lv_aload_n hx hb d_law_189 rfl (lv_at hl 3 rfl) ?_
    refine lv_iload_n hx hb d_law_190 rfl (lv_at hl 0 rfl) ?_
    refine lv_iconst (v := 2) hx hb d_law_191 (by decide) ?_
    refine lv_iadd hx hb d_law_192 ?_
    refine va_sld hx hb hX hbl hbA hS hv2 d_law_193 ?_
    rw [← eu2]
    refine k_V hx hb hml hown hg hk h0 [.int u1, .int u2] [] (c_PD_part l D t0 h0 d Lv n (fun x => RX x ∧ ¬ x = Lv ∧ ¬ x = av) sd db kq (nI lf) hn0 hn u1 u2) z_PD_part w_213 w_214 w_215 (px_rc hk hpx) (⟨ho, hdrw⟩) d_law_194 rfl rfl ⟨Nat.le_of_ble_eq_true rfl, Nat.le_of_ble_eq_true rfl⟩ rfl hl.1 rfl (Nat.le_of_ble_eq_true rfl) ⟨by show 10 + 100 * j ≤ 600000; omega, by show 300 + 5000 * j ≤ 7302250; omega⟩ ?_
    refine lv_aload_n hx hb d_law_197 rfl (lv_at hl 1 rfl) ?_
    refine lv_aload_n hx hb d_law_198 rfl (lv_at hl 3 rfl) ?_
    refine lv_iload_n hx hb d_law_199 rfl (lv_at hl 0 rfl) ?_
    refine lv_iconst (v := 1) hx hb d_law_200 (by decide) ?_
    refine lv_iadd hx hb d_law_201 ?_
    refine va_sld hx hb hX hbl hbA hS hv1 d_law_202 ?_
    rw [← eu1]
    refine lv_aload_n hx hb d_law_203 rfl (lv_at hl 3 rfl) ?_
    refine lv_iload_n hx hb d_law_204 rfl (lv_at hl 0 rfl) ?_
    refine lv_iconst (v := 2) hx hb d_law_205 (by decide) ?_
    refine lv_iadd hx hb d_law_206 ?_
    refine va_sld hx hb hX hbl hbA hS hv2 d_law_207 ?_
    rw [← eu2]
    refine m_V hx hb hml hown hg g0 [.int u1, .int u2] [.int (p_part db kq n u1 u2)] (c_MO_part l D g0 a1 a2 a3 hmj th sd db kq (nI lf) (nI nv) vb vt ik n hn u1 u2) z_MO_part w_349 w_350 w_351 (rc_ob hk (hP 0 _ rfl) rfl) (pre_P hk hP) d_law_208 rfl rfl ⟨Nat.le_of_ble_eq_true rfl, Nat.le_of_ble_eq_true rfl⟩ rfl hl.1 rfl (Nat.le_of_ble_eq_true rfl) ⟨by show 10 + 100 * j + 0 ≤ 600000; omega, by show 300 + 5000 * j + 0 ≤ 7302250; omega⟩ hS (fun q h => hmlo q h) (fun v2 H2 locs2 hp2 hz2 hk2 hS => ?_)
    obtain ⟨rfl, hP2⟩ := hp2
    have hpx2 := px_kept hpx (fun q g1 g2 => hk2 q g1 (hRM q g2))
    show W p l e room_1 s m _ below meth c H2 locs2 (10 + 100 * j) (300 + 5000 * j) _ (F0 m 211 ls [.int (p_part db kq n u1 u2), .int (p_part db kq n u1 u2)])
    refine lv_icmp_eq (tgt := 453) hx hb d_law_211 (by decide) (fun c9 => ?_) (fun c9 => absurd (rfl) c9)
    refine W.widen (k := 10 + 100 * (j + 1)) (n := 300 + 5000 * (j + 1)) (by omega) (by omega) ?_
    exact kk H2 locs2 ⟨RX, 0, sd, db, kq, some (db, kq, n), n, lf, nv, vb, vt, hpx2, hP2, (Or.inr ⟨rfl, hn0, hn⟩), hlf, hnv, hdis, ht, hRlo, hRM⟩ hS
set_option maxHeartbeats 4000000 in
set_option maxRecDepth 100000 in
theorem law_3 {p : Program} (l : Launch) {e : Env} {s : State} {m : MethodId} {below : List Frame} {meth : Method} {c : Code} {b L : Nat} {xs : Nat → Int32} {D : va_G} {t0 h0 g0 a1 a2 a3 : Nat} {ik : Nat → Int32} (C : lc p s m meth c b L xs D t0) (S : lst s.heap.size g0 a1 a2 a3 ik) {i j : Nat} (hij : i + 5 ≤ L) (hL : L ≤ 2561) (hj : j < 512) {H : Heap} {locs : List Loc} {ls : Array Slot} (hli : li D t0 s.heap.size h0 g0 a1 a2 a3 ik H) (hS : va_S (fun q => s.heap.size ≤ q) s.heap H locs) (hl : lv_has ls 4 [(3, .int (nI i)), (2, .ref g0), (1, .ref h0), (0, .ref b)]) (kk : ∀ (H1 : Heap) (locs1 : List Loc), li D t0 s.heap.size h0 g0 a1 a2 a3 ik H1 → va_S (fun q => s.heap.size ≤ q) s.heap H1 locs1 → W p l e room_1 s m #[Value.ref b] below meth c H1 locs1 (10 + 100 * (j + 1)) (300 + 5000 * (j + 1)) (lw_Z below #[Value.ref b] s) (F0 m 453 ls [])) : W p l e room_1 s m #[Value.ref b] below meth c H locs (10 + 100 * j) (300 + 5000 * j) (lw_Z below #[Value.ref b] s) (F0 m 216 ls []) := by
  obtain ⟨hx, hb, hr, hml, hown, hg, hX, hbl, hlocks, hk, hz⟩ := C
  obtain ⟨hmj, hmlo, hik⟩ := S
  obtain ⟨RX, th, sd, db, kq, dr, n, lf, nv, vb, vt, hpx, hP, hdr, hlf, hnv, hdis, ht, hRlo, hRM⟩ := hli
  have hbA : ¬ (fun q => s.heap.size ≤ q) b := Nat.not_le.mpr hbl
  have hmem : ∀ (q : Nat × va_E) (t : Nat), (mo D g0 a1 a2 a3 th sd db (nI n) kq (nI lf) (nI nv) vb vt ik)[t]? = some q → mA g0 a1 a2 a3 q.1 := fun q t hq => (mo_D hmj _ _ _ _).2 t q hq
  have hmlt : ∀ q, mA g0 a1 a2 a3 q → q < H.size := fun q h => by rcases h with h | h | h | h; rw [h]; exact va_at.lt (hP 0 _ rfl); rw [h]; exact va_at.lt (hP 1 _ rfl); rw [h]; exact va_at.lt (hP 2 _ rfl); rw [h]; exact va_at.lt (hP 3 _ rfl)
  obtain ⟨u1, eu1⟩ : ∃ u : Int32, u = xs (nI i + 1).toNatClampNeg := ⟨_, rfl⟩
  have hv1 : vp_in (nI i + 1) L := by show vp_in (nI i + nI 1) L; rw [nI_add]; exact vp_in_nI (by omega) (by omega)
  obtain ⟨u2, eu2⟩ : ∃ u : Int32, u = xs (nI i + 2).toNatClampNeg := ⟨_, rfl⟩
  have hv2 : vp_in (nI i + 2) L := by show vp_in (nI i + nI 2) L; rw [nI_add]; exact vp_in_nI (by omega) (by omega)
  obtain ⟨u3, eu3⟩ : ∃ u : Int32, u = xs (nI i + 3).toNatClampNeg := ⟨_, rfl⟩
  have hv3 : vp_in (nI i + 3) L := by show vp_in (nI i + nI 3) L; rw [nI_add]; exact vp_in_nI (by omega) (by omega)
  rcases hdr with ⟨rfl, rfl⟩ | ⟨rfl, hn0, hn⟩
  · obtain ⟨Lv, av, ev, dv, ho, -, -, -, -, -, -, hdv⟩ := id hpx
    obtain rfl : dv = none := hdv
    have ho : ob D 0 h0 [.long sd, .null, .ref Lv, .int (nI lf)] H := ho
    refine lv_aload_n hx hb d_law_216 rfl (lv_at hl 2 rfl) ?_
    refine lv_aload_n hx hb d_law_217 rfl (lv_at hl 3 rfl) ?_
    refine lv_iload_n hx hb d_law_218 rfl (lv_at hl 0 rfl) ?_
    refine lv_iconst (v := 1) hx hb d_law_219 (by decide) ?_
    refine lv_iadd hx hb d_law_220 ?_
    refine va_sld hx hb hX hbl hbA hS hv1 d_law_221 ?_
    rw [← eu1]
    refine lv_aload_n hx hb d_law_222 rfl (lv_at hl 3 rfl) ?_
    refine lv_iload_n hx hb d_law_223 rfl (lv_at hl 0 rfl) ?_
    refine lv_iconst (v := 2) hx hb d_law_224 (by decide) ?_
    refine lv_iadd hx hb d_law_225 ?_
    refine va_sld hx hb hX hbl hbA hS hv2 d_law_226 ?_
    rw [← eu2]
    refine lv_aload_n hx hb d_law_227 rfl (lv_at hl 3 rfl) ?_
    refine lv_iload_n hx hb d_law_228 rfl (lv_at hl 0 rfl) ?_
    refine lv_iconst (v := 3) hx hb d_law_229 (by decide) ?_
    refine lv_iadd hx hb d_law_230 ?_
    refine va_sld hx hb hX hbl hbA hS hv3 d_law_231 ?_
    rw [← eu3]
    refine k_V hx hb hml hown hg hk h0 [.int u1, .int u2, .int u3] [] (c_PD_point_0 l D h0 Lv sd (nI lf) u1 u2 u3) z_PD_point w_231 w_232 w_233 (px_rc hk hpx) (ho) d_law_232 rfl rfl ⟨Nat.le_of_ble_eq_true rfl, Nat.le_of_ble_eq_true rfl⟩ rfl hl.1 rfl (Nat.le_of_ble_eq_true rfl) ⟨by show 10 + 100 * j ≤ 600000; omega, by show 300 + 5000 * j ≤ 7302250; omega⟩ ?_
    refine lv_aload_n hx hb d_law_235 rfl (lv_at hl 1 rfl) ?_
    refine lv_aload_n hx hb d_law_236 rfl (lv_at hl 3 rfl) ?_
    refine lv_iload_n hx hb d_law_237 rfl (lv_at hl 0 rfl) ?_
    refine lv_iconst (v := 1) hx hb d_law_238 (by decide) ?_
    refine lv_iadd hx hb d_law_239 ?_
    refine va_sld hx hb hX hbl hbA hS hv1 d_law_240 ?_
    rw [← eu1]
    refine lv_aload_n hx hb d_law_241 rfl (lv_at hl 3 rfl) ?_
    refine lv_iload_n hx hb d_law_242 rfl (lv_at hl 0 rfl) ?_
    refine lv_iconst (v := 2) hx hb d_law_243 (by decide) ?_
    refine lv_iadd hx hb d_law_244 ?_
    refine va_sld hx hb hX hbl hbA hS hv2 d_law_245 ?_
    rw [← eu2]
    refine lv_aload_n hx hb d_law_246 rfl (lv_at hl 3 rfl) ?_
    refine lv_iload_n hx hb d_law_247 rfl (lv_at hl 0 rfl) ?_
    refine lv_iconst (v := 3) hx hb d_law_248 (by decide) ?_
    refine lv_iadd hx hb d_law_249 ?_
    refine va_sld hx hb hX hbl hbA hS hv3 d_law_250 ?_
    rw [← eu3]
    refine m_V hx hb hml hown hg g0 [.int u1, .int u2, .int u3] [.int (-1)] (c_MO_point l D g0 a1 a2 a3 hmj th sd db kq (nI lf) (nI nv) vb vt ik 0 (Nat.zero_le _) hik u1 u2 u3) z_MO_point w_374 w_375 w_376 (rc_ob hk (hP 0 _ rfl) rfl) (pre_P hk hP) d_law_251 rfl rfl ⟨Nat.le_of_ble_eq_true rfl, Nat.le_of_ble_eq_true rfl⟩ rfl hl.1 rfl (Nat.le_of_ble_eq_true rfl) ⟨by show 10 + 100 * j + 0 ≤ 600000; omega, by show 300 + 5000 * j + 0 ≤ 7302250; omega⟩ hS (fun q h => hmlo q h) (fun v2 H2 locs2 hp2 hz2 hk2 hS => ?_)
    obtain ⟨rfl, hP2⟩ := hp2
    have hpx2 := px_kept hpx (fun q g1 g2 => hk2 q g1 (hRM q g2))
    show W p l e room_1 s m _ below meth c H2 locs2 (10 + 100 * j) (300 + 5000 * j) _ (F0 m 254 ls [.int (p_point db kq 0 u1 u2 u3), .int (-1)])
    refine lv_icmp_eq (tgt := 453) hx hb d_law_254 (by decide) (fun c9 => ?_) (fun c9 => absurd ((p_point_no (Or.inl (p_in_n0 _))).symm) c9)
    refine W.widen (k := 10 + 100 * (j + 1)) (n := 300 + 5000 * (j + 1)) (by omega) (by omega) ?_
    exact kk H2 locs2 ⟨RX, 0, sd, db, kq, none, 0, lf, nv, vb, vt, hpx2, hP2, (Or.inl ⟨rfl, rfl⟩), hlf, hnv, hdis, ht, hRlo, hRM⟩ hS
  · obtain ⟨Lv, av, ev, dv, ho, -, hvq, -, -, -, -, d, rfl, -, hdrw⟩ := id hpx
    have ho : ob D 0 h0 [.long sd, .ref d, .ref Lv, .int (nI lf)] H := ho
    refine lv_aload_n hx hb d_law_216 rfl (lv_at hl 2 rfl) ?_
    refine lv_aload_n hx hb d_law_217 rfl (lv_at hl 3 rfl) ?_
    refine lv_iload_n hx hb d_law_218 rfl (lv_at hl 0 rfl) ?_
    refine lv_iconst (v := 1) hx hb d_law_219 (by decide) ?_
    refine lv_iadd hx hb d_law_220 ?_
    refine va_sld hx hb hX hbl hbA hS hv1 d_law_221 ?_
    rw [← eu1]
    refine lv_aload_n hx hb d_law_222 rfl (lv_at hl 3 rfl) ?_
    refine lv_iload_n hx hb d_law_223 rfl (lv_at hl 0 rfl) ?_
    refine lv_iconst (v := 2) hx hb d_law_224 (by decide) ?_
    refine lv_iadd hx hb d_law_225 ?_
    refine va_sld hx hb hX hbl hbA hS hv2 d_law_226 ?_
    rw [← eu2]
    refine lv_aload_n hx hb d_law_227 rfl (lv_at hl 3 rfl) ?_
    refine lv_iload_n hx hb d_law_228 rfl (lv_at hl 0 rfl) ?_
    refine lv_iconst (v := 3) hx hb d_law_229 (by decide) ?_
    refine lv_iadd hx hb d_law_230 ?_
    refine va_sld hx hb hX hbl hbA hS hv3 d_law_231 ?_
    rw [← eu3]
    refine k_V hx hb hml hown hg hk h0 [.int u1, .int u2, .int u3] [] (c_PD_point l D t0 h0 d Lv n (fun x => RX x ∧ ¬ x = Lv ∧ ¬ x = av) sd db kq (nI lf) hn0 hn u1 u2 u3) z_PD_point w_231 w_232 w_233 (px_rc hk hpx) (⟨ho, hdrw⟩) d_law_232 rfl rfl ⟨Nat.le_of_ble_eq_true rfl, Nat.le_of_ble_eq_true rfl⟩ rfl hl.1 rfl (Nat.le_of_ble_eq_true rfl) ⟨by show 10 + 100 * j ≤ 600000; omega, by show 300 + 5000 * j ≤ 7302250; omega⟩ ?_
    refine lv_aload_n hx hb d_law_235 rfl (lv_at hl 1 rfl) ?_
    refine lv_aload_n hx hb d_law_236 rfl (lv_at hl 3 rfl) ?_
    refine lv_iload_n hx hb d_law_237 rfl (lv_at hl 0 rfl) ?_
    refine lv_iconst (v := 1) hx hb d_law_238 (by decide) ?_
    refine lv_iadd hx hb d_law_239 ?_
    refine va_sld hx hb hX hbl hbA hS hv1 d_law_240 ?_
    rw [← eu1]
    refine lv_aload_n hx hb d_law_241 rfl (lv_at hl 3 rfl) ?_
    refine lv_iload_n hx hb d_law_242 rfl (lv_at hl 0 rfl) ?_
    refine lv_iconst (v := 2) hx hb d_law_243 (by decide) ?_
    refine lv_iadd hx hb d_law_244 ?_
    refine va_sld hx hb hX hbl hbA hS hv2 d_law_245 ?_
    rw [← eu2]
    refine lv_aload_n hx hb d_law_246 rfl (lv_at hl 3 rfl) ?_
    refine lv_iload_n hx hb d_law_247 rfl (lv_at hl 0 rfl) ?_
    refine lv_iconst (v := 3) hx hb d_law_248 (by decide) ?_
    refine lv_iadd hx hb d_law_249 ?_
    refine va_sld hx hb hX hbl hbA hS hv3 d_law_250 ?_
    rw [← eu3]
    refine m_V hx hb hml hown hg g0 [.int u1, .int u2, .int u3] [.int (p_point db kq n u1 u2 u3)] (c_MO_point l D g0 a1 a2 a3 hmj th sd db kq (nI lf) (nI nv) vb vt ik n hn hik u1 u2 u3) z_MO_point w_374 w_375 w_376 (rc_ob hk (hP 0 _ rfl) rfl) (pre_P hk hP) d_law_251 rfl rfl ⟨Nat.le_of_ble_eq_true rfl, Nat.le_of_ble_eq_true rfl⟩ rfl hl.1 rfl (Nat.le_of_ble_eq_true rfl) ⟨by show 10 + 100 * j + 0 ≤ 600000; omega, by show 300 + 5000 * j + 0 ≤ 7302250; omega⟩ hS (fun q h => hmlo q h) (fun v2 H2 locs2 hp2 hz2 hk2 hS => ?_)
    obtain ⟨rfl, hP2⟩ := hp2
    have hpx2 := px_kept hpx (fun q g1 g2 => hk2 q g1 (hRM q g2))
    show W p l e room_1 s m _ below meth c H2 locs2 (10 + 100 * j) (300 + 5000 * j) _ (F0 m 254 ls [.int (p_point db kq n u1 u2 u3), .int (p_point db kq n u1 u2 u3)])
    refine lv_icmp_eq (tgt := 453) hx hb d_law_254 (by decide) (fun c9 => ?_) (fun c9 => absurd (rfl) c9)
    refine W.widen (k := 10 + 100 * (j + 1)) (n := 300 + 5000 * (j + 1)) (by omega) (by omega) ?_
    exact kk H2 locs2 ⟨RX, 0, sd, db, kq, some (db, kq, n), n, lf, nv, vb, vt, hpx2, hP2, (Or.inr ⟨rfl, hn0, hn⟩), hlf, hnv, hdis, ht, hRlo, hRM⟩ hS
set_option maxHeartbeats 4000000 in
set_option maxRecDepth 100000 in
theorem law_4 {p : Program} (l : Launch) {e : Env} {s : State} {m : MethodId} {below : List Frame} {meth : Method} {c : Code} {b L : Nat} {xs : Nat → Int32} {D : va_G} {t0 h0 g0 a1 a2 a3 : Nat} {ik : Nat → Int32} (C : lc p s m meth c b L xs D t0) (S : lst s.heap.size g0 a1 a2 a3 ik) {i j : Nat} (hij : i + 5 ≤ L) (hL : L ≤ 2561) (hj : j < 512) {H : Heap} {locs : List Loc} {ls : Array Slot} (hli : li D t0 s.heap.size h0 g0 a1 a2 a3 ik H) (hS : va_S (fun q => s.heap.size ≤ q) s.heap H locs) (hl : lv_has ls 4 [(3, .int (nI i)), (2, .ref g0), (1, .ref h0), (0, .ref b)]) (kk : ∀ (H1 : Heap) (locs1 : List Loc), li D t0 s.heap.size h0 g0 a1 a2 a3 ik H1 → va_S (fun q => s.heap.size ≤ q) s.heap H1 locs1 → W p l e room_1 s m #[Value.ref b] below meth c H1 locs1 (10 + 100 * (j + 1)) (300 + 5000 * (j + 1)) (lw_Z below #[Value.ref b] s) (F0 m 453 ls [])) : W p l e room_1 s m #[Value.ref b] below meth c H locs (10 + 100 * j) (300 + 5000 * j) (lw_Z below #[Value.ref b] s) (F0 m 259 ls []) := by
  obtain ⟨hx, hb, hr, hml, hown, hg, hX, hbl, hlocks, hk, hz⟩ := C
  obtain ⟨hmj, hmlo, hik⟩ := S
  obtain ⟨RX, th, sd, db, kq, dr, n, lf, nv, vb, vt, hpx, hP, hdr, hlf, hnv, hdis, ht, hRlo, hRM⟩ := hli
  have hbA : ¬ (fun q => s.heap.size ≤ q) b := Nat.not_le.mpr hbl
  have hmem : ∀ (q : Nat × va_E) (t : Nat), (mo D g0 a1 a2 a3 th sd db (nI n) kq (nI lf) (nI nv) vb vt ik)[t]? = some q → mA g0 a1 a2 a3 q.1 := fun q t hq => (mo_D hmj _ _ _ _).2 t q hq
  have hmlt : ∀ q, mA g0 a1 a2 a3 q → q < H.size := fun q h => by rcases h with h | h | h | h; rw [h]; exact va_at.lt (hP 0 _ rfl); rw [h]; exact va_at.lt (hP 1 _ rfl); rw [h]; exact va_at.lt (hP 2 _ rfl); rw [h]; exact va_at.lt (hP 3 _ rfl)
  obtain ⟨u1, eu1⟩ : ∃ u : Int32, u = xs (nI i + 1).toNatClampNeg := ⟨_, rfl⟩
  have hv1 : vp_in (nI i + 1) L := by show vp_in (nI i + nI 1) L; rw [nI_add]; exact vp_in_nI (by omega) (by omega)
  obtain ⟨u2, eu2⟩ : ∃ u : Int32, u = xs (nI i + 2).toNatClampNeg := ⟨_, rfl⟩
  have hv2 : vp_in (nI i + 2) L := by show vp_in (nI i + nI 2) L; rw [nI_add]; exact vp_in_nI (by omega) (by omega)
  refine lv_aload_n hx hb d_law_259 rfl (lv_at hl 2 rfl) ?_
  refine lv_aload_n hx hb d_law_260 rfl (lv_at hl 3 rfl) ?_
  refine lv_iload_n hx hb d_law_261 rfl (lv_at hl 0 rfl) ?_
  refine lv_iconst (v := 1) hx hb d_law_262 (by decide) ?_
  refine lv_iadd hx hb d_law_263 ?_
  refine va_sld hx hb hX hbl hbA hS hv1 d_law_264 ?_
  rw [← eu1]
  refine lv_aload_n hx hb d_law_265 rfl (lv_at hl 3 rfl) ?_
  refine lv_iload_n hx hb d_law_266 rfl (lv_at hl 0 rfl) ?_
  refine lv_iconst (v := 2) hx hb d_law_267 (by decide) ?_
  refine lv_iadd hx hb d_law_268 ?_
  refine va_sld hx hb hX hbl hbA hS hv2 d_law_269 ?_
  rw [← eu2]
  refine lv_if_eq (tgt := 277) hx hb d_law_270 (by decide) (fun c7 => ?_) (fun c7 => ?_)
  · refine lv_iconst (v := 0) hx hb d_law_277 (by decide) ?_
    have hst : (0 : Int32) = 0 ∨ (0 : Int32) = 1 := Or.inl rfl
    rcases hdr with ⟨rfl, rfl⟩ | ⟨rfl, hn0, hn⟩
    · obtain ⟨Lv, av, ev, dv, ho, -, -, -, -, -, -, hdv⟩ := id hpx
      obtain rfl : dv = none := hdv
      have ho : ob D 0 h0 [.long sd, .null, .ref Lv, .int (nI lf)] H := ho
      refine k_V hx hb hml hown hg hk h0 [.int u1, .int 0] [] (c_PD_verdict_0 l D h0 Lv sd (nI lf) u1 0) z_PD_verdict w_240 w_241 w_242 (px_rc hk hpx) (ho) d_law_278 rfl rfl ⟨Nat.le_of_ble_eq_true rfl, Nat.le_of_ble_eq_true rfl⟩ rfl hl.1 rfl (Nat.le_of_ble_eq_true rfl) ⟨by show 10 + 100 * j ≤ 600000; omega, by show 300 + 5000 * j ≤ 7302250; omega⟩ ?_
      refine lv_aload_n hx hb d_law_281 rfl (lv_at hl 1 rfl) ?_
      refine lv_aload_n hx hb d_law_282 rfl (lv_at hl 3 rfl) ?_
      refine lv_iload_n hx hb d_law_283 rfl (lv_at hl 0 rfl) ?_
      refine lv_iconst (v := 1) hx hb d_law_284 (by decide) ?_
      refine lv_iadd hx hb d_law_285 ?_
      refine va_sld hx hb hX hbl hbA hS hv1 d_law_286 ?_
      rw [← eu1]
      refine lv_aload_n hx hb d_law_287 rfl (lv_at hl 3 rfl) ?_
      refine lv_iload_n hx hb d_law_288 rfl (lv_at hl 0 rfl) ?_
      refine lv_iconst (v := 2) hx hb d_law_289 (by decide) ?_
      refine lv_iadd hx hb d_law_290 ?_
      refine va_sld hx hb hX hbl hbA hS hv2 d_law_291 ?_
      rw [← eu2]
      refine lv_if_eq (tgt := 299) hx hb d_law_292 (by decide) (fun c8 => ?_) (fun c8 => absurd c7 c8)
      refine lv_iconst (v := 0) hx hb d_law_299 (by decide) ?_
      refine m_V hx hb hml hown hg g0 [.int u1, .int 0] [.int (-13)] (c_MO_verdict_0 l D g0 a1 a2 a3 hmj th sd db kq (nI lf) (nI nv) vb vt ik u1 0) z_MO_verdict w_378 w_379 w_380 (rc_ob hk (hP 0 _ rfl) rfl) (pre_P hk hP) d_law_300 rfl rfl ⟨Nat.le_of_ble_eq_true rfl, Nat.le_of_ble_eq_true rfl⟩ rfl hl.1 rfl (Nat.le_of_ble_eq_true rfl) ⟨by show 10 + 100 * j + 0 ≤ 600000; omega, by show 300 + 5000 * j + 0 ≤ 7302250; omega⟩ hS (fun q h => hmlo q h) (fun v2 H2 locs2 hp2 hz2 hk2 hS => ?_)
      obtain ⟨rfl, hP2⟩ := hp2
      have hpx2 := px_kept hpx (fun q g1 g2 => hk2 q g1 (hRM q g2))
      show W p l e room_1 s m _ below meth c H2 locs2 (10 + 100 * j) (300 + 5000 * j) _ (F0 m 303 ls [.int (-13), .int (-13)])
      refine lv_icmp_eq (tgt := 453) hx hb d_law_303 (by decide) (fun _ => ?_) (fun h => absurd (by decide) h)
      refine W.widen (k := 10 + 100 * (j + 1)) (n := 300 + 5000 * (j + 1)) (by omega) (by omega) ?_
      exact kk H2 locs2 ⟨RX, 0, sd, db, kq, none, 0, lf, nv, vb, vt, hpx2, hP2, (Or.inl ⟨rfl, rfl⟩), hlf, hnv, hdis, ht, hRlo, hRM⟩ hS
    · by_cases hyes : p_in u1 1 (nI (2 ^ n - 1)) = 0
      · obtain ⟨Lv, av, ev, dv, ho, -, hvq, -, -, -, -, d, rfl, -, hdrw⟩ := id hpx
        have ho : ob D 0 h0 [.long sd, .ref d, .ref Lv, .int (nI lf)] H := ho
        refine k_V hx hb hml hown hg hk h0 [.int u1, .int 0] [] (c_PD_verdict_1 l D t0 h0 d Lv n (fun x => RX x ∧ ¬ x = Lv ∧ ¬ x = av) sd db kq (nI lf) hn0 hn u1 0 hyes) z_PD_verdict w_240 w_241 w_242 (px_rc hk hpx) (⟨ho, hdrw⟩) d_law_278 rfl rfl ⟨Nat.le_of_ble_eq_true rfl, Nat.le_of_ble_eq_true rfl⟩ rfl hl.1 rfl (Nat.le_of_ble_eq_true rfl) ⟨by show 10 + 100 * j ≤ 600000; omega, by show 300 + 5000 * j ≤ 7302250; omega⟩ ?_
        refine lv_aload_n hx hb d_law_281 rfl (lv_at hl 1 rfl) ?_
        refine lv_aload_n hx hb d_law_282 rfl (lv_at hl 3 rfl) ?_
        refine lv_iload_n hx hb d_law_283 rfl (lv_at hl 0 rfl) ?_
        refine lv_iconst (v := 1) hx hb d_law_284 (by decide) ?_
        refine lv_iadd hx hb d_law_285 ?_
        refine va_sld hx hb hX hbl hbA hS hv1 d_law_286 ?_
        rw [← eu1]
        refine lv_aload_n hx hb d_law_287 rfl (lv_at hl 3 rfl) ?_
        refine lv_iload_n hx hb d_law_288 rfl (lv_at hl 0 rfl) ?_
        refine lv_iconst (v := 2) hx hb d_law_289 (by decide) ?_
        refine lv_iadd hx hb d_law_290 ?_
        refine va_sld hx hb hX hbl hbA hS hv2 d_law_291 ?_
        rw [← eu2]
        refine lv_if_eq (tgt := 299) hx hb d_law_292 (by decide) (fun c8 => ?_) (fun c8 => absurd c7 c8)
        refine lv_iconst (v := 0) hx hb d_law_299 (by decide) ?_
        refine m_V hx hb hml hown hg g0 [.int u1, .int 0] [.int (-12)] (c_MO_verdict_1 l D g0 a1 a2 a3 hmj th sd db kq (nI lf) vb vt ik n hn0 hn nv hnv u1 0 hst hyes) z_MO_verdict w_378 w_379 w_380 (rc_ob hk (hP 0 _ rfl) rfl) (pre_P hk hP) d_law_300 rfl rfl ⟨Nat.le_of_ble_eq_true rfl, Nat.le_of_ble_eq_true rfl⟩ rfl hl.1 rfl (Nat.le_of_ble_eq_true rfl) ⟨by show 10 + 100 * j + 0 ≤ 600000; omega, by show 300 + 5000 * j + 0 ≤ 7302250; omega⟩ hS (fun q h => hmlo q h) (fun v2 H2 locs2 hp2 hz2 hk2 hS => ?_)
        obtain ⟨rfl, hP2⟩ := hp2
        have hpx2 := px_kept hpx (fun q g1 g2 => hk2 q g1 (hRM q g2))
        show W p l e room_1 s m _ below meth c H2 locs2 (10 + 100 * j) (300 + 5000 * j) _ (F0 m 303 ls [.int (-12), .int (-12)])
        refine lv_icmp_eq (tgt := 453) hx hb d_law_303 (by decide) (fun _ => ?_) (fun h => absurd (by decide) h)
        refine W.widen (k := 10 + 100 * (j + 1)) (n := 300 + 5000 * (j + 1)) (by omega) (by omega) ?_
        exact kk H2 locs2 ⟨RX, 0, sd, db, kq, some (db, kq, n), n, lf, nv, vb, vt, hpx2, hP2, (Or.inr ⟨rfl, hn0, hn⟩), hlf, hnv, hdis, ht, hRlo, hRM⟩ hS
      · cases hat : p_at vb u1 nv with
        | none =>
          by_cases h100 : nv = 100
          · obtain ⟨Lv, av, ev, dv, ho, -, hvq, -, -, -, -, d, rfl, -, hdrw⟩ := id hpx
            have ho : ob D 0 h0 [.long sd, .ref d, .ref Lv, .int (nI lf)] H := ho
            refine k_V hx hb hml hown hg hk h0 [.int u1, .int 0] [] (c_PD_verdict_2 l D t0 h0 d Lv n (fun x => RX x ∧ ¬ x = Lv ∧ ¬ x = av) sd db kq lf hn0 hn av nv ev vb vt hnv hdis ht u1 0 hyes hat h100) z_PD_verdict w_240 w_241 w_242 (px_rc hk hpx) (⟨ho, hdrw, hvq⟩) d_law_278 rfl rfl ⟨Nat.le_of_ble_eq_true rfl, Nat.le_of_ble_eq_true rfl⟩ rfl hl.1 rfl (Nat.le_of_ble_eq_true rfl) ⟨by show 10 + 100 * j ≤ 600000; omega, by show 300 + 5000 * j ≤ 7302250; omega⟩ ?_
            refine lv_aload_n hx hb d_law_281 rfl (lv_at hl 1 rfl) ?_
            refine lv_aload_n hx hb d_law_282 rfl (lv_at hl 3 rfl) ?_
            refine lv_iload_n hx hb d_law_283 rfl (lv_at hl 0 rfl) ?_
            refine lv_iconst (v := 1) hx hb d_law_284 (by decide) ?_
            refine lv_iadd hx hb d_law_285 ?_
            refine va_sld hx hb hX hbl hbA hS hv1 d_law_286 ?_
            rw [← eu1]
            refine lv_aload_n hx hb d_law_287 rfl (lv_at hl 3 rfl) ?_
            refine lv_iload_n hx hb d_law_288 rfl (lv_at hl 0 rfl) ?_
            refine lv_iconst (v := 2) hx hb d_law_289 (by decide) ?_
            refine lv_iadd hx hb d_law_290 ?_
            refine va_sld hx hb hX hbl hbA hS hv2 d_law_291 ?_
            rw [← eu2]
            refine lv_if_eq (tgt := 299) hx hb d_law_292 (by decide) (fun c8 => ?_) (fun c8 => absurd c7 c8)
            refine lv_iconst (v := 0) hx hb d_law_299 (by decide) ?_
            refine m_V hx hb hml hown hg g0 [.int u1, .int 0] [.int (-14)] (c_MO_verdict_2 l D g0 a1 a2 a3 hmj th sd db kq (nI lf) vb vt ik n hn0 hn nv hnv u1 0 hst hyes hat h100) z_MO_verdict w_378 w_379 w_380 (rc_ob hk (hP 0 _ rfl) rfl) (pre_P hk hP) d_law_300 rfl rfl ⟨Nat.le_of_ble_eq_true rfl, Nat.le_of_ble_eq_true rfl⟩ rfl hl.1 rfl (Nat.le_of_ble_eq_true rfl) ⟨by show 10 + 100 * j + 0 ≤ 600000; omega, by show 300 + 5000 * j + 0 ≤ 7302250; omega⟩ hS (fun q h => hmlo q h) (fun v2 H2 locs2 hp2 hz2 hk2 hS => ?_)
            obtain ⟨rfl, hP2⟩ := hp2
            have hpx2 := px_kept hpx (fun q g1 g2 => hk2 q g1 (hRM q g2))
            show W p l e room_1 s m _ below meth c H2 locs2 (10 + 100 * j) (300 + 5000 * j) _ (F0 m 303 ls [.int (-14), .int (-14)])
            refine lv_icmp_eq (tgt := 453) hx hb d_law_303 (by decide) (fun _ => ?_) (fun h => absurd (by decide) h)
            refine W.widen (k := 10 + 100 * (j + 1)) (n := 300 + 5000 * (j + 1)) (by omega) (by omega) ?_
            exact kk H2 locs2 ⟨RX, 0, sd, db, kq, some (db, kq, n), n, lf, nv, vb, vt, hpx2, hP2, (Or.inr ⟨rfl, hn0, hn⟩), hlf, hnv, hdis, ht, hRlo, hRM⟩ hS
          · have h100 : nv < 100 := by omega
            have hRlo1 : ∀ q, xA RX H.size q → s.heap.size ≤ q := fun q h => h.elim (fun h => hRlo q h) (fun h => Nat.le_trans hS.1 h)
            have hRM1 : ∀ q, xA RX H.size q → ¬ mA g0 a1 a2 a3 q := fun q h g => h.elim (fun h => hRM q h g) (fun h => absurd (hmlt q g) (Nat.not_lt.mpr h))
            refine m_V hx hb hml hown hg h0 [.int u1, .int 0] [] (c_PD_verdict_3 l D t0 h0 H.size RX sd db kq n lf nv vb vt hn0 hn hnv hdis u1 0 hst hyes hat h100) z_PD_verdict w_240 w_241 w_242 (px_rc hk hpx) (pre_Z hk (hz.at hS (fun q h => hRlo1 q h)) ⟨rfl, hpx⟩) d_law_278 rfl rfl ⟨Nat.le_of_ble_eq_true rfl, Nat.le_of_ble_eq_true rfl⟩ rfl hl.1 rfl (Nat.le_of_ble_eq_true rfl) ⟨by show 10 + 100 * j + 2 ≤ 600000; omega, by show 300 + 5000 * j + 152 ≤ 7302250; omega⟩ hS (fun q h => hRlo1 q h) (fun v1 H1 locs1 hp1 hz1 hk1 hS => ?_)
            obtain ⟨rfl, hpx1⟩ := hp1
            have hP1 := va_P.kept hP (fun t q hq => hk1 q.1 (va_at.lt (hP t q hq)) (fun h => hRM1 q.1 h (hmem q t hq)))
            show W p l e room_1 s m _ below meth c H1 locs1 (10 + 100 * j + 2) (300 + 5000 * j + 152) _ (F0 m 281 ls (.int (nI (nv + 1)) :: []))
            refine lv_aload_n hx hb d_law_281 rfl (lv_at hl 1 rfl) ?_
            refine lv_aload_n hx hb d_law_282 rfl (lv_at hl 3 rfl) ?_
            refine lv_iload_n hx hb d_law_283 rfl (lv_at hl 0 rfl) ?_
            refine lv_iconst (v := 1) hx hb d_law_284 (by decide) ?_
            refine lv_iadd hx hb d_law_285 ?_
            refine va_sld hx hb hX hbl hbA hS hv1 d_law_286 ?_
            rw [← eu1]
            refine lv_aload_n hx hb d_law_287 rfl (lv_at hl 3 rfl) ?_
            refine lv_iload_n hx hb d_law_288 rfl (lv_at hl 0 rfl) ?_
            refine lv_iconst (v := 2) hx hb d_law_289 (by decide) ?_
            refine lv_iadd hx hb d_law_290 ?_
            refine va_sld hx hb hX hbl hbA hS hv2 d_law_291 ?_
            rw [← eu2]
            refine lv_if_eq (tgt := 299) hx hb d_law_292 (by decide) (fun c8 => ?_) (fun c8 => absurd c7 c8)
            refine lv_iconst (v := 0) hx hb d_law_299 (by decide) ?_
            refine m_V hx hb hml hown hg g0 [.int u1, .int 0] [.int (nI (nv + 1))] (c_MO_verdict_3 l D g0 a1 a2 a3 hmj th sd db kq (nI lf) vb vt ik n hn0 hn nv hnv u1 0 hst hyes hat h100) z_MO_verdict w_378 w_379 w_380 (rc_ob hk (hP1 0 _ rfl) rfl) (pre_P hk hP1) d_law_300 rfl rfl ⟨Nat.le_of_ble_eq_true rfl, Nat.le_of_ble_eq_true rfl⟩ rfl hl.1 rfl (Nat.le_of_ble_eq_true rfl) ⟨by show 10 + 100 * j + 2 + 0 ≤ 600000; omega, by show 300 + 5000 * j + 152 + 0 ≤ 7302250; omega⟩ hS (fun q h => hmlo q h) (fun v2 H2 locs2 hp2 hz2 hk2 hS => ?_)
            obtain ⟨rfl, hP2⟩ := hp2
            have hpx2 := px_kept hpx1 (fun q g1 g2 => hk2 q g1 (hRM1 q g2))
            show W p l e room_1 s m _ below meth c H2 locs2 (10 + 100 * j + 2) (300 + 5000 * j + 152) _ (F0 m 303 ls [.int (nI (nv + 1)), .int (nI (nv + 1))])
            refine lv_icmp_eq (tgt := 453) hx hb d_law_303 (by decide) (fun c9 => ?_) (fun c9 => absurd (rfl) c9)
            refine W.widen (k := 10 + 100 * (j + 1)) (n := 300 + 5000 * (j + 1)) (by omega) (by omega) ?_
            exact kk H2 locs2 ⟨(xA RX H.size), 0, sd, db, kq, some (db, kq, n), n, lf, nv + 1, upd vb nv u1, upd vt nv 0, hpx2, hP2, (Or.inr ⟨rfl, hn0, hn⟩), hlf, h100, upd_dis hdis hat, upd_01s ht hst, hRlo1, hRM1⟩ hS
        | some k =>
          have hvk := (p_at_lt hat).2
          have hRlo1 : ∀ q, xA RX H.size q → s.heap.size ≤ q := fun q h => h.elim (fun h => hRlo q h) (fun h => Nat.le_trans hS.1 h)
          have hRM1 : ∀ q, xA RX H.size q → ¬ mA g0 a1 a2 a3 q := fun q h g => h.elim (fun h => hRM q h g) (fun h => absurd (hmlt q g) (Nat.not_lt.mpr h))
          refine m_V hx hb hml hown hg h0 [.int u1, .int 0] [] (c_PD_verdict_4 l D t0 h0 H.size RX sd db kq n lf nv vb vt hn0 hn hnv hdis u1 0 hst hyes k hat) z_PD_verdict w_240 w_241 w_242 (px_rc hk hpx) (pre_P hk ⟨rfl, hpx⟩) d_law_278 rfl rfl ⟨Nat.le_of_ble_eq_true rfl, Nat.le_of_ble_eq_true rfl⟩ rfl hl.1 rfl (Nat.le_of_ble_eq_true rfl) ⟨by show 10 + 100 * j + 2 ≤ 600000; omega, by show 300 + 5000 * j + 152 ≤ 7302250; omega⟩ hS (fun q h => hRlo1 q h) (fun v1 H1 locs1 hp1 hz1 hk1 hS => ?_)
          obtain ⟨rfl, hpx1⟩ := hp1
          have hP1 := va_P.kept hP (fun t q hq => hk1 q.1 (va_at.lt (hP t q hq)) (fun h => hRM1 q.1 h (hmem q t hq)))
          show W p l e room_1 s m _ below meth c H1 locs1 (10 + 100 * j + 2) (300 + 5000 * j + 152) _ (F0 m 281 ls (.int (nI nv) :: []))
          refine lv_aload_n hx hb d_law_281 rfl (lv_at hl 1 rfl) ?_
          refine lv_aload_n hx hb d_law_282 rfl (lv_at hl 3 rfl) ?_
          refine lv_iload_n hx hb d_law_283 rfl (lv_at hl 0 rfl) ?_
          refine lv_iconst (v := 1) hx hb d_law_284 (by decide) ?_
          refine lv_iadd hx hb d_law_285 ?_
          refine va_sld hx hb hX hbl hbA hS hv1 d_law_286 ?_
          rw [← eu1]
          refine lv_aload_n hx hb d_law_287 rfl (lv_at hl 3 rfl) ?_
          refine lv_iload_n hx hb d_law_288 rfl (lv_at hl 0 rfl) ?_
          refine lv_iconst (v := 2) hx hb d_law_289 (by decide) ?_
          refine lv_iadd hx hb d_law_290 ?_
          refine va_sld hx hb hX hbl hbA hS hv2 d_law_291 ?_
          rw [← eu2]
          refine lv_if_eq (tgt := 299) hx hb d_law_292 (by decide) (fun c8 => ?_) (fun c8 => absurd c7 c8)
          refine lv_iconst (v := 0) hx hb d_law_299 (by decide) ?_
          refine m_V hx hb hml hown hg g0 [.int u1, .int 0] [.int (nI nv)] (c_MO_verdict_4 l D g0 a1 a2 a3 hmj th sd db kq (nI lf) vb vt ik n hn0 hn nv hnv u1 0 hst hyes k hat) z_MO_verdict w_378 w_379 w_380 (rc_ob hk (hP1 0 _ rfl) rfl) (pre_P hk hP1) d_law_300 rfl rfl ⟨Nat.le_of_ble_eq_true rfl, Nat.le_of_ble_eq_true rfl⟩ rfl hl.1 rfl (Nat.le_of_ble_eq_true rfl) ⟨by show 10 + 100 * j + 2 + 0 ≤ 600000; omega, by show 300 + 5000 * j + 152 + 0 ≤ 7302250; omega⟩ hS (fun q h => hmlo q h) (fun v2 H2 locs2 hp2 hz2 hk2 hS => ?_)
          obtain ⟨rfl, hP2⟩ := hp2
          have hpx2 := px_kept hpx1 (fun q g1 g2 => hk2 q g1 (hRM1 q g2))
          show W p l e room_1 s m _ below meth c H2 locs2 (10 + 100 * j + 2) (300 + 5000 * j + 152) _ (F0 m 303 ls [.int (nI nv), .int (nI nv)])
          refine lv_icmp_eq (tgt := 453) hx hb d_law_303 (by decide) (fun c9 => ?_) (fun c9 => absurd (rfl) c9)
          refine W.widen (k := 10 + 100 * (j + 1)) (n := 300 + 5000 * (j + 1)) (by omega) (by omega) ?_
          exact kk H2 locs2 ⟨(xA RX H.size), 0, sd, db, kq, some (db, kq, n), n, lf, nv, upd vb k u1, upd vt k 0, hpx2, hP2, (Or.inr ⟨rfl, hn0, hn⟩), hlf, hnv, (by rw [upd_same hvk]; exact hdis), upd_01 ht hst, hRlo1, hRM1⟩ hS
  · refine lv_iconst (v := 1) hx hb d_law_273 (by decide) ?_
    refine lv_goto (tgt := 278) hx hb d_law_274 (by decide) ?_
    have hst : (1 : Int32) = 0 ∨ (1 : Int32) = 1 := Or.inr rfl
    rcases hdr with ⟨rfl, rfl⟩ | ⟨rfl, hn0, hn⟩
    · obtain ⟨Lv, av, ev, dv, ho, -, -, -, -, -, -, hdv⟩ := id hpx
      obtain rfl : dv = none := hdv
      have ho : ob D 0 h0 [.long sd, .null, .ref Lv, .int (nI lf)] H := ho
      refine k_V hx hb hml hown hg hk h0 [.int u1, .int 1] [] (c_PD_verdict_0 l D h0 Lv sd (nI lf) u1 1) z_PD_verdict w_240 w_241 w_242 (px_rc hk hpx) (ho) d_law_278 rfl rfl ⟨Nat.le_of_ble_eq_true rfl, Nat.le_of_ble_eq_true rfl⟩ rfl hl.1 rfl (Nat.le_of_ble_eq_true rfl) ⟨by show 10 + 100 * j ≤ 600000; omega, by show 300 + 5000 * j ≤ 7302250; omega⟩ ?_
      refine lv_aload_n hx hb d_law_281 rfl (lv_at hl 1 rfl) ?_
      refine lv_aload_n hx hb d_law_282 rfl (lv_at hl 3 rfl) ?_
      refine lv_iload_n hx hb d_law_283 rfl (lv_at hl 0 rfl) ?_
      refine lv_iconst (v := 1) hx hb d_law_284 (by decide) ?_
      refine lv_iadd hx hb d_law_285 ?_
      refine va_sld hx hb hX hbl hbA hS hv1 d_law_286 ?_
      rw [← eu1]
      refine lv_aload_n hx hb d_law_287 rfl (lv_at hl 3 rfl) ?_
      refine lv_iload_n hx hb d_law_288 rfl (lv_at hl 0 rfl) ?_
      refine lv_iconst (v := 2) hx hb d_law_289 (by decide) ?_
      refine lv_iadd hx hb d_law_290 ?_
      refine va_sld hx hb hX hbl hbA hS hv2 d_law_291 ?_
      rw [← eu2]
      refine lv_if_eq (tgt := 299) hx hb d_law_292 (by decide) (fun c8 => absurd c8 c7) (fun c8 => ?_)
      refine lv_iconst (v := 1) hx hb d_law_295 (by decide) ?_
      refine lv_goto (tgt := 300) hx hb d_law_296 (by decide) ?_
      refine m_V hx hb hml hown hg g0 [.int u1, .int 1] [.int (-13)] (c_MO_verdict_0 l D g0 a1 a2 a3 hmj th sd db kq (nI lf) (nI nv) vb vt ik u1 1) z_MO_verdict w_378 w_379 w_380 (rc_ob hk (hP 0 _ rfl) rfl) (pre_P hk hP) d_law_300 rfl rfl ⟨Nat.le_of_ble_eq_true rfl, Nat.le_of_ble_eq_true rfl⟩ rfl hl.1 rfl (Nat.le_of_ble_eq_true rfl) ⟨by show 10 + 100 * j + 0 ≤ 600000; omega, by show 300 + 5000 * j + 0 ≤ 7302250; omega⟩ hS (fun q h => hmlo q h) (fun v2 H2 locs2 hp2 hz2 hk2 hS => ?_)
      obtain ⟨rfl, hP2⟩ := hp2
      have hpx2 := px_kept hpx (fun q g1 g2 => hk2 q g1 (hRM q g2))
      show W p l e room_1 s m _ below meth c H2 locs2 (10 + 100 * j) (300 + 5000 * j) _ (F0 m 303 ls [.int (-13), .int (-13)])
      refine lv_icmp_eq (tgt := 453) hx hb d_law_303 (by decide) (fun _ => ?_) (fun h => absurd (by decide) h)
      refine W.widen (k := 10 + 100 * (j + 1)) (n := 300 + 5000 * (j + 1)) (by omega) (by omega) ?_
      exact kk H2 locs2 ⟨RX, 0, sd, db, kq, none, 0, lf, nv, vb, vt, hpx2, hP2, (Or.inl ⟨rfl, rfl⟩), hlf, hnv, hdis, ht, hRlo, hRM⟩ hS
    · by_cases hyes : p_in u1 1 (nI (2 ^ n - 1)) = 0
      · obtain ⟨Lv, av, ev, dv, ho, -, hvq, -, -, -, -, d, rfl, -, hdrw⟩ := id hpx
        have ho : ob D 0 h0 [.long sd, .ref d, .ref Lv, .int (nI lf)] H := ho
        refine k_V hx hb hml hown hg hk h0 [.int u1, .int 1] [] (c_PD_verdict_1 l D t0 h0 d Lv n (fun x => RX x ∧ ¬ x = Lv ∧ ¬ x = av) sd db kq (nI lf) hn0 hn u1 1 hyes) z_PD_verdict w_240 w_241 w_242 (px_rc hk hpx) (⟨ho, hdrw⟩) d_law_278 rfl rfl ⟨Nat.le_of_ble_eq_true rfl, Nat.le_of_ble_eq_true rfl⟩ rfl hl.1 rfl (Nat.le_of_ble_eq_true rfl) ⟨by show 10 + 100 * j ≤ 600000; omega, by show 300 + 5000 * j ≤ 7302250; omega⟩ ?_
        refine lv_aload_n hx hb d_law_281 rfl (lv_at hl 1 rfl) ?_
        refine lv_aload_n hx hb d_law_282 rfl (lv_at hl 3 rfl) ?_
        refine lv_iload_n hx hb d_law_283 rfl (lv_at hl 0 rfl) ?_
        refine lv_iconst (v := 1) hx hb d_law_284 (by decide) ?_
        refine lv_iadd hx hb d_law_285 ?_
        refine va_sld hx hb hX hbl hbA hS hv1 d_law_286 ?_
        rw [← eu1]
        refine lv_aload_n hx hb d_law_287 rfl (lv_at hl 3 rfl) ?_
        refine lv_iload_n hx hb d_law_288 rfl (lv_at hl 0 rfl) ?_
        refine lv_iconst (v := 2) hx hb d_law_289 (by decide) ?_
        refine lv_iadd hx hb d_law_290 ?_
        refine va_sld hx hb hX hbl hbA hS hv2 d_law_291 ?_
        rw [← eu2]
        refine lv_if_eq (tgt := 299) hx hb d_law_292 (by decide) (fun c8 => absurd c8 c7) (fun c8 => ?_)
        refine lv_iconst (v := 1) hx hb d_law_295 (by decide) ?_
        refine lv_goto (tgt := 300) hx hb d_law_296 (by decide) ?_
        refine m_V hx hb hml hown hg g0 [.int u1, .int 1] [.int (-12)] (c_MO_verdict_1 l D g0 a1 a2 a3 hmj th sd db kq (nI lf) vb vt ik n hn0 hn nv hnv u1 1 hst hyes) z_MO_verdict w_378 w_379 w_380 (rc_ob hk (hP 0 _ rfl) rfl) (pre_P hk hP) d_law_300 rfl rfl ⟨Nat.le_of_ble_eq_true rfl, Nat.le_of_ble_eq_true rfl⟩ rfl hl.1 rfl (Nat.le_of_ble_eq_true rfl) ⟨by show 10 + 100 * j + 0 ≤ 600000; omega, by show 300 + 5000 * j + 0 ≤ 7302250; omega⟩ hS (fun q h => hmlo q h) (fun v2 H2 locs2 hp2 hz2 hk2 hS => ?_)
        obtain ⟨rfl, hP2⟩ := hp2
        have hpx2 := px_kept hpx (fun q g1 g2 => hk2 q g1 (hRM q g2))
        show W p l e room_1 s m _ below meth c H2 locs2 (10 + 100 * j) (300 + 5000 * j) _ (F0 m 303 ls [.int (-12), .int (-12)])
        refine lv_icmp_eq (tgt := 453) hx hb d_law_303 (by decide) (fun _ => ?_) (fun h => absurd (by decide) h)
        refine W.widen (k := 10 + 100 * (j + 1)) (n := 300 + 5000 * (j + 1)) (by omega) (by omega) ?_
        exact kk H2 locs2 ⟨RX, 0, sd, db, kq, some (db, kq, n), n, lf, nv, vb, vt, hpx2, hP2, (Or.inr ⟨rfl, hn0, hn⟩), hlf, hnv, hdis, ht, hRlo, hRM⟩ hS
      · cases hat : p_at vb u1 nv with
        | none =>
          by_cases h100 : nv = 100
          · obtain ⟨Lv, av, ev, dv, ho, -, hvq, -, -, -, -, d, rfl, -, hdrw⟩ := id hpx
            have ho : ob D 0 h0 [.long sd, .ref d, .ref Lv, .int (nI lf)] H := ho
            refine k_V hx hb hml hown hg hk h0 [.int u1, .int 1] [] (c_PD_verdict_2 l D t0 h0 d Lv n (fun x => RX x ∧ ¬ x = Lv ∧ ¬ x = av) sd db kq lf hn0 hn av nv ev vb vt hnv hdis ht u1 1 hyes hat h100) z_PD_verdict w_240 w_241 w_242 (px_rc hk hpx) (⟨ho, hdrw, hvq⟩) d_law_278 rfl rfl ⟨Nat.le_of_ble_eq_true rfl, Nat.le_of_ble_eq_true rfl⟩ rfl hl.1 rfl (Nat.le_of_ble_eq_true rfl) ⟨by show 10 + 100 * j ≤ 600000; omega, by show 300 + 5000 * j ≤ 7302250; omega⟩ ?_
            refine lv_aload_n hx hb d_law_281 rfl (lv_at hl 1 rfl) ?_
            refine lv_aload_n hx hb d_law_282 rfl (lv_at hl 3 rfl) ?_
            refine lv_iload_n hx hb d_law_283 rfl (lv_at hl 0 rfl) ?_
            refine lv_iconst (v := 1) hx hb d_law_284 (by decide) ?_
            refine lv_iadd hx hb d_law_285 ?_
            refine va_sld hx hb hX hbl hbA hS hv1 d_law_286 ?_
            rw [← eu1]
            refine lv_aload_n hx hb d_law_287 rfl (lv_at hl 3 rfl) ?_
            refine lv_iload_n hx hb d_law_288 rfl (lv_at hl 0 rfl) ?_
            refine lv_iconst (v := 2) hx hb d_law_289 (by decide) ?_
            refine lv_iadd hx hb d_law_290 ?_
            refine va_sld hx hb hX hbl hbA hS hv2 d_law_291 ?_
            rw [← eu2]
            refine lv_if_eq (tgt := 299) hx hb d_law_292 (by decide) (fun c8 => absurd c8 c7) (fun c8 => ?_)
            refine lv_iconst (v := 1) hx hb d_law_295 (by decide) ?_
            refine lv_goto (tgt := 300) hx hb d_law_296 (by decide) ?_
            refine m_V hx hb hml hown hg g0 [.int u1, .int 1] [.int (-14)] (c_MO_verdict_2 l D g0 a1 a2 a3 hmj th sd db kq (nI lf) vb vt ik n hn0 hn nv hnv u1 1 hst hyes hat h100) z_MO_verdict w_378 w_379 w_380 (rc_ob hk (hP 0 _ rfl) rfl) (pre_P hk hP) d_law_300 rfl rfl ⟨Nat.le_of_ble_eq_true rfl, Nat.le_of_ble_eq_true rfl⟩ rfl hl.1 rfl (Nat.le_of_ble_eq_true rfl) ⟨by show 10 + 100 * j + 0 ≤ 600000; omega, by show 300 + 5000 * j + 0 ≤ 7302250; omega⟩ hS (fun q h => hmlo q h) (fun v2 H2 locs2 hp2 hz2 hk2 hS => ?_)
            obtain ⟨rfl, hP2⟩ := hp2
            have hpx2 := px_kept hpx (fun q g1 g2 => hk2 q g1 (hRM q g2))
            show W p l e room_1 s m _ below meth c H2 locs2 (10 + 100 * j) (300 + 5000 * j) _ (F0 m 303 ls [.int (-14), .int (-14)])
            refine lv_icmp_eq (tgt := 453) hx hb d_law_303 (by decide) (fun _ => ?_) (fun h => absurd (by decide) h)
            refine W.widen (k := 10 + 100 * (j + 1)) (n := 300 + 5000 * (j + 1)) (by omega) (by omega) ?_
            exact kk H2 locs2 ⟨RX, 0, sd, db, kq, some (db, kq, n), n, lf, nv, vb, vt, hpx2, hP2, (Or.inr ⟨rfl, hn0, hn⟩), hlf, hnv, hdis, ht, hRlo, hRM⟩ hS
          · have h100 : nv < 100 := by omega
            have hRlo1 : ∀ q, xA RX H.size q → s.heap.size ≤ q := fun q h => h.elim (fun h => hRlo q h) (fun h => Nat.le_trans hS.1 h)
            have hRM1 : ∀ q, xA RX H.size q → ¬ mA g0 a1 a2 a3 q := fun q h g => h.elim (fun h => hRM q h g) (fun h => absurd (hmlt q g) (Nat.not_lt.mpr h))
            refine m_V hx hb hml hown hg h0 [.int u1, .int 1] [] (c_PD_verdict_3 l D t0 h0 H.size RX sd db kq n lf nv vb vt hn0 hn hnv hdis u1 1 hst hyes hat h100) z_PD_verdict w_240 w_241 w_242 (px_rc hk hpx) (pre_Z hk (hz.at hS (fun q h => hRlo1 q h)) ⟨rfl, hpx⟩) d_law_278 rfl rfl ⟨Nat.le_of_ble_eq_true rfl, Nat.le_of_ble_eq_true rfl⟩ rfl hl.1 rfl (Nat.le_of_ble_eq_true rfl) ⟨by show 10 + 100 * j + 2 ≤ 600000; omega, by show 300 + 5000 * j + 152 ≤ 7302250; omega⟩ hS (fun q h => hRlo1 q h) (fun v1 H1 locs1 hp1 hz1 hk1 hS => ?_)
            obtain ⟨rfl, hpx1⟩ := hp1
            have hP1 := va_P.kept hP (fun t q hq => hk1 q.1 (va_at.lt (hP t q hq)) (fun h => hRM1 q.1 h (hmem q t hq)))
            show W p l e room_1 s m _ below meth c H1 locs1 (10 + 100 * j + 2) (300 + 5000 * j + 152) _ (F0 m 281 ls (.int (nI (nv + 1)) :: []))
            refine lv_aload_n hx hb d_law_281 rfl (lv_at hl 1 rfl) ?_
            refine lv_aload_n hx hb d_law_282 rfl (lv_at hl 3 rfl) ?_
            refine lv_iload_n hx hb d_law_283 rfl (lv_at hl 0 rfl) ?_
            refine lv_iconst (v := 1) hx hb d_law_284 (by decide) ?_
            refine lv_iadd hx hb d_law_285 ?_
            refine va_sld hx hb hX hbl hbA hS hv1 d_law_286 ?_
            rw [← eu1]
            refine lv_aload_n hx hb d_law_287 rfl (lv_at hl 3 rfl) ?_
            refine lv_iload_n hx hb d_law_288 rfl (lv_at hl 0 rfl) ?_
            refine lv_iconst (v := 2) hx hb d_law_289 (by decide) ?_
            refine lv_iadd hx hb d_law_290 ?_
            refine va_sld hx hb hX hbl hbA hS hv2 d_law_291 ?_
            rw [← eu2]
            refine lv_if_eq (tgt := 299) hx hb d_law_292 (by decide) (fun c8 => absurd c8 c7) (fun c8 => ?_)
            refine lv_iconst (v := 1) hx hb d_law_295 (by decide) ?_
            refine lv_goto (tgt := 300) hx hb d_law_296 (by decide) ?_
            refine m_V hx hb hml hown hg g0 [.int u1, .int 1] [.int (nI (nv + 1))] (c_MO_verdict_3 l D g0 a1 a2 a3 hmj th sd db kq (nI lf) vb vt ik n hn0 hn nv hnv u1 1 hst hyes hat h100) z_MO_verdict w_378 w_379 w_380 (rc_ob hk (hP1 0 _ rfl) rfl) (pre_P hk hP1) d_law_300 rfl rfl ⟨Nat.le_of_ble_eq_true rfl, Nat.le_of_ble_eq_true rfl⟩ rfl hl.1 rfl (Nat.le_of_ble_eq_true rfl) ⟨by show 10 + 100 * j + 2 + 0 ≤ 600000; omega, by show 300 + 5000 * j + 152 + 0 ≤ 7302250; omega⟩ hS (fun q h => hmlo q h) (fun v2 H2 locs2 hp2 hz2 hk2 hS => ?_)
            obtain ⟨rfl, hP2⟩ := hp2
            have hpx2 := px_kept hpx1 (fun q g1 g2 => hk2 q g1 (hRM1 q g2))
            show W p l e room_1 s m _ below meth c H2 locs2 (10 + 100 * j + 2) (300 + 5000 * j + 152) _ (F0 m 303 ls [.int (nI (nv + 1)), .int (nI (nv + 1))])
            refine lv_icmp_eq (tgt := 453) hx hb d_law_303 (by decide) (fun c9 => ?_) (fun c9 => absurd (rfl) c9)
            refine W.widen (k := 10 + 100 * (j + 1)) (n := 300 + 5000 * (j + 1)) (by omega) (by omega) ?_
            exact kk H2 locs2 ⟨(xA RX H.size), 0, sd, db, kq, some (db, kq, n), n, lf, nv + 1, upd vb nv u1, upd vt nv 1, hpx2, hP2, (Or.inr ⟨rfl, hn0, hn⟩), hlf, h100, upd_dis hdis hat, upd_01s ht hst, hRlo1, hRM1⟩ hS
        | some k =>
          have hvk := (p_at_lt hat).2
          have hRlo1 : ∀ q, xA RX H.size q → s.heap.size ≤ q := fun q h => h.elim (fun h => hRlo q h) (fun h => Nat.le_trans hS.1 h)
          have hRM1 : ∀ q, xA RX H.size q → ¬ mA g0 a1 a2 a3 q := fun q h g => h.elim (fun h => hRM q h g) (fun h => absurd (hmlt q g) (Nat.not_lt.mpr h))
          refine m_V hx hb hml hown hg h0 [.int u1, .int 1] [] (c_PD_verdict_4 l D t0 h0 H.size RX sd db kq n lf nv vb vt hn0 hn hnv hdis u1 1 hst hyes k hat) z_PD_verdict w_240 w_241 w_242 (px_rc hk hpx) (pre_P hk ⟨rfl, hpx⟩) d_law_278 rfl rfl ⟨Nat.le_of_ble_eq_true rfl, Nat.le_of_ble_eq_true rfl⟩ rfl hl.1 rfl (Nat.le_of_ble_eq_true rfl) ⟨by show 10 + 100 * j + 2 ≤ 600000; omega, by show 300 + 5000 * j + 152 ≤ 7302250; omega⟩ hS (fun q h => hRlo1 q h) (fun v1 H1 locs1 hp1 hz1 hk1 hS => ?_)
          obtain ⟨rfl, hpx1⟩ := hp1
          have hP1 := va_P.kept hP (fun t q hq => hk1 q.1 (va_at.lt (hP t q hq)) (fun h => hRM1 q.1 h (hmem q t hq)))
          show W p l e room_1 s m _ below meth c H1 locs1 (10 + 100 * j + 2) (300 + 5000 * j + 152) _ (F0 m 281 ls (.int (nI nv) :: []))
          refine lv_aload_n hx hb d_law_281 rfl (lv_at hl 1 rfl) ?_
          refine lv_aload_n hx hb d_law_282 rfl (lv_at hl 3 rfl) ?_
          refine lv_iload_n hx hb d_law_283 rfl (lv_at hl 0 rfl) ?_
          refine lv_iconst (v := 1) hx hb d_law_284 (by decide) ?_
          refine lv_iadd hx hb d_law_285 ?_
          refine va_sld hx hb hX hbl hbA hS hv1 d_law_286 ?_
          rw [← eu1]
          refine lv_aload_n hx hb d_law_287 rfl (lv_at hl 3 rfl) ?_
          refine lv_iload_n hx hb d_law_288 rfl (lv_at hl 0 rfl) ?_
          refine lv_iconst (v := 2) hx hb d_law_289 (by decide) ?_
          refine lv_iadd hx hb d_law_290 ?_
          refine va_sld hx hb hX hbl hbA hS hv2 d_law_291 ?_
          rw [← eu2]
          refine lv_if_eq (tgt := 299) hx hb d_law_292 (by decide) (fun c8 => absurd c8 c7) (fun c8 => ?_)
          refine lv_iconst (v := 1) hx hb d_law_295 (by decide) ?_
          refine lv_goto (tgt := 300) hx hb d_law_296 (by decide) ?_
          refine m_V hx hb hml hown hg g0 [.int u1, .int 1] [.int (nI nv)] (c_MO_verdict_4 l D g0 a1 a2 a3 hmj th sd db kq (nI lf) vb vt ik n hn0 hn nv hnv u1 1 hst hyes k hat) z_MO_verdict w_378 w_379 w_380 (rc_ob hk (hP1 0 _ rfl) rfl) (pre_P hk hP1) d_law_300 rfl rfl ⟨Nat.le_of_ble_eq_true rfl, Nat.le_of_ble_eq_true rfl⟩ rfl hl.1 rfl (Nat.le_of_ble_eq_true rfl) ⟨by show 10 + 100 * j + 2 + 0 ≤ 600000; omega, by show 300 + 5000 * j + 152 + 0 ≤ 7302250; omega⟩ hS (fun q h => hmlo q h) (fun v2 H2 locs2 hp2 hz2 hk2 hS => ?_)
          obtain ⟨rfl, hP2⟩ := hp2
          have hpx2 := px_kept hpx1 (fun q g1 g2 => hk2 q g1 (hRM1 q g2))
          show W p l e room_1 s m _ below meth c H2 locs2 (10 + 100 * j + 2) (300 + 5000 * j + 152) _ (F0 m 303 ls [.int (nI nv), .int (nI nv)])
          refine lv_icmp_eq (tgt := 453) hx hb d_law_303 (by decide) (fun c9 => ?_) (fun c9 => absurd (rfl) c9)
          refine W.widen (k := 10 + 100 * (j + 1)) (n := 300 + 5000 * (j + 1)) (by omega) (by omega) ?_
          exact kk H2 locs2 ⟨(xA RX H.size), 0, sd, db, kq, some (db, kq, n), n, lf, nv, upd vb k u1, upd vt k 1, hpx2, hP2, (Or.inr ⟨rfl, hn0, hn⟩), hlf, hnv, (by rw [upd_same hvk]; exact hdis), upd_01 ht hst, hRlo1, hRM1⟩ hS
set_option maxHeartbeats 4000000 in
set_option maxRecDepth 100000 in
theorem law_5 {p : Program} (l : Launch) {e : Env} {s : State} {m : MethodId} {below : List Frame} {meth : Method} {c : Code} {b L : Nat} {xs : Nat → Int32} {D : va_G} {t0 h0 g0 a1 a2 a3 : Nat} {ik : Nat → Int32} (C : lc p s m meth c b L xs D t0) (S : lst s.heap.size g0 a1 a2 a3 ik) {i j : Nat} (hij : i + 5 ≤ L) (hL : L ≤ 2561) (hj : j < 512) {H : Heap} {locs : List Loc} {ls : Array Slot} (hli : li D t0 s.heap.size h0 g0 a1 a2 a3 ik H) (hS : va_S (fun q => s.heap.size ≤ q) s.heap H locs) (hl : lv_has ls 4 [(3, .int (nI i)), (2, .ref g0), (1, .ref h0), (0, .ref b)]) (kk : ∀ (H1 : Heap) (locs1 : List Loc), li D t0 s.heap.size h0 g0 a1 a2 a3 ik H1 → va_S (fun q => s.heap.size ≤ q) s.heap H1 locs1 → W p l e room_1 s m #[Value.ref b] below meth c H1 locs1 (10 + 100 * (j + 1)) (300 + 5000 * (j + 1)) (lw_Z below #[Value.ref b] s) (F0 m 453 ls [])) : W p l e room_1 s m #[Value.ref b] below meth c H locs (10 + 100 * j) (300 + 5000 * j) (lw_Z below #[Value.ref b] s) (F0 m 308 ls []) := by
  obtain ⟨hx, hb, hr, hml, hown, hg, hX, hbl, hlocks, hk, hz⟩ := C
  obtain ⟨hmj, hmlo, hik⟩ := S
  obtain ⟨RX, th, sd, db, kq, dr, n, lf, nv, vb, vt, hpx, hP, hdr, hlf, hnv, hdis, ht, hRlo, hRM⟩ := hli
  have hbA : ¬ (fun q => s.heap.size ≤ q) b := Nat.not_le.mpr hbl
  have hmem : ∀ (q : Nat × va_E) (t : Nat), (mo D g0 a1 a2 a3 th sd db (nI n) kq (nI lf) (nI nv) vb vt ik)[t]? = some q → mA g0 a1 a2 a3 q.1 := fun q t hq => (mo_D hmj _ _ _ _).2 t q hq
  have hmlt : ∀ q, mA g0 a1 a2 a3 q → q < H.size := fun q h => by rcases h with h | h | h | h; rw [h]; exact va_at.lt (hP 0 _ rfl); rw [h]; exact va_at.lt (hP 1 _ rfl); rw [h]; exact va_at.lt (hP 2 _ rfl); rw [h]; exact va_at.lt (hP 3 _ rfl)
  rcases hdr with ⟨rfl, rfl⟩ | ⟨rfl, hn0, hn⟩
  · obtain ⟨Lv, av, ev, dv, ho, -, -, -, -, -, -, hdv⟩ := id hpx
    obtain rfl : dv = none := hdv
    have ho : ob D 0 h0 [.long sd, .null, .ref Lv, .int (nI lf)] H := ho
    refine lv_aload_n hx hb d_law_308 rfl (lv_at hl 2 rfl) ?_
    refine k_V hx hb hml hown hg hk h0 [] [] (c_PD_shorter_0 l D h0 Lv sd (nI lf)) z_PD_shorter w_263 w_264 w_265 (px_rc hk hpx) (ho) d_law_309 rfl rfl ⟨Nat.le_of_ble_eq_true rfl, Nat.le_of_ble_eq_true rfl⟩ rfl hl.1 rfl (Nat.le_of_ble_eq_true rfl) ⟨by show 10 + 100 * j ≤ 600000; omega, by show 300 + 5000 * j ≤ 7302250; omega⟩ ?_
    refine lv_aload_n hx hb d_law_312 rfl (lv_at hl 1 rfl) ?_
    refine m_V hx hb hml hown hg g0 [] [.int (-13)] (c_MO_shorter_0 l D g0 a1 a2 a3 hmj th sd db kq (nI lf) (nI nv) vb vt ik) z_MO_shorter w_386 w_387 w_388 (rc_ob hk (hP 0 _ rfl) rfl) (pre_P hk hP) d_law_313 rfl rfl ⟨Nat.le_of_ble_eq_true rfl, Nat.le_of_ble_eq_true rfl⟩ rfl hl.1 rfl (Nat.le_of_ble_eq_true rfl) ⟨by show 10 + 100 * j + 0 ≤ 600000; omega, by show 300 + 5000 * j + 0 ≤ 7302250; omega⟩ hS (fun q h => hmlo q h) (fun v2 H2 locs2 hp2 hz2 hk2 hS => ?_)
    obtain ⟨rfl, hP2⟩ := hp2
    have hpx2 := px_kept hpx (fun q g1 g2 => hk2 q g1 (hRM q g2))
    show W p l e room_1 s m _ below meth c H2 locs2 (10 + 100 * j) (300 + 5000 * j) _ (F0 m 316 ls [.int (-13), .int (-13)])
    refine lv_icmp_eq (tgt := 453) hx hb d_law_316 (by decide) (fun _ => ?_) (fun h => absurd (by decide) h)
    refine W.widen (k := 10 + 100 * (j + 1)) (n := 300 + 5000 * (j + 1)) (by omega) (by omega) ?_
    exact kk H2 locs2 ⟨RX, 0, sd, db, kq, none, 0, lf, nv, vb, vt, hpx2, hP2, (Or.inl ⟨rfl, rfl⟩), hlf, hnv, hdis, ht, hRlo, hRM⟩ hS
  · have hsl := p_sh_lt (st := (fun x => p_st vb vt nv (nI x))) (n := n) (fun r h => h ▸ p_fix_le _ _ _)
    have h2p : 2 ^ n ≤ 2 ^ 16 := Nat.pow_le_pow_right (by decide) hn
    have h2q := Nat.two_pow_pos n
    refine lv_aload_n hx hb d_law_308 rfl (lv_at hl 2 rfl) ?_
    have hRlo1 : ∀ q, xA RX H.size q → s.heap.size ≤ q := fun q h => h.elim (fun h => hRlo q h) (fun h => Nat.le_trans hS.1 h)
    have hRM1 : ∀ q, xA RX H.size q → ¬ mA g0 a1 a2 a3 q := fun q h g => h.elim (fun h => hRM q h g) (fun h => absurd (hmlt q g) (Nat.not_lt.mpr h))
    refine m_V hx hb hml hown hg h0 [] [] (c_PD_shorter_1 l D t0 h0 H.size RX sd db kq n lf nv vb vt hn0 hn hnv hdis ht) z_PD_shorter w_263 w_264 w_265 (px_rc hk hpx) (pre_P hk ⟨rfl, hpx⟩) d_law_309 rfl rfl ⟨Nat.le_of_ble_eq_true rfl, Nat.le_of_ble_eq_true rfl⟩ rfl hl.1 rfl (Nat.le_of_ble_eq_true rfl) ⟨by show 10 + 100 * j + 0 ≤ 600000; omega, by show 300 + 5000 * j + 0 ≤ 7302250; omega⟩ hS (fun q h => hRlo1 q h) (fun v1 H1 locs1 hp1 hz1 hk1 hS => ?_)
    obtain ⟨rfl, hpx1⟩ := hp1
    have hP1 := va_P.kept hP (fun t q hq => hk1 q.1 (va_at.lt (hP t q hq)) (fun h => hRM1 q.1 h (hmem q t hq)))
    show W p l e room_1 s m _ below meth c H1 locs1 (10 + 100 * j + 0) (300 + 5000 * j + 0) _ (F0 m 312 ls (.int (nI (p_pop (p_sh (fun x => p_st vb vt nv (nI x)) n) 16)) :: []))
    refine lv_aload_n hx hb d_law_312 rfl (lv_at hl 1 rfl) ?_
    refine m_V hx hb hml hown hg g0 [] [.int (nI (p_pop (p_sh (fun x => p_st vb vt nv (nI x)) n) 16))] (c_MO_shorter_1 l D g0 a1 a2 a3 hmj th sd db kq (nI lf) vb vt ik n hn0 hn nv hnv ht) z_MO_shorter w_386 w_387 w_388 (rc_ob hk (hP1 0 _ rfl) rfl) (pre_P hk hP1) d_law_313 rfl rfl ⟨Nat.le_of_ble_eq_true rfl, Nat.le_of_ble_eq_true rfl⟩ rfl hl.1 rfl (Nat.le_of_ble_eq_true rfl) ⟨by show 10 + 100 * j + 0 + 0 ≤ 600000; omega, by show 300 + 5000 * j + 0 + 0 ≤ 7302250; omega⟩ hS (fun q h => hmlo q h) (fun v2 H2 locs2 hp2 hz2 hk2 hS => ?_)
    obtain ⟨rfl, hP2⟩ := hp2
    have hpx2 := px_kept hpx1 (fun q g1 g2 => hk2 q g1 (hRM1 q g2))
    show W p l e room_1 s m _ below meth c H2 locs2 (10 + 100 * j + 0) (300 + 5000 * j + 0) _ (F0 m 316 ls [.int (nI (p_pop (p_sh (fun x => p_st vb vt nv (nI x)) n) 16)), .int (nI (p_pop (p_sh (fun x => p_st vb vt nv (nI x)) n) 16))])
    refine lv_icmp_eq (tgt := 453) hx hb d_law_316 (by decide) (fun c9 => ?_) (fun c9 => absurd (rfl) c9)
    refine W.widen (k := 10 + 100 * (j + 1)) (n := 300 + 5000 * (j + 1)) (by omega) (by omega) ?_
    exact kk H2 locs2 ⟨(xA RX H.size), 0, sd, db, kq, some (db, kq, n), n, p_sh (fun x => p_st vb vt nv (nI x)) n, nv, vb, vt, hpx2, hP2, (Or.inr ⟨rfl, hn0, hn⟩), by omega, hnv, hdis, ht, hRlo1, hRM1⟩ hS
set_option maxHeartbeats 4000000 in
set_option maxRecDepth 100000 in
theorem law_6 {p : Program} (l : Launch) {e : Env} {s : State} {m : MethodId} {below : List Frame} {meth : Method} {c : Code} {b L : Nat} {xs : Nat → Int32} {D : va_G} {t0 h0 g0 a1 a2 a3 : Nat} {ik : Nat → Int32} (C : lc p s m meth c b L xs D t0) (S : lst s.heap.size g0 a1 a2 a3 ik) {i j : Nat} (hij : i + 5 ≤ L) (hL : L ≤ 2561) (hj : j < 512) {H : Heap} {locs : List Loc} {ls : Array Slot} (hli : li D t0 s.heap.size h0 g0 a1 a2 a3 ik H) (hS : va_S (fun q => s.heap.size ≤ q) s.heap H locs) (hl : lv_has ls 4 [(3, .int (nI i)), (2, .ref g0), (1, .ref h0), (0, .ref b)]) (kk : ∀ (H1 : Heap) (locs1 : List Loc), li D t0 s.heap.size h0 g0 a1 a2 a3 ik H1 → va_S (fun q => s.heap.size ≤ q) s.heap H1 locs1 → W p l e room_1 s m #[Value.ref b] below meth c H1 locs1 (10 + 100 * (j + 1)) (300 + 5000 * (j + 1)) (lw_Z below #[Value.ref b] s) (F0 m 453 ls [])) : W p l e room_1 s m #[Value.ref b] below meth c H locs (10 + 100 * j) (300 + 5000 * j) (lw_Z below #[Value.ref b] s) (F0 m 321 ls []) := by
  obtain ⟨hx, hb, hr, hml, hown, hg, hX, hbl, hlocks, hk, hz⟩ := C
  obtain ⟨hmj, hmlo, hik⟩ := S
  obtain ⟨RX, th, sd, db, kq, dr, n, lf, nv, vb, vt, hpx, hP, hdr, hlf, hnv, hdis, ht, hRlo, hRM⟩ := hli
  have hbA : ¬ (fun q => s.heap.size ≤ q) b := Nat.not_le.mpr hbl
  have hmem : ∀ (q : Nat × va_E) (t : Nat), (mo D g0 a1 a2 a3 th sd db (nI n) kq (nI lf) (nI nv) vb vt ik)[t]? = some q → mA g0 a1 a2 a3 q.1 := fun q t hq => (mo_D hmj _ _ _ _).2 t q hq
  have hmlt : ∀ q, mA g0 a1 a2 a3 q → q < H.size := fun q h => by rcases h with h | h | h | h; rw [h]; exact va_at.lt (hP 0 _ rfl); rw [h]; exact va_at.lt (hP 1 _ rfl); rw [h]; exact va_at.lt (hP 2 _ rfl); rw [h]; exact va_at.lt (hP 3 _ rfl)
  obtain ⟨u1, eu1⟩ : ∃ u : Int32, u = xs (nI i + 1).toNatClampNeg := ⟨_, rfl⟩
  have hv1 : vp_in (nI i + 1) L := by show vp_in (nI i + nI 1) L; rw [nI_add]; exact vp_in_nI (by omega) (by omega)
  rcases hdr with ⟨rfl, rfl⟩ | ⟨rfl, hn0, hn⟩
  · obtain ⟨Lv, av, ev, dv, ho, -, -, -, -, -, -, hdv⟩ := id hpx
    obtain rfl : dv = none := hdv
    have ho : ob D 0 h0 [.long sd, .null, .ref Lv, .int (nI lf)] H := ho
    refine lv_aload_n hx hb d_law_321 rfl (lv_at hl 2 rfl) ?_
    refine lv_aload_n hx hb d_law_322 rfl (lv_at hl 3 rfl) ?_
    refine lv_iload_n hx hb d_law_323 rfl (lv_at hl 0 rfl) ?_
    refine lv_iconst (v := 1) hx hb d_law_324 (by decide) ?_
    refine lv_iadd hx hb d_law_325 ?_
    refine va_sld hx hb hX hbl hbA hS hv1 d_law_326 ?_
    rw [← eu1]
    refine k_V hx hb hml hown hg hk h0 [.int u1] [] (c_PD_left_0 l D h0 Lv sd (nI lf) u1) z_PD_left w_275 w_276 w_277 (px_rc hk hpx) (ho) d_law_327 rfl rfl ⟨Nat.le_of_ble_eq_true rfl, Nat.le_of_ble_eq_true rfl⟩ rfl hl.1 rfl (Nat.le_of_ble_eq_true rfl) ⟨by show 10 + 100 * j ≤ 600000; omega, by show 300 + 5000 * j ≤ 7302250; omega⟩ ?_
    refine lv_aload_n hx hb d_law_330 rfl (lv_at hl 1 rfl) ?_
    refine lv_aload_n hx hb d_law_331 rfl (lv_at hl 3 rfl) ?_
    refine lv_iload_n hx hb d_law_332 rfl (lv_at hl 0 rfl) ?_
    refine lv_iconst (v := 1) hx hb d_law_333 (by decide) ?_
    refine lv_iadd hx hb d_law_334 ?_
    refine va_sld hx hb hX hbl hbA hS hv1 d_law_335 ?_
    rw [← eu1]
    refine m_V hx hb hml hown hg g0 [.int u1] [.int (-1)] (c_MO_left l D g0 a1 a2 a3 hmj th sd db kq (nI nv) vb vt ik 0 (Nat.zero_le _) lf hlf u1) z_MO_left w_401 w_402 w_403 (rc_ob hk (hP 0 _ rfl) rfl) (pre_P hk hP) d_law_336 rfl rfl ⟨Nat.le_of_ble_eq_true rfl, Nat.le_of_ble_eq_true rfl⟩ rfl hl.1 rfl (Nat.le_of_ble_eq_true rfl) ⟨by show 10 + 100 * j + 0 ≤ 600000; omega, by show 300 + 5000 * j + 0 ≤ 7302250; omega⟩ hS (fun q h => hmlo q h) (fun v2 H2 locs2 hp2 hz2 hk2 hS => ?_)
    obtain ⟨rfl, hP2⟩ := hp2
    have hpx2 := px_kept hpx (fun q g1 g2 => hk2 q g1 (hRM q g2))
    show W p l e room_1 s m _ below meth c H2 locs2 (10 + 100 * j) (300 + 5000 * j) _ (F0 m 339 ls [.int (p_ls lf u1 0 0), .int (-1)])
    refine lv_icmp_eq (tgt := 453) hx hb d_law_339 (by decide) (fun c9 => ?_) (fun c9 => absurd (rfl) c9)
    refine W.widen (k := 10 + 100 * (j + 1)) (n := 300 + 5000 * (j + 1)) (by omega) (by omega) ?_
    exact kk H2 locs2 ⟨RX, 0, sd, db, kq, none, 0, lf, nv, vb, vt, hpx2, hP2, (Or.inl ⟨rfl, rfl⟩), hlf, hnv, hdis, ht, hRlo, hRM⟩ hS
  · obtain ⟨Lv, av, ev, dv, ho, -, hvq, -, -, -, -, d, rfl, -, hdrw⟩ := id hpx
    have ho : ob D 0 h0 [.long sd, .ref d, .ref Lv, .int (nI lf)] H := ho
    refine lv_aload_n hx hb d_law_321 rfl (lv_at hl 2 rfl) ?_
    refine lv_aload_n hx hb d_law_322 rfl (lv_at hl 3 rfl) ?_
    refine lv_iload_n hx hb d_law_323 rfl (lv_at hl 0 rfl) ?_
    refine lv_iconst (v := 1) hx hb d_law_324 (by decide) ?_
    refine lv_iadd hx hb d_law_325 ?_
    refine va_sld hx hb hX hbl hbA hS hv1 d_law_326 ?_
    rw [← eu1]
    refine k_V hx hb hml hown hg hk h0 [.int u1] [] (c_PD_left l D t0 h0 d Lv n (fun x => RX x ∧ ¬ x = Lv ∧ ¬ x = av) sd db kq lf hlf hn0 hn u1) z_PD_left w_275 w_276 w_277 (px_rc hk hpx) (⟨ho, hdrw⟩) d_law_327 rfl rfl ⟨Nat.le_of_ble_eq_true rfl, Nat.le_of_ble_eq_true rfl⟩ rfl hl.1 rfl (Nat.le_of_ble_eq_true rfl) ⟨by show 10 + 100 * j ≤ 600000; omega, by show 300 + 5000 * j ≤ 7302250; omega⟩ ?_
    refine lv_aload_n hx hb d_law_330 rfl (lv_at hl 1 rfl) ?_
    refine lv_aload_n hx hb d_law_331 rfl (lv_at hl 3 rfl) ?_
    refine lv_iload_n hx hb d_law_332 rfl (lv_at hl 0 rfl) ?_
    refine lv_iconst (v := 1) hx hb d_law_333 (by decide) ?_
    refine lv_iadd hx hb d_law_334 ?_
    refine va_sld hx hb hX hbl hbA hS hv1 d_law_335 ?_
    rw [← eu1]
    refine m_V hx hb hml hown hg g0 [.int u1] [.int (p_ls lf u1 n 0)] (c_MO_left l D g0 a1 a2 a3 hmj th sd db kq (nI nv) vb vt ik n hn lf hlf u1) z_MO_left w_401 w_402 w_403 (rc_ob hk (hP 0 _ rfl) rfl) (pre_P hk hP) d_law_336 rfl rfl ⟨Nat.le_of_ble_eq_true rfl, Nat.le_of_ble_eq_true rfl⟩ rfl hl.1 rfl (Nat.le_of_ble_eq_true rfl) ⟨by show 10 + 100 * j + 0 ≤ 600000; omega, by show 300 + 5000 * j + 0 ≤ 7302250; omega⟩ hS (fun q h => hmlo q h) (fun v2 H2 locs2 hp2 hz2 hk2 hS => ?_)
    obtain ⟨rfl, hP2⟩ := hp2
    have hpx2 := px_kept hpx (fun q g1 g2 => hk2 q g1 (hRM q g2))
    show W p l e room_1 s m _ below meth c H2 locs2 (10 + 100 * j) (300 + 5000 * j) _ (F0 m 339 ls [.int (p_ls lf u1 n 0), .int (p_ls lf u1 n 0)])
    refine lv_icmp_eq (tgt := 453) hx hb d_law_339 (by decide) (fun c9 => ?_) (fun c9 => absurd (rfl) c9)
    refine W.widen (k := 10 + 100 * (j + 1)) (n := 300 + 5000 * (j + 1)) (by omega) (by omega) ?_
    exact kk H2 locs2 ⟨RX, 0, sd, db, kq, some (db, kq, n), n, lf, nv, vb, vt, hpx2, hP2, (Or.inr ⟨rfl, hn0, hn⟩), hlf, hnv, hdis, ht, hRlo, hRM⟩ hS
set_option maxHeartbeats 4000000 in
set_option maxRecDepth 100000 in
theorem law_7 {p : Program} (l : Launch) {e : Env} {s : State} {m : MethodId} {below : List Frame} {meth : Method} {c : Code} {b L : Nat} {xs : Nat → Int32} {D : va_G} {t0 h0 g0 a1 a2 a3 : Nat} {ik : Nat → Int32} (C : lc p s m meth c b L xs D t0) (S : lst s.heap.size g0 a1 a2 a3 ik) {i j : Nat} (hij : i + 5 ≤ L) (hL : L ≤ 2561) (hj : j < 512) {H : Heap} {locs : List Loc} {ls : Array Slot} (hli : li D t0 s.heap.size h0 g0 a1 a2 a3 ik H) (hS : va_S (fun q => s.heap.size ≤ q) s.heap H locs) (hl : lv_has ls 4 [(3, .int (nI i)), (2, .ref g0), (1, .ref h0), (0, .ref b)]) (kk : ∀ (H1 : Heap) (locs1 : List Loc), li D t0 s.heap.size h0 g0 a1 a2 a3 ik H1 → va_S (fun q => s.heap.size ≤ q) s.heap H1 locs1 → W p l e room_1 s m #[Value.ref b] below meth c H1 locs1 (10 + 100 * (j + 1)) (300 + 5000 * (j + 1)) (lw_Z below #[Value.ref b] s) (F0 m 453 ls [])) : W p l e room_1 s m #[Value.ref b] below meth c H locs (10 + 100 * j) (300 + 5000 * j) (lw_Z below #[Value.ref b] s) (F0 m 344 ls []) := by
  obtain ⟨hx, hb, hr, hml, hown, hg, hX, hbl, hlocks, hk, hz⟩ := C
  obtain ⟨hmj, hmlo, hik⟩ := S
  obtain ⟨RX, th, sd, db, kq, dr, n, lf, nv, vb, vt, hpx, hP, hdr, hlf, hnv, hdis, ht, hRlo, hRM⟩ := hli
  have hbA : ¬ (fun q => s.heap.size ≤ q) b := Nat.not_le.mpr hbl
  have hmem : ∀ (q : Nat × va_E) (t : Nat), (mo D g0 a1 a2 a3 th sd db (nI n) kq (nI lf) (nI nv) vb vt ik)[t]? = some q → mA g0 a1 a2 a3 q.1 := fun q t hq => (mo_D hmj _ _ _ _).2 t q hq
  have hmlt : ∀ q, mA g0 a1 a2 a3 q → q < H.size := fun q h => by rcases h with h | h | h | h; rw [h]; exact va_at.lt (hP 0 _ rfl); rw [h]; exact va_at.lt (hP 1 _ rfl); rw [h]; exact va_at.lt (hP 2 _ rfl); rw [h]; exact va_at.lt (hP 3 _ rfl)
  rcases hdr with ⟨rfl, rfl⟩ | ⟨rfl, hn0, hn⟩
  · obtain ⟨Lv, av, ev, dv, ho, -, -, -, -, -, -, hdv⟩ := id hpx
    obtain rfl : dv = none := hdv
    have ho : ob D 0 h0 [.long sd, .null, .ref Lv, .int (nI lf)] H := ho
    refine lv_aload_n hx hb d_law_344 rfl (lv_at hl 2 rfl) ?_
    refine k_V hx hb hml hown hg hk h0 [] [] (c_PD_minimal_0 l D h0 Lv sd (nI lf)) z_PD_minimal w_279 w_280 w_281 (px_rc hk hpx) (ho) d_law_345 rfl rfl ⟨Nat.le_of_ble_eq_true rfl, Nat.le_of_ble_eq_true rfl⟩ rfl hl.1 rfl (Nat.le_of_ble_eq_true rfl) ⟨by show 10 + 100 * j ≤ 600000; omega, by show 300 + 5000 * j ≤ 7302250; omega⟩ ?_
    refine lv_aload_n hx hb d_law_348 rfl (lv_at hl 1 rfl) ?_
    refine m_V hx hb hml hown hg g0 [] [.int 0] (c_MO_minimal l D g0 a1 a2 a3 hmj th sd db kq vb vt ik 0 (Nat.zero_le _) nv hnv ht lf hlf) z_MO_minimal w_405 w_406 w_407 (rc_ob hk (hP 0 _ rfl) rfl) (pre_P hk hP) d_law_349 rfl rfl ⟨Nat.le_of_ble_eq_true rfl, Nat.le_of_ble_eq_true rfl⟩ rfl hl.1 rfl (Nat.le_of_ble_eq_true rfl) ⟨by show 10 + 100 * j + 0 ≤ 600000; omega, by show 300 + 5000 * j + 0 ≤ 7302250; omega⟩ hS (fun q h => hmlo q h) (fun v2 H2 locs2 hp2 hz2 hk2 hS => ?_)
    obtain ⟨rfl, hP2⟩ := hp2
    have hpx2 := px_kept hpx (fun q g1 g2 => hk2 q g1 (hRM q g2))
    show W p l e room_1 s m _ below meth c H2 locs2 (10 + 100 * j) (300 + 5000 * j) _ (F0 m 352 ls [.int (p_min (fun x => p_st vb vt nv (nI x)) 0 lf), .int 0])
    refine lv_icmp_eq (tgt := 453) hx hb d_law_352 (by decide) (fun c9 => ?_) (fun c9 => absurd ((if_pos rfl).symm) c9)
    refine W.widen (k := 10 + 100 * (j + 1)) (n := 300 + 5000 * (j + 1)) (by omega) (by omega) ?_
    exact kk H2 locs2 ⟨RX, 0, sd, db, kq, none, 0, lf, nv, vb, vt, hpx2, hP2, (Or.inl ⟨rfl, rfl⟩), hlf, hnv, hdis, ht, hRlo, hRM⟩ hS
  · obtain ⟨Lv, av, ev, dv, ho, -, hvq, -, -, -, -, d, rfl, -, hdrw⟩ := id hpx
    have ho : ob D 0 h0 [.long sd, .ref d, .ref Lv, .int (nI lf)] H := ho
    refine lv_aload_n hx hb d_law_344 rfl (lv_at hl 2 rfl) ?_
    refine k_V hx hb hml hown hg hk h0 [] [] (c_PD_minimal l D lf hlf t0 h0 d Lv n (fun x => RX x ∧ ¬ x = Lv ∧ ¬ x = av) sd db kq hn0 hn av nv ev vb vt hnv hdis ht) z_PD_minimal w_279 w_280 w_281 (px_rc hk hpx) (⟨ho, hdrw, hvq⟩) d_law_345 rfl rfl ⟨Nat.le_of_ble_eq_true rfl, Nat.le_of_ble_eq_true rfl⟩ rfl hl.1 rfl (Nat.le_of_ble_eq_true rfl) ⟨by show 10 + 100 * j ≤ 600000; omega, by show 300 + 5000 * j ≤ 7302250; omega⟩ ?_
    refine lv_aload_n hx hb d_law_348 rfl (lv_at hl 1 rfl) ?_
    refine m_V hx hb hml hown hg g0 [] [.int (p_min (fun x => p_st vb vt nv (nI x)) n lf)] (c_MO_minimal l D g0 a1 a2 a3 hmj th sd db kq vb vt ik n hn nv hnv ht lf hlf) z_MO_minimal w_405 w_406 w_407 (rc_ob hk (hP 0 _ rfl) rfl) (pre_P hk hP) d_law_349 rfl rfl ⟨Nat.le_of_ble_eq_true rfl, Nat.le_of_ble_eq_true rfl⟩ rfl hl.1 rfl (Nat.le_of_ble_eq_true rfl) ⟨by show 10 + 100 * j + 0 ≤ 600000; omega, by show 300 + 5000 * j + 0 ≤ 7302250; omega⟩ hS (fun q h => hmlo q h) (fun v2 H2 locs2 hp2 hz2 hk2 hS => ?_)
    obtain ⟨rfl, hP2⟩ := hp2
    have hpx2 := px_kept hpx (fun q g1 g2 => hk2 q g1 (hRM q g2))
    show W p l e room_1 s m _ below meth c H2 locs2 (10 + 100 * j) (300 + 5000 * j) _ (F0 m 352 ls [.int (p_min (fun x => p_st vb vt nv (nI x)) n lf), .int (p_min (fun x => p_st vb vt nv (nI x)) n lf)])
    refine lv_icmp_eq (tgt := 453) hx hb d_law_352 (by decide) (fun c9 => ?_) (fun c9 => absurd (rfl) c9)
    refine W.widen (k := 10 + 100 * (j + 1)) (n := 300 + 5000 * (j + 1)) (by omega) (by omega) ?_
    exact kk H2 locs2 ⟨RX, 0, sd, db, kq, some (db, kq, n), n, lf, nv, vb, vt, hpx2, hP2, (Or.inr ⟨rfl, hn0, hn⟩), hlf, hnv, hdis, ht, hRlo, hRM⟩ hS
set_option maxHeartbeats 4000000 in
set_option maxRecDepth 100000 in
theorem law_8 {p : Program} (l : Launch) {e : Env} {s : State} {m : MethodId} {below : List Frame} {meth : Method} {c : Code} {b L : Nat} {xs : Nat → Int32} {D : va_G} {t0 h0 g0 a1 a2 a3 : Nat} {ik : Nat → Int32} (C : lc p s m meth c b L xs D t0) (S : lst s.heap.size g0 a1 a2 a3 ik) {i j : Nat} (hij : i + 5 ≤ L) (hL : L ≤ 2561) (hj : j < 512) {H : Heap} {locs : List Loc} {ls : Array Slot} (hli : li D t0 s.heap.size h0 g0 a1 a2 a3 ik H) (hS : va_S (fun q => s.heap.size ≤ q) s.heap H locs) (hl : lv_has ls 4 [(3, .int (nI i)), (2, .ref g0), (1, .ref h0), (0, .ref b)]) (kk : ∀ (H1 : Heap) (locs1 : List Loc), li D t0 s.heap.size h0 g0 a1 a2 a3 ik H1 → va_S (fun q => s.heap.size ≤ q) s.heap H1 locs1 → W p l e room_1 s m #[Value.ref b] below meth c H1 locs1 (10 + 100 * (j + 1)) (300 + 5000 * (j + 1)) (lw_Z below #[Value.ref b] s) (F0 m 453 ls [])) : W p l e room_1 s m #[Value.ref b] below meth c H locs (10 + 100 * j) (300 + 5000 * j) (lw_Z below #[Value.ref b] s) (F0 m 357 ls []) := by
  obtain ⟨hx, hb, hr, hml, hown, hg, hX, hbl, hlocks, hk, hz⟩ := C
  obtain ⟨hmj, hmlo, hik⟩ := S
  obtain ⟨RX, th, sd, db, kq, dr, n, lf, nv, vb, vt, hpx, hP, hdr, hlf, hnv, hdis, ht, hRlo, hRM⟩ := hli
  have hbA : ¬ (fun q => s.heap.size ≤ q) b := Nat.not_le.mpr hbl
  have hmem : ∀ (q : Nat × va_E) (t : Nat), (mo D g0 a1 a2 a3 th sd db (nI n) kq (nI lf) (nI nv) vb vt ik)[t]? = some q → mA g0 a1 a2 a3 q.1 := fun q t hq => (mo_D hmj _ _ _ _).2 t q hq
  have hmlt : ∀ q, mA g0 a1 a2 a3 q → q < H.size := fun q h => by rcases h with h | h | h | h; rw [h]; exact va_at.lt (hP 0 _ rfl); rw [h]; exact va_at.lt (hP 1 _ rfl); rw [h]; exact va_at.lt (hP 2 _ rfl); rw [h]; exact va_at.lt (hP 3 _ rfl)
  obtain ⟨u1, eu1⟩ : ∃ u : Int32, u = xs (nI i + 1).toNatClampNeg := ⟨_, rfl⟩
  have hv1 : vp_in (nI i + 1) L := by show vp_in (nI i + nI 1) L; rw [nI_add]; exact vp_in_nI (by omega) (by omega)
  rcases hdr with ⟨rfl, rfl⟩ | ⟨rfl, hn0, hn⟩
  · obtain ⟨Lv, av, ev, dv, ho, -, -, -, -, -, -, hdv⟩ := id hpx
    obtain rfl : dv = none := hdv
    have ho : ob D 0 h0 [.long sd, .null, .ref Lv, .int (nI lf)] H := ho
    refine lv_aload_n hx hb d_law_357 rfl (lv_at hl 2 rfl) ?_
    refine lv_aload_n hx hb d_law_358 rfl (lv_at hl 3 rfl) ?_
    refine lv_iload_n hx hb d_law_359 rfl (lv_at hl 0 rfl) ?_
    refine lv_iconst (v := 1) hx hb d_law_360 (by decide) ?_
    refine lv_iadd hx hb d_law_361 ?_
    refine va_sld hx hb hX hbl hbA hS hv1 d_law_362 ?_
    rw [← eu1]
    refine k_V hx hb hml hown hg hk h0 [.int u1] [] (c_PD_faultless_0 l D h0 Lv sd (nI lf) u1) z_PD_faultless w_283 w_284 w_285 (px_rc hk hpx) (ho) d_law_363 rfl rfl ⟨Nat.le_of_ble_eq_true rfl, Nat.le_of_ble_eq_true rfl⟩ rfl hl.1 rfl (Nat.le_of_ble_eq_true rfl) ⟨by show 10 + 100 * j ≤ 600000; omega, by show 300 + 5000 * j ≤ 7302250; omega⟩ ?_
    refine lv_aload_n hx hb d_law_366 rfl (lv_at hl 1 rfl) ?_
    refine lv_aload_n hx hb d_law_367 rfl (lv_at hl 3 rfl) ?_
    refine lv_iload_n hx hb d_law_368 rfl (lv_at hl 0 rfl) ?_
    refine lv_iconst (v := 1) hx hb d_law_369 (by decide) ?_
    refine lv_iadd hx hb d_law_370 ?_
    refine va_sld hx hb hX hbl hbA hS hv1 d_law_371 ?_
    rw [← eu1]
    refine m_V hx hb hml hown hg g0 [.int u1] [.int 0] (c_MO_faultless l D g0 a1 a2 a3 hmj th sd db kq (nI lf) (nI nv) vb vt ik 0 (Nat.zero_le _) u1) z_MO_faultless w_409 w_410 w_411 (rc_ob hk (hP 0 _ rfl) rfl) (pre_P hk hP) d_law_372 rfl rfl ⟨Nat.le_of_ble_eq_true rfl, Nat.le_of_ble_eq_true rfl⟩ rfl hl.1 rfl (Nat.le_of_ble_eq_true rfl) ⟨by show 10 + 100 * j + 0 ≤ 600000; omega, by show 300 + 5000 * j + 0 ≤ 7302250; omega⟩ hS (fun q h => hmlo q h) (fun v2 H2 locs2 hp2 hz2 hk2 hS => ?_)
    obtain ⟨rfl, hP2⟩ := hp2
    have hpx2 := px_kept hpx (fun q g1 g2 => hk2 q g1 (hRM q g2))
    show W p l e room_1 s m _ below meth c H2 locs2 (10 + 100 * j) (300 + 5000 * j) _ (F0 m 375 ls [.int (p_faultless db kq 0 u1), .int 0])
    refine lv_icmp_eq (tgt := 453) hx hb d_law_375 (by decide) (fun c9 => ?_) (fun c9 => absurd ((p_fl_no (p_in_n0 _)).symm) c9)
    refine W.widen (k := 10 + 100 * (j + 1)) (n := 300 + 5000 * (j + 1)) (by omega) (by omega) ?_
    exact kk H2 locs2 ⟨RX, 0, sd, db, kq, none, 0, lf, nv, vb, vt, hpx2, hP2, (Or.inl ⟨rfl, rfl⟩), hlf, hnv, hdis, ht, hRlo, hRM⟩ hS
  · obtain ⟨Lv, av, ev, dv, ho, -, hvq, -, -, -, -, d, rfl, -, hdrw⟩ := id hpx
    have ho : ob D 0 h0 [.long sd, .ref d, .ref Lv, .int (nI lf)] H := ho
    refine lv_aload_n hx hb d_law_357 rfl (lv_at hl 2 rfl) ?_
    refine lv_aload_n hx hb d_law_358 rfl (lv_at hl 3 rfl) ?_
    refine lv_iload_n hx hb d_law_359 rfl (lv_at hl 0 rfl) ?_
    refine lv_iconst (v := 1) hx hb d_law_360 (by decide) ?_
    refine lv_iadd hx hb d_law_361 ?_
    refine va_sld hx hb hX hbl hbA hS hv1 d_law_362 ?_
    rw [← eu1]
    refine k_V hx hb hml hown hg hk h0 [.int u1] [] (c_PD_faultless l D t0 h0 d Lv n (fun x => RX x ∧ ¬ x = Lv ∧ ¬ x = av) sd db kq (nI lf) hn0 hn u1) z_PD_faultless w_283 w_284 w_285 (px_rc hk hpx) (⟨ho, hdrw⟩) d_law_363 rfl rfl ⟨Nat.le_of_ble_eq_true rfl, Nat.le_of_ble_eq_true rfl⟩ rfl hl.1 rfl (Nat.le_of_ble_eq_true rfl) ⟨by show 10 + 100 * j ≤ 600000; omega, by show 300 + 5000 * j ≤ 7302250; omega⟩ ?_
    refine lv_aload_n hx hb d_law_366 rfl (lv_at hl 1 rfl) ?_
    refine lv_aload_n hx hb d_law_367 rfl (lv_at hl 3 rfl) ?_
    refine lv_iload_n hx hb d_law_368 rfl (lv_at hl 0 rfl) ?_
    refine lv_iconst (v := 1) hx hb d_law_369 (by decide) ?_
    refine lv_iadd hx hb d_law_370 ?_
    refine va_sld hx hb hX hbl hbA hS hv1 d_law_371 ?_
    rw [← eu1]
    refine m_V hx hb hml hown hg g0 [.int u1] [.int (p_faultless db kq n u1)] (c_MO_faultless l D g0 a1 a2 a3 hmj th sd db kq (nI lf) (nI nv) vb vt ik n hn u1) z_MO_faultless w_409 w_410 w_411 (rc_ob hk (hP 0 _ rfl) rfl) (pre_P hk hP) d_law_372 rfl rfl ⟨Nat.le_of_ble_eq_true rfl, Nat.le_of_ble_eq_true rfl⟩ rfl hl.1 rfl (Nat.le_of_ble_eq_true rfl) ⟨by show 10 + 100 * j + 0 ≤ 600000; omega, by show 300 + 5000 * j + 0 ≤ 7302250; omega⟩ hS (fun q h => hmlo q h) (fun v2 H2 locs2 hp2 hz2 hk2 hS => ?_)
    obtain ⟨rfl, hP2⟩ := hp2
    have hpx2 := px_kept hpx (fun q g1 g2 => hk2 q g1 (hRM q g2))
    show W p l e room_1 s m _ below meth c H2 locs2 (10 + 100 * j) (300 + 5000 * j) _ (F0 m 375 ls [.int (p_faultless db kq n u1), .int (p_faultless db kq n u1)])
    refine lv_icmp_eq (tgt := 453) hx hb d_law_375 (by decide) (fun c9 => ?_) (fun c9 => absurd (rfl) c9)
    refine W.widen (k := 10 + 100 * (j + 1)) (n := 300 + 5000 * (j + 1)) (by omega) (by omega) ?_
    exact kk H2 locs2 ⟨RX, 0, sd, db, kq, some (db, kq, n), n, lf, nv, vb, vt, hpx2, hP2, (Or.inr ⟨rfl, hn0, hn⟩), hlf, hnv, hdis, ht, hRlo, hRM⟩ hS
set_option maxHeartbeats 4000000 in
set_option maxRecDepth 100000 in
theorem law_9 {p : Program} (l : Launch) {e : Env} {s : State} {m : MethodId} {below : List Frame} {meth : Method} {c : Code} {b L : Nat} {xs : Nat → Int32} {D : va_G} {t0 h0 g0 a1 a2 a3 : Nat} {ik : Nat → Int32} (C : lc p s m meth c b L xs D t0) (S : lst s.heap.size g0 a1 a2 a3 ik) {i j : Nat} (hij : i + 5 ≤ L) (hL : L ≤ 2561) (hj : j < 512) {H : Heap} {locs : List Loc} {ls : Array Slot} (hli : li D t0 s.heap.size h0 g0 a1 a2 a3 ik H) (hS : va_S (fun q => s.heap.size ≤ q) s.heap H locs) (hl : lv_has ls 4 [(3, .int (nI i)), (2, .ref g0), (1, .ref h0), (0, .ref b)]) (kk : ∀ (H1 : Heap) (locs1 : List Loc), li D t0 s.heap.size h0 g0 a1 a2 a3 ik H1 → va_S (fun q => s.heap.size ≤ q) s.heap H1 locs1 → W p l e room_1 s m #[Value.ref b] below meth c H1 locs1 (10 + 100 * (j + 1)) (300 + 5000 * (j + 1)) (lw_Z below #[Value.ref b] s) (F0 m 453 ls [])) : W p l e room_1 s m #[Value.ref b] below meth c H locs (10 + 100 * j) (300 + 5000 * j) (lw_Z below #[Value.ref b] s) (F0 m 380 ls []) := by
  obtain ⟨hx, hb, hr, hml, hown, hg, hX, hbl, hlocks, hk, hz⟩ := C
  obtain ⟨hmj, hmlo, hik⟩ := S
  obtain ⟨RX, th, sd, db, kq, dr, n, lf, nv, vb, vt, hpx, hP, hdr, hlf, hnv, hdis, ht, hRlo, hRM⟩ := hli
  have hbA : ¬ (fun q => s.heap.size ≤ q) b := Nat.not_le.mpr hbl
  have hmem : ∀ (q : Nat × va_E) (t : Nat), (mo D g0 a1 a2 a3 th sd db (nI n) kq (nI lf) (nI nv) vb vt ik)[t]? = some q → mA g0 a1 a2 a3 q.1 := fun q t hq => (mo_D hmj _ _ _ _).2 t q hq
  have hmlt : ∀ q, mA g0 a1 a2 a3 q → q < H.size := fun q h => by rcases h with h | h | h | h; rw [h]; exact va_at.lt (hP 0 _ rfl); rw [h]; exact va_at.lt (hP 1 _ rfl); rw [h]; exact va_at.lt (hP 2 _ rfl); rw [h]; exact va_at.lt (hP 3 _ rfl)
  obtain ⟨u1, eu1⟩ : ∃ u : Int32, u = xs (nI i + 1).toNatClampNeg := ⟨_, rfl⟩
  have hv1 : vp_in (nI i + 1) L := by show vp_in (nI i + nI 1) L; rw [nI_add]; exact vp_in_nI (by omega) (by omega)
  obtain ⟨u2, eu2⟩ : ∃ u : Int32, u = xs (nI i + 2).toNatClampNeg := ⟨_, rfl⟩
  have hv2 : vp_in (nI i + 2) L := by show vp_in (nI i + nI 2) L; rw [nI_add]; exact vp_in_nI (by omega) (by omega)
  obtain ⟨u3, eu3⟩ : ∃ u : Int32, u = xs (nI i + 3).toNatClampNeg := ⟨_, rfl⟩
  have hv3 : vp_in (nI i + 3) L := by show vp_in (nI i + nI 3) L; rw [nI_add]; exact vp_in_nI (by omega) (by omega)
  obtain ⟨u4, eu4⟩ : ∃ u : Int32, u = xs (nI i + 4).toNatClampNeg := ⟨_, rfl⟩
  have hv4 : vp_in (nI i + 4) L := by show vp_in (nI i + nI 4) L; rw [nI_add]; exact vp_in_nI (by omega) (by omega)
  by_cases hno : p_in u3 0 4 = 0 ∨ p_in u4 0 15 = 0
  · skip
    refine lv_aload_n hx hb d_law_380 rfl (lv_at hl 2 rfl) ?_
    refine lv_aload_n hx hb d_law_381 rfl (lv_at hl 3 rfl) ?_
    refine lv_iload_n hx hb d_law_382 rfl (lv_at hl 0 rfl) ?_
    refine lv_iconst (v := 1) hx hb d_law_383 (by decide) ?_
    refine lv_iadd hx hb d_law_384 ?_
    refine va_sld hx hb hX hbl hbA hS hv1 d_law_385 ?_
    rw [← eu1]
    refine lv_i2l (v := u1.toInt64) hx hb d_law_386 rfl ?_
    refine lv_bipush (v := 32) hx hb d_law_387 (by decide) ?_
    refine lv_lshl (v := lsh u1.toInt64 32) hx hb d_law_389 rfl ?_
    refine lv_aload_n hx hb d_law_390 rfl (lv_at hl 3 rfl) ?_
    refine lv_iload_n hx hb d_law_391 rfl (lv_at hl 0 rfl) ?_
    refine lv_iconst (v := 2) hx hb d_law_392 (by decide) ?_
    refine lv_iadd hx hb d_law_393 ?_
    refine va_sld hx hb hX hbl hbA hS hv2 d_law_394 ?_
    rw [← eu2]
    refine lv_i2l (v := u2.toInt64) hx hb d_law_395 rfl ?_
    refine lv_ldc2 hx hb hown (hg _ w_417) d_law_396 ?_
    refine lv_land hx hb d_law_399 ?_
    refine lv_lor hx hb d_law_400 ?_
    refine lv_aload_n hx hb d_law_401 rfl (lv_at hl 3 rfl) ?_
    refine lv_iload_n hx hb d_law_402 rfl (lv_at hl 0 rfl) ?_
    refine lv_iconst (v := 3) hx hb d_law_403 (by decide) ?_
    refine lv_iadd hx hb d_law_404 ?_
    refine va_sld hx hb hX hbl hbA hS hv3 d_law_405 ?_
    rw [← eu3]
    refine lv_aload_n hx hb d_law_406 rfl (lv_at hl 3 rfl) ?_
    refine lv_iload_n hx hb d_law_407 rfl (lv_at hl 0 rfl) ?_
    refine lv_iconst (v := 4) hx hb d_law_408 (by decide) ?_
    refine lv_iadd hx hb d_law_409 ?_
    refine va_sld hx hb hX hbl hbA hS hv4 d_law_410 ?_
    rw [← eu4]
    refine k_V hx hb hml hown hg hk h0 [.long ((lsh u1.toInt64 32) ||| (u2.toInt64 &&& 4294967295)), .int u3, .int u4] [] (c_PD_same_no l D h0 ((lsh u1.toInt64 32) ||| (u2.toInt64 &&& 4294967295)) u3 u4 hno) z_PD_same w_287 w_288 w_289 (px_rc hk hpx) (trivial) d_law_411 rfl rfl ⟨Nat.le_of_ble_eq_true rfl, Nat.le_of_ble_eq_true rfl⟩ rfl hl.1 rfl (Nat.le_of_ble_eq_true rfl) ⟨by show 10 + 100 * j ≤ 600000; omega, by show 300 + 5000 * j ≤ 7302250; omega⟩ ?_
    refine lv_aload_n hx hb d_law_414 rfl (lv_at hl 1 rfl) ?_
    refine lv_aload_n hx hb d_law_415 rfl (lv_at hl 3 rfl) ?_
    refine lv_iload_n hx hb d_law_416 rfl (lv_at hl 0 rfl) ?_
    refine lv_iconst (v := 1) hx hb d_law_417 (by decide) ?_
    refine lv_iadd hx hb d_law_418 ?_
    refine va_sld hx hb hX hbl hbA hS hv1 d_law_419 ?_
    rw [← eu1]
    refine lv_i2l (v := u1.toInt64) hx hb d_law_420 rfl ?_
    refine lv_bipush (v := 32) hx hb d_law_421 (by decide) ?_
    refine lv_lshl (v := lsh u1.toInt64 32) hx hb d_law_423 rfl ?_
    refine lv_aload_n hx hb d_law_424 rfl (lv_at hl 3 rfl) ?_
    refine lv_iload_n hx hb d_law_425 rfl (lv_at hl 0 rfl) ?_
    refine lv_iconst (v := 2) hx hb d_law_426 (by decide) ?_
    refine lv_iadd hx hb d_law_427 ?_
    refine va_sld hx hb hX hbl hbA hS hv2 d_law_428 ?_
    rw [← eu2]
    refine lv_i2l (v := u2.toInt64) hx hb d_law_429 rfl ?_
    refine lv_ldc2 hx hb hown (hg _ w_417) d_law_430 ?_
    refine lv_land hx hb d_law_433 ?_
    refine lv_lor hx hb d_law_434 ?_
    refine lv_aload_n hx hb d_law_435 rfl (lv_at hl 3 rfl) ?_
    refine lv_iload_n hx hb d_law_436 rfl (lv_at hl 0 rfl) ?_
    refine lv_iconst (v := 3) hx hb d_law_437 (by decide) ?_
    refine lv_iadd hx hb d_law_438 ?_
    refine va_sld hx hb hX hbl hbA hS hv3 d_law_439 ?_
    rw [← eu3]
    refine lv_aload_n hx hb d_law_440 rfl (lv_at hl 3 rfl) ?_
    refine lv_iload_n hx hb d_law_441 rfl (lv_at hl 0 rfl) ?_
    refine lv_iconst (v := 4) hx hb d_law_442 (by decide) ?_
    refine lv_iadd hx hb d_law_443 ?_
    refine va_sld hx hb hX hbl hbA hS hv4 d_law_444 ?_
    rw [← eu4]
    refine m_V hx hb hml hown hg g0 [.long ((lsh u1.toInt64 32) ||| (u2.toInt64 &&& 4294967295)), .int u3, .int u4] [.int 0] (c_MO_same_no l D g0 a1 a2 a3 hmj th sd db (nI n) kq (nI lf) (nI nv) vb vt ik ((lsh u1.toInt64 32) ||| (u2.toInt64 &&& 4294967295)) u3 u4 hno) z_MO_same w_413 w_414 w_415 (rc_ob hk (hP 0 _ rfl) rfl) (pre_P hk hP) d_law_445 rfl rfl ⟨Nat.le_of_ble_eq_true rfl, Nat.le_of_ble_eq_true rfl⟩ rfl hl.1 rfl (Nat.le_of_ble_eq_true rfl) ⟨by show 10 + 100 * j + 0 ≤ 600000; omega, by show 300 + 5000 * j + 0 ≤ 7302250; omega⟩ hS (fun q h => hmlo q h) (fun v2 H2 locs2 hp2 hz2 hk2 hS => ?_)
    obtain ⟨rfl, hP2⟩ := hp2
    have hpx2 := px_kept hpx (fun q g1 g2 => hk2 q g1 (hRM q g2))
    show W p l e room_1 s m _ below meth c H2 locs2 (10 + 100 * j) (300 + 5000 * j) _ (F0 m 448 ls [.int 0, .int 0])
    refine lv_icmp_eq (tgt := 453) hx hb d_law_448 (by decide) (fun _ => ?_) (fun h => absurd (by decide) h)
    refine W.widen (k := 10 + 100 * (j + 1)) (n := 300 + 5000 * (j + 1)) (by omega) (by omega) ?_
    exact kk H2 locs2 ⟨RX, 0, sd, db, kq, dr, n, lf, nv, vb, vt, hpx2, hP2, hdr, hlf, hnv, hdis, ht, hRlo, hRM⟩ hS
  · obtain ⟨hkk, hzz⟩ := not_or.mp hno
    obtain ⟨q, hq, rfl⟩ := p_rng15 (p_in_1 hzz)
    refine lv_aload_n hx hb d_law_380 rfl (lv_at hl 2 rfl) ?_
    refine lv_aload_n hx hb d_law_381 rfl (lv_at hl 3 rfl) ?_
    refine lv_iload_n hx hb d_law_382 rfl (lv_at hl 0 rfl) ?_
    refine lv_iconst (v := 1) hx hb d_law_383 (by decide) ?_
    refine lv_iadd hx hb d_law_384 ?_
    refine va_sld hx hb hX hbl hbA hS hv1 d_law_385 ?_
    rw [← eu1]
    refine lv_i2l (v := u1.toInt64) hx hb d_law_386 rfl ?_
    refine lv_bipush (v := 32) hx hb d_law_387 (by decide) ?_
    refine lv_lshl (v := lsh u1.toInt64 32) hx hb d_law_389 rfl ?_
    refine lv_aload_n hx hb d_law_390 rfl (lv_at hl 3 rfl) ?_
    refine lv_iload_n hx hb d_law_391 rfl (lv_at hl 0 rfl) ?_
    refine lv_iconst (v := 2) hx hb d_law_392 (by decide) ?_
    refine lv_iadd hx hb d_law_393 ?_
    refine va_sld hx hb hX hbl hbA hS hv2 d_law_394 ?_
    rw [← eu2]
    refine lv_i2l (v := u2.toInt64) hx hb d_law_395 rfl ?_
    refine lv_ldc2 hx hb hown (hg _ w_417) d_law_396 ?_
    refine lv_land hx hb d_law_399 ?_
    refine lv_lor hx hb d_law_400 ?_
    refine lv_aload_n hx hb d_law_401 rfl (lv_at hl 3 rfl) ?_
    refine lv_iload_n hx hb d_law_402 rfl (lv_at hl 0 rfl) ?_
    refine lv_iconst (v := 3) hx hb d_law_403 (by decide) ?_
    refine lv_iadd hx hb d_law_404 ?_
    refine va_sld hx hb hX hbl hbA hS hv3 d_law_405 ?_
    rw [← eu3]
    refine lv_aload_n hx hb d_law_406 rfl (lv_at hl 3 rfl) ?_
    refine lv_iload_n hx hb d_law_407 rfl (lv_at hl 0 rfl) ?_
    refine lv_iconst (v := 4) hx hb d_law_408 (by decide) ?_
    refine lv_iadd hx hb d_law_409 ?_
    refine va_sld hx hb hX hbl hbA hS hv4 d_law_410 ?_
    rw [← eu4]
    have hRlo1 : ∀ q, xA RX H.size q → s.heap.size ≤ q := fun q h => h.elim (fun h => hRlo q h) (fun h => Nat.le_trans hS.1 h)
    have hRM1 : ∀ q, xA RX H.size q → ¬ mA g0 a1 a2 a3 q := fun q h g => h.elim (fun h => hRM q h g) (fun h => absurd (hmlt q g) (Nat.not_lt.mpr h))
    refine m_V hx hb hml hown hg h0 [.long ((lsh u1.toInt64 32) ||| (u2.toInt64 &&& 4294967295)), .int u3, .int (nI q)] [] (c_PD_same_ok l D t0 h0 H.size RX sd dr lf nv vb vt ((lsh u1.toInt64 32) ||| (u2.toInt64 &&& 4294967295)) u3 q hkk hq) z_PD_same w_287 w_288 w_289 (px_rc hk hpx) (pre_Z hk (hz.at hS (fun q h => hRlo1 q h)) ⟨rfl, hpx⟩) d_law_411 rfl rfl ⟨Nat.le_of_ble_eq_true rfl, Nat.le_of_ble_eq_true rfl⟩ rfl hl.1 rfl (Nat.le_of_ble_eq_true rfl) ⟨by show 10 + 100 * j + 68 ≤ 600000; omega, by show 300 + 5000 * j + 4876 ≤ 7302250; omega⟩ hS (fun q h => hRlo1 q h) (fun v1 H1 locs1 hp1 hz1 hk1 hS => ?_)
    obtain ⟨rfl, hpx1⟩ := hp1
    have hP1 := va_P.kept hP (fun t q hq => hk1 q.1 (va_at.lt (hP t q hq)) (fun h => hRM1 q.1 h (hmem q t hq)))
    show W p l e room_1 s m _ below meth c H1 locs1 (10 + 100 * j + 68) (300 + 5000 * j + 4876) _ (F0 m 414 ls (.int (p_tf (∀ i, i < q + 1 → p_alike sd ((lsh u1.toInt64 32) ||| (u2.toInt64 &&& 4294967295)) u3 (q + 1) i)) :: []))
    refine lv_aload_n hx hb d_law_414 rfl (lv_at hl 1 rfl) ?_
    refine lv_aload_n hx hb d_law_415 rfl (lv_at hl 3 rfl) ?_
    refine lv_iload_n hx hb d_law_416 rfl (lv_at hl 0 rfl) ?_
    refine lv_iconst (v := 1) hx hb d_law_417 (by decide) ?_
    refine lv_iadd hx hb d_law_418 ?_
    refine va_sld hx hb hX hbl hbA hS hv1 d_law_419 ?_
    rw [← eu1]
    refine lv_i2l (v := u1.toInt64) hx hb d_law_420 rfl ?_
    refine lv_bipush (v := 32) hx hb d_law_421 (by decide) ?_
    refine lv_lshl (v := lsh u1.toInt64 32) hx hb d_law_423 rfl ?_
    refine lv_aload_n hx hb d_law_424 rfl (lv_at hl 3 rfl) ?_
    refine lv_iload_n hx hb d_law_425 rfl (lv_at hl 0 rfl) ?_
    refine lv_iconst (v := 2) hx hb d_law_426 (by decide) ?_
    refine lv_iadd hx hb d_law_427 ?_
    refine va_sld hx hb hX hbl hbA hS hv2 d_law_428 ?_
    rw [← eu2]
    refine lv_i2l (v := u2.toInt64) hx hb d_law_429 rfl ?_
    refine lv_ldc2 hx hb hown (hg _ w_417) d_law_430 ?_
    refine lv_land hx hb d_law_433 ?_
    refine lv_lor hx hb d_law_434 ?_
    refine lv_aload_n hx hb d_law_435 rfl (lv_at hl 3 rfl) ?_
    refine lv_iload_n hx hb d_law_436 rfl (lv_at hl 0 rfl) ?_
    refine lv_iconst (v := 3) hx hb d_law_437 (by decide) ?_
    refine lv_iadd hx hb d_law_438 ?_
    refine va_sld hx hb hX hbl hbA hS hv3 d_law_439 ?_
    rw [← eu3]
    refine lv_aload_n hx hb d_law_440 rfl (lv_at hl 3 rfl) ?_
    refine lv_iload_n hx hb d_law_441 rfl (lv_at hl 0 rfl) ?_
    refine lv_iconst (v := 4) hx hb d_law_442 (by decide) ?_
    refine lv_iadd hx hb d_law_443 ?_
    refine va_sld hx hb hX hbl hbA hS hv4 d_law_444 ?_
    rw [← eu4]
    refine m_V hx hb hml hown hg g0 [.long ((lsh u1.toInt64 32) ||| (u2.toInt64 &&& 4294967295)), .int u3, .int (nI q)] [.int (p_tf (∀ i, i < q + 1 → p_alike sd ((lsh u1.toInt64 32) ||| (u2.toInt64 &&& 4294967295)) u3 (q + 1) i))] (c_MO_same_ok l D g0 a1 a2 a3 hmj th sd db (nI n) kq (nI lf) (nI nv) vb vt ik ((lsh u1.toInt64 32) ||| (u2.toInt64 &&& 4294967295)) u3 q hkk hq) z_MO_same w_413 w_414 w_415 (rc_ob hk (hP1 0 _ rfl) rfl) (pre_P hk hP1) d_law_445 rfl rfl ⟨Nat.le_of_ble_eq_true rfl, Nat.le_of_ble_eq_true rfl⟩ rfl hl.1 rfl (Nat.le_of_ble_eq_true rfl) ⟨by show 10 + 100 * j + 68 + 0 ≤ 600000; omega, by show 300 + 5000 * j + 4876 + 0 ≤ 7302250; omega⟩ hS (fun q h => hmlo q h) (fun v2 H2 locs2 hp2 hz2 hk2 hS => ?_)
    obtain ⟨rfl, hP2⟩ := hp2
    have hpx2 := px_kept hpx1 (fun q g1 g2 => hk2 q g1 (hRM1 q g2))
    show W p l e room_1 s m _ below meth c H2 locs2 (10 + 100 * j + 68) (300 + 5000 * j + 4876) _ (F0 m 448 ls [.int (p_tf (∀ i, i < q + 1 → p_alike sd ((lsh u1.toInt64 32) ||| (u2.toInt64 &&& 4294967295)) u3 (q + 1) i)), .int (p_tf (∀ i, i < q + 1 → p_alike sd ((lsh u1.toInt64 32) ||| (u2.toInt64 &&& 4294967295)) u3 (q + 1) i))])
    refine lv_icmp_eq (tgt := 453) hx hb d_law_448 (by decide) (fun c9 => ?_) (fun c9 => absurd (rfl) c9)
    refine W.widen (k := 10 + 100 * (j + 1)) (n := 300 + 5000 * (j + 1)) (by omega) (by omega) ?_
    exact kk H2 locs2 ⟨(xA RX H.size), 0, sd, db, kq, dr, n, lf, nv, vb, vt, hpx2, hP2, hdr, hlf, hnv, hdis, ht, hRlo1, hRM1⟩ hS
end
section
/-! THE LAW: its loop and its start (printed by gen/law2.py) -/
theorem q_end {L i : Nat} (hL : L ≤ 2561) (hi : i ≤ 2600) : nI L - 5 < nI i ↔ L < i + 5 := by
  rw [Int32.lt_iff_toInt_lt, show nI L - 5 = nI L - nI 5 from rfl, pk_sub_toInt (by omega) (by decide), nI_toInt (by omega)]
  omega
theorem pre_X {s : State} {H : Heap} {b L : Nat} {xs : Nat → Int32} (h1 : b < H.size) (h2 : va_X b L xs s H) : PreS s H (va_Pc [.ref b, .int 0] (fun U => b < U.heap.size ∧ va_X b L xs U U.heap)) [.ref b, .int 0] :=
  ⟨fun a U g mk q => ⟨q.1, q.2.1, va_X.moved (u := U) (U := U.calling g mk a) (Vm.Alike.refl U.vm) q.2.2⟩, fun U hU hW => ⟨rfl, by rw [hU]; exact h1, by rw [hU]; exact va_X.moved hW.alike h2⟩⟩
set_option maxHeartbeats 4000000 in
set_option maxRecDepth 100000 in
theorem law_loop {p : Program} (l : Launch) {e : Env} {s : State} {m : MethodId} {below : List Frame} {meth : Method} {c : Code} {b L : Nat} {xs : Nat → Int32} {D : va_G} {t0 h0 g0 a1 a2 a3 : Nat} {ik : Nat → Int32} (C : lc p s m meth c b L xs D t0) (S : lst s.heap.size g0 a1 a2 a3 ik) (hL : L ≤ 2561) : ∀ (fu : Nat) (i j : Nat) (x3 : Int32) (H : Heap) (locs : List Loc) (ls : Array Slot), i = 1 + 5 * j → i ≤ L + 1 → L + 2 - i < fu → x3 = nI i → li D t0 s.heap.size h0 g0 a1 a2 a3 ik H → va_S (fun q => s.heap.size ≤ q) s.heap H locs → lv_has ls 4 [(3, .int x3), (2, .ref g0), (1, .ref h0), (0, .ref b)] → W p l e room_1 s m #[Value.ref b] below meth c H locs (10 + 100 * j) (300 + 5000 * j) (lw_Z below #[Value.ref b] s) (F0 m 28 ls []) := by
  obtain ⟨hx, hb, hr, hml, hown, hg, hX, hbl, hlocks, hk, hz⟩ := id C
  have hbA : ¬ (fun q => s.heap.size ≤ q) b := Nat.not_le.mpr hbl
  intro fu
  induction fu with
  | zero => intro i j x3 H locs ls h1 h2 h3; exact absurd h3 (Nat.not_lt_zero _)
  | succ fu ih =>
    intro i j x3 H locs ls h1 h2 h3 e3 hli hS hl
    subst e3
    refine lv_iload_n hx hb d_law_28 rfl (lv_at hl 0 rfl) ?_
    refine lv_aload_n hx hb d_law_29 rfl (lv_at hl 3 rfl) ?_
    refine va_slen hx hb hX hbl hbA hS d_law_30 ?_
    refine lv_iconst (v := 5) hx hb d_law_31 (by decide) ?_
    refine lv_isub hx hb d_law_32 ?_
    refine lv_icmp_gt (tgt := 459) hx hb d_law_33 (by decide) (fun c1 => ?_) (fun c1 => ?_)
    · refine lv_iconst (v := 1) hx hb d_law_459 (by decide) ?_
      refine va_forget (fun q h => hS.2.2 q h) ?_
      have hj : j ≤ 512 := by omega
      refine W.widen (k := 600000) (n := 7302250) (by omega) (by omega) ?_
      exact lw_ret hx hb hr hlocks d_law_460
    · have hij : i + 5 ≤ L := Nat.not_lt.mp (fun h => c1 ((q_end hL (by omega)).mpr h))
      have hj : j < 512 := by omega
      have step : ∀ (H1 : Heap) (locs1 : List Loc), li D t0 s.heap.size h0 g0 a1 a2 a3 ik H1 → va_S (fun q => s.heap.size ≤ q) s.heap H1 locs1 → W p l e room_1 s m #[Value.ref b] below meth c H1 locs1 (10 + 100 * (j + 1)) (300 + 5000 * (j + 1)) (lw_Z below #[Value.ref b] s) (F0 m 453 ls []) := by
        intro H1 locs1 hli1 hS1
        obtain ⟨y3, ey3⟩ : ∃ y : Int32, y = (nI i) + 5 := ⟨_, rfl⟩
        refine lv_iinc (v := y3) (lv' := [(3, .int y3), (2, .ref g0), (1, .ref h0), (0, .ref b)]) hx hb d_law_453 hl (k := 0) rfl (by rw [ey3]; rfl) (by decide) rfl (fun ls hl => ?_)
        refine lv_goto (tgt := 28) hx hb d_law_456 (by decide) ?_
        exact ih (i + 5) (j + 1) y3 H1 locs1 ls (by omega) (by omega) (by omega) (by rw [ey3]; exact nI_add i 5) hli1 hS1 (lv_sub hl [0, 1, 2, 3] rfl)
      refine lv_aload_n hx hb d_law_36 rfl (lv_at hl 3 rfl) ?_
      refine lv_iload_n hx hb d_law_37 rfl (lv_at hl 0 rfl) ?_
      refine va_sld hx hb hX hbl hbA hS (vp_in_nI (n := i) (by omega) (by omega)) d_law_38 ?_
      refine lv_bipush (v := 15) hx hb d_law_39 (by decide) ?_
      refine lv_iand hx hb d_law_41 ?_
      obtain ⟨q, hq, eq9⟩ := pk_andE (xs (nI i).toNatClampNeg) (m := 15) 4 (by decide)
      rw [eq9]
      rcases (show q = 0 ∨ q = 1 ∨ q = 2 ∨ q = 3 ∨ q = 4 ∨ q = 5 ∨ q = 6 ∨ q = 7 ∨ q = 8 ∨ q = 9 ∨ q = 10 ∨ q = 11 ∨ q = 12 ∨ q = 13 ∨ q = 14 ∨ q = 15 by omega) with rfl | rfl | rfl | rfl | rfl | rfl | rfl | rfl | rfl | rfl | rfl | rfl | rfl | rfl | rfl | rfl
      · refine lv_tableIn (tgt := 96) hx hb d_law_42 (by decide +kernel) (by decide +kernel) (show _ = some 54 by decide +kernel) (by decide) ?_
        exact law_0 l C S hij hL hj hli hS hl step
      · refine lv_tableIn (tgt := 150) hx hb d_law_42 (by decide +kernel) (by decide +kernel) (show _ = some 108 by decide +kernel) (by decide) ?_
        exact law_1 l C S hij hL hj hli hS hl step
      · refine lv_tableIn (tgt := 183) hx hb d_law_42 (by decide +kernel) (by decide +kernel) (show _ = some 141 by decide +kernel) (by decide) ?_
        exact law_2 l C S hij hL hj hli hS hl step
      · refine lv_tableIn (tgt := 216) hx hb d_law_42 (by decide +kernel) (by decide +kernel) (show _ = some 174 by decide +kernel) (by decide) ?_
        exact law_3 l C S hij hL hj hli hS hl step
      · refine lv_tableIn (tgt := 259) hx hb d_law_42 (by decide +kernel) (by decide +kernel) (show _ = some 217 by decide +kernel) (by decide) ?_
        exact law_4 l C S hij hL hj hli hS hl step
      · refine lv_tableIn (tgt := 308) hx hb d_law_42 (by decide +kernel) (by decide +kernel) (show _ = some 266 by decide +kernel) (by decide) ?_
        exact law_5 l C S hij hL hj hli hS hl step
      · refine lv_tableIn (tgt := 321) hx hb d_law_42 (by decide +kernel) (by decide +kernel) (show _ = some 279 by decide +kernel) (by decide) ?_
        exact law_6 l C S hij hL hj hli hS hl step
      · refine lv_tableIn (tgt := 344) hx hb d_law_42 (by decide +kernel) (by decide +kernel) (show _ = some 302 by decide +kernel) (by decide) ?_
        exact law_7 l C S hij hL hj hli hS hl step
      · refine lv_tableIn (tgt := 357) hx hb d_law_42 (by decide +kernel) (by decide +kernel) (show _ = some 315 by decide +kernel) (by decide) ?_
        exact law_8 l C S hij hL hj hli hS hl step
      · refine lv_tableIn (tgt := 380) hx hb d_law_42 (by decide +kernel) (by decide +kernel) (show _ = some 338 by decide +kernel) (by decide) ?_
        exact law_9 l C S hij hL hj hli hS hl step
      · refine lv_tableOut (tgt := 453) hx hb d_law_42 (by decide +kernel) (by decide) ?_
        refine W.widen (k := 10 + 100 * (j + 1)) (n := 300 + 5000 * (j + 1)) (by omega) (by omega) ?_
        exact step H locs hli hS
      · refine lv_tableOut (tgt := 453) hx hb d_law_42 (by decide +kernel) (by decide) ?_
        refine W.widen (k := 10 + 100 * (j + 1)) (n := 300 + 5000 * (j + 1)) (by omega) (by omega) ?_
        exact step H locs hli hS
      · refine lv_tableOut (tgt := 453) hx hb d_law_42 (by decide +kernel) (by decide) ?_
        refine W.widen (k := 10 + 100 * (j + 1)) (n := 300 + 5000 * (j + 1)) (by omega) (by omega) ?_
        exact step H locs hli hS
      · refine lv_tableOut (tgt := 453) hx hb d_law_42 (by decide +kernel) (by decide) ?_
        refine W.widen (k := 10 + 100 * (j + 1)) (n := 300 + 5000 * (j + 1)) (by omega) (by omega) ?_
        exact step H locs hli hS
      · refine lv_tableOut (tgt := 453) hx hb d_law_42 (by decide +kernel) (by decide) ?_
        refine W.widen (k := 10 + 100 * (j + 1)) (n := 300 + 5000 * (j + 1)) (by omega) (by omega) ?_
        exact step H locs hli hS
      · refine lv_tableOut (tgt := 453) hx hb d_law_42 (by decide +kernel) (by decide) ?_
        refine W.widen (k := 10 + 100 * (j + 1)) (n := 300 + 5000 * (j + 1)) (by omega) (by omega) ?_
        exact step H locs hli hS
set_option maxHeartbeats 4000000 in
set_option maxRecDepth 100000 in
/-- from the entry, for every script of at most 2561 ints, the law comes to its end with true -/
theorem whole_start {p : Program} {e : Env} {s : State} {m : MethodId} {below : List Frame} {meth : Method} {c : Code} (l : Launch) {b L : Nat} {xs : Nat → Int32} (hL : L ≤ 2561) (C0 : lw_At p s m meth c b L xs) : W p l e room_1 s m #[Value.ref b] below meth c s.heap [] 0 0 (lw_Z below #[Value.ref b] s) (entryFrame m ([Value.ref b] : List Value).toArray 4) := by
  obtain ⟨hx, hb, hr, hml, hown, hts, hX, hbl, hlocks, hgv⟩ := C0
  have hown : s.vm.findClass R_LW = some m.cls := hown
  have hg : ∀ w ∈ gw, w.before #[Value.ref b] s = true := fun w h => hts w (g_tbl w h)
  obtain ⟨D, hk⟩ := kn_start hts hgv
  obtain ⟨t0, hz⟩ := zz_start hts hgv
  have hC : lc p s m meth c b L xs D t0 := ⟨hx, hb, hr, hml, hown, hg, hX, hbl, hlocks, hk, hz⟩
  have hS : va_S (fun q => s.heap.size ≤ q) s.heap s.heap [] := va_S.rf
  have hl := lv_entry ([.ref b]) (n := 4) (Nat.le_of_ble_eq_true rfl)
  rw [lg_entry_eq]
  generalize (lg_sl ([.ref b]) ++ List.replicate (4 - (lg_sl ([.ref b])).length) Slot.unset).toArray = ls at hl ⊢
  obtain ⟨r0, er0⟩ : ∃ r : Int32, r = (if 0 < L then xs 0 else 0) := ⟨_, rfl⟩
  have hl : lv_has ls 4 [(0, .ref b)] := hl
  refine x_new hx hb hg hown hk hS 0 rfl i_PD T_PD k_PD w_15 w_16 w_1 (fs := [.long 0, .null, .null, .int 0]) (fun q hq => by rcases (show q = 0 ∨ q = 1 ∨ q = 2 ∨ q = 3 by omega) with rfl | rfl | rfl | rfl <;> rfl) (Nat.le_of_ble_eq_true rfl) (Nat.le_of_ble_eq_true rfl) d_law_0 (fun H1 ho hz1 ho1 hS => ?_)
  refine lv_dup hx hb d_law_3 rfl ?_
  refine lv_aload_n hx hb d_law_4 rfl (lv_at hl 0 rfl) ?_
  refine lv_iconst (v := 0) hx hb d_law_5 (by decide) ?_
  refine m_S hx hb hml hown hg [.ref b, .int 0] [.ref s.heap.size, .ref s.heap.size] (c_LW_cell l b L xs (by omega)) z_LW_cell w_296 w_297 (pre_X (by omega) (va_X.kept hX (hS.2.1 b hbl (Nat.not_le.mpr hbl)))) d_law_6 rfl rfl ⟨Nat.le_of_ble_eq_true rfl, Nat.le_of_ble_eq_true rfl⟩ rfl hl.1 rfl (Nat.le_of_ble_eq_true rfl) ⟨Nat.le_of_ble_eq_true rfl, Nat.le_of_ble_eq_true rfl⟩ hS (fun q h => h.elim) (fun v1 H2 locs2 hp1 hz2 hk2 hS => ?_)
  subst hp1
  have ho2 : ob D 0 s.heap.size [.long 0, .null, .null, .int 0] H2 := va_at.kept ho (hk2 _ (ob_lt ho) (fun h => h))
  rw [← er0]
  show W p l e room_1 s m _ below meth c H2 locs2 (0 + 1 + 0) (0 + 4 + 0) _ (F0 m 9 ls [.int r0, .ref s.heap.size, .ref s.heap.size])
  have hol := ob_lt ho2
  refine m_I hx hb hml hown hg s.heap.size [.int r0] [.ref s.heap.size] (c_PD_init l D s.heap.size t0 H2.size r0) z_PD_init w_17 w_18 rfl (pre_Z hk (hz.at hS (fun q h => by rcases h with h | h <;> omega)) ⟨rfl, ho2⟩) d_law_9 rfl rfl ⟨Nat.le_of_ble_eq_true rfl, Nat.le_of_ble_eq_true rfl⟩ rfl hl.1 rfl (Nat.le_of_ble_eq_true rfl) ⟨Nat.le_of_ble_eq_true rfl, Nat.le_of_ble_eq_true rfl⟩ hS (fun q h => by rcases h with h | h <;> omega) (fun v3 H3 locs3 hp1 hz3 hk3 hS => ?_)
  obtain ⟨rfl, hpx⟩ := hp1
  show W p l e room_1 s m _ below meth c H3 locs3 (0 + 1 + 0 + 1) (0 + 4 + 0 + 3) _ (F0 m 12 ls [.ref s.heap.size])
  refine lv_astore_n (lv' := [(1, .ref s.heap.size), (0, .ref b)]) hx hb d_law_12 rfl hl (by decide) rfl (fun ls hl => ?_)
  refine x_new hx hb hg hown hk hS 5 rfl i_MO T_MO k_MO w_299 w_300 w_5 (fs := [.int 0, .long 0, .long 0, .int 0, .int 0, .int 0, .int 0, .null, .null, .null]) (fun q hq => by rcases (show q = 0 ∨ q = 1 ∨ q = 2 ∨ q = 3 ∨ q = 4 ∨ q = 5 ∨ q = 6 ∨ q = 7 ∨ q = 8 ∨ q = 9 by omega) with rfl | rfl | rfl | rfl | rfl | rfl | rfl | rfl | rfl | rfl <;> rfl) (Nat.le_of_ble_eq_true rfl) (Nat.le_of_ble_eq_true rfl) d_law_13 (fun H4 hg0 hz4 ho4 hS => ?_)
  refine lv_dup hx hb d_law_16 rfl ?_
  refine lv_aload_n hx hb d_law_17 rfl (lv_at hl 1 rfl) ?_
  refine lv_iconst (v := 0) hx hb d_law_18 (by decide) ?_
  refine m_S hx hb hml hown hg [.ref b, .int 0] [.ref H3.size, .ref H3.size] (c_LW_cell l b L xs (by omega)) z_LW_cell w_296 w_297 (pre_X (by omega) (va_X.kept hX (hS.2.1 b hbl (Nat.not_le.mpr hbl)))) d_law_19 rfl rfl ⟨Nat.le_of_ble_eq_true rfl, Nat.le_of_ble_eq_true rfl⟩ rfl hl.1 rfl (Nat.le_of_ble_eq_true rfl) ⟨Nat.le_of_ble_eq_true rfl, Nat.le_of_ble_eq_true rfl⟩ hS (fun q h => h.elim) (fun v5 H5 locs5 hp1 hz5 hk5 hS => ?_)
  subst hp1
  have hg5 : ob D 5 H3.size [.int 0, .long 0, .long 0, .int 0, .int 0, .int 0, .int 0, .null, .null, .null] H5 := va_at.kept hg0 (hk5 _ (ob_lt hg0) (fun h => h))
  rw [← er0]
  show W p l e room_1 s m _ below meth c H5 locs5 (0 + 1 + 0 + 1 + 1 + 0) (0 + 4 + 0 + 3 + 10 + 0) _ (F0 m 22 ls [.int r0, .ref H3.size, .ref H3.size])
  have hgl := ob_lt hg5
  refine m_I hx hb hml hown hg H3.size [.int r0] [.ref H3.size] (c_MO_init l D H3.size H5.size r0) z_MO_init w_301 w_302 rfl (pre_P hk ⟨rfl, hg5⟩) d_law_22 rfl rfl ⟨Nat.le_of_ble_eq_true rfl, Nat.le_of_ble_eq_true rfl⟩ rfl hl.1 rfl (Nat.le_of_ble_eq_true rfl) ⟨Nat.le_of_ble_eq_true rfl, Nat.le_of_ble_eq_true rfl⟩ hS (fun q h => by rcases h with h | h <;> omega) (fun v6 H6 locs6 hp1 hz6 hk6 hS => ?_)
  obtain ⟨rfl, a1, a2, a3, ik, hmj, hs1, hs2, hs3, hik, hP⟩ := hp1
  have hold : ∀ q, q < H3.size → H6[q]? = H3[q]? := fun q hq => ((hk6 q (by omega) (fun h => by rcases h with h | h <;> omega)).trans (hk5 q (by omega) (fun h => h))).trans (ho4 q hq)
  show W p l e room_1 s m _ below meth c H6 locs6 (0 + 1 + 0 + 1 + 1 + 0 + 3) (0 + 4 + 0 + 3 + 10 + 0 + 210) _ (F0 m 25 ls [.ref H3.size])
  refine W.widen (k := 10 + 100 * 0) (n := 300 + 5000 * 0) (Nat.le_of_ble_eq_true rfl) (Nat.le_of_ble_eq_true rfl) ?_
  refine lv_astore_n (lv' := [(2, .ref H3.size), (1, .ref s.heap.size), (0, .ref b)]) hx hb d_law_25 rfl hl (by decide) rfl (fun ls hl => ?_)
  refine lv_iconst (v := 1) hx hb d_law_26 (by decide) ?_
  refine lv_istore_n (lv' := [(3, .int 1), (2, .ref H3.size), (1, .ref s.heap.size), (0, .ref b)]) hx hb d_law_27 rfl hl (by decide) rfl (fun ls hl => ?_)
  have hmem : ∀ q, mA H3.size a1 a2 a3 q → H3.size ≤ q := fun q h => by rcases h with h | h | h | h <;> omega
  have hpx6 := px_kept (px_mono (R2 := fun q => s.heap.size ≤ q ∧ q < H3.size) (px_lt (hpx (fun _ => 0) (fun _ => 0))) (fun q h => ⟨by rcases h.1 with h1 | h1 <;> omega, h.2⟩)) (fun q g1 g2 => hold q g2.2)
  exact law_loop l hC (S := ⟨hmj, fun q h => Nat.le_trans (by omega) (hmem q h), hik⟩) hL (L + 3) 1 0 1 H6 locs6 ls (by omega) (by omega) (by omega) rfl ⟨_, 0, r0.toInt64, 0, 0, none, 0, 0, 0, _, _, hpx6, hP, Or.inl ⟨rfl, rfl⟩, by decide, Nat.zero_le _, fun i _ hi => absurd hi (Nat.not_lt_zero _), fun i hi => absurd hi (Nat.not_lt_zero _), fun q h => h.1, fun q h g => absurd (hmem q g) (Nat.not_le.mpr h.2)⟩ hS (lv_sub hl [0, 1, 2, 3] rfl)
end
section
-- ===== YOUR PART ENDS =====
set_option maxHeartbeats 4000000 in
theorem lw_walk (l : Launch) (b : Addr) (xs : List Int32) : MetFree l x (headSpec (Jvm.Cond.code x code maxLocals ret :: tables_1) room_1) (lw_P b xs) (fun _ _ _ _ _ => True) lw_Q := by
  refine MetFree.of_bodyS (code := code) (maxLocals := maxLocals) (ret := ret) (by decide) ?_ ?_
  · intro args s m h hn
    obtain ⟨meth, c, h1, h2, h3, h4, h5, h6, -, -⟩ := Cond.code_spec hn (atoms_spec (ws := Jvm.Cond.code x code maxLocals ret :: tables_1) h _ List.mem_cons_self)
    exact ⟨meth, c, h1, h2, h3, h4, h5, h6⟩
  · intro p e s m args below meth c s₁ B hml0 hP _
    obtain ⟨rfl, hx, hbd, hgv⟩ := hP
    obtain ⟨scr, harrAt, hlist, hof, hsmall⟩ := hx
    obtain ⟨hcb, hkn, -, -⟩ := State.arrayAt?_spec harrAt
    have hown : s.vm.findClass R_law = some m.cls := findClass_of_methodNamed B.named
    have hts0 : ∀ c ∈ (Jvm.Cond.code x code maxLocals ret :: tables_1), c.before #[Value.ref b] s = true := atoms_spec (ws := Jvm.Cond.code x code maxLocals ret :: tables_1) B.pre
    have hts : ∀ w ∈ lw_tbl, w.before #[Value.ref b] s = true := k2_hts_sels lw_privs (fun w hw => hts0 w (List.mem_cons_of_mem _ hw)) lw_privs_ok
    have hml : c.maxLocals = 4 := B.maxLocals_eq (hts0 _ List.mem_cons_self)
    have X₀ : Stand p l e room_1 s m #[Value.ref b] below meth c s₁ [] 0 0 := Stand.of_body B
    have hh0 : s₁.heap = s.heap := by rw [B.state]; rfl
    have hsz : scr.slots.size = xs.length := by rw [← Array.length_toList, hlist, List.length_map]
    have hval : ∀ j : Nat, j < xs.length → scr.slots[j]? = some (.int (xs.getD j 0)) := fun j hj => by
      rw [← Array.getElem?_toList, hlist]
      simp [hj]
    have hbl : b < s.heap.size := (Array.getElem?_eq_some_iff.mp hcb).1
    have hX : va_X b xs.length (fun j => xs.getD j 0) s s.heap := ⟨scr, hcb, hof, hkn, hsz, hval⟩
    have K : W p l e room_1 s m #[Value.ref b] below meth c s₁.heap [] 0 0 (lw_Z below #[Value.ref b] s) (entryFrame m ([Value.ref b] : List Value).toArray 4) := by
      rw [hh0]
      exact whole_start l hbd ⟨B.exec, B.bytes, B.returns, hml, hown, hts, hX, hbl, B.notSynchronized, hgv⟩
    obtain ⟨t, a1, o, b1, b2, b3⟩ := K s₁ rfl X₀
    exact ⟨t, o, a1, b1, b2, b3⟩
theorem lw_pre_spec {args : Array Value} {s : State} (h : (Jvm.Cond.and given_1 narrow_1).before args s = true) (hr : rest_1_c.before args s = true) : ∃ (b : Addr) (xs : List Int32), lw_P b xs args s := by
  have hs := flat_of_before _ h
  have hq := flat_of_before _ hr
  have hc : (Cond.count 1).before args s = true := hs _ (by decide +kernel)
  have harr : (Cond.arrayOf (.arg 0) .int).before args s = true := hs _ (by decide +kernel)
  have hle : (Cond.le (.length (.arg 0)) (.int 2561)).before args s = true := hs _ (by decide +kernel)
  have hlen : (Cond.isInt (.length (.arg 0))).before args s = true := hq _ (by decide +kernel)
  have hall : (Cond.all (.arg 0) (.isInt (.elem (.arg 0) (.index 0)))).before args s = true := hq _ (by decide +kernel)
  obtain ⟨b, xs, hb, hx⟩ := State.ints_of_pre rfl harr hlen hall
  have hsm : xs.length < 2 ^ 31 := hx.choose_spec.2.2.2
  have hev : (Term.length (.arg 0)).eval args s none [] s = some (.int xs.length.toInt32) := hx.length_eval hb
  have hv := Cond.le_ints hev (show (Term.int 2561).eval args s none [] s = some (.int 2561) from rfl)
  have hd : xs.length.toInt32 ≤ 2561 := by
    simpa [Cond.before, Cond.holds, hv] using hle
  have hN : xs.length ≤ 2561 := (Int32.ofNat_le_ofNat hsm (by decide)).mp (show Int32.ofNat xs.length ≤ Int32.ofNat 2561 from hd)
  exact ⟨b, xs, Cond.one_arg hc (show args[0]? = some (.ref b) from hb), hx, hN, h⟩
theorem lw_comes (l : Launch) : Comes l x (Jvm.Cond.code x code maxLocals ret :: tables_1) room_1 (fun tb e args s => Calls_1 tb e args s ∧ rest_1 tb e args s ∧ Pre_1 tb e args s)
    (fun _ _ args s o t => lw_Q args s o t) := by
  intro p e ha hc hk s m args below hf hfit hheap happ hpre
  obtain ⟨b, xs, hP⟩ := lw_pre_spec hpre.2.2 hpre.2.1
  obtain ⟨k, o, h1, h2, h3, hQ⟩ := lw_walk l b xs p e ha hc hk s m args below hf ((Spec.applies_iff_loose hf).mp happ).1 hP trivial
  exact ⟨k, o, h1, h2, h3, hQ⟩
theorem lw_frame {s t : State} {o : Outcome} {args : Array Value} (h : Framed s o t [] 600000 7302250) :
    Framed s o t (fieldLocs frame_1_writes args s ++ arrayLocs frame_1_arrays args s ++ staticLocs frame_1_statics s) 600000 7302250 := h
theorem lw_limb (L : Cond) (hL : ∀ (args : Array Value) (s t : State), L.after args s (.returned (some (.int 1))) t = true) :
    ArmFor flags0 classFile x code maxLocals ret World_1 tables_1 room_1 Calls_1 rest_1 Pre_1
      (fun tb e a s o t => postC L tb e a s o t ∧ Framed s o t (fieldLocs frame_1_writes a s ++ arrayLocs frame_1_arrays a s ++ staticLocs frame_1_statics s) 600000 7302250) := by
  intro l _ _ _ p e ha hc hk s m args below hf hfit hheap happ hpre
  obtain ⟨k, o, h1, h2, h3, rfl, hF⟩ := lw_comes l p e ha hc hk s m args below hf hfit hheap happ hpre
  exact ⟨k, _, h1, h2, h3, hL args s _, lw_frame hF⟩
theorem i_vc : Claimed_1_1 ∧ Claimed_1_2 := ⟨lw_limb limb_1_1 (fun args s t => by simp [limb_1_1, Cond.after, Cond.holds, Cond.value]), lw_limb limb_1_2 (fun args s t => Cond.after_iff.mpr (by
  first | (rw [show limb_1_2 = Cond.eq .result (.int 1) from rfl, Cond.eq_ints (x := 1) (y := 1) rfl rfl]; simp; done) | (simp [limb_1_2, Cond.value, Term.eval]; done)))⟩
end
